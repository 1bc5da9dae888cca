section
/-! pure: signs and products -/
theorem bs_lg (a b : Int) : a < b ∨ b ≤ a := by omega
theorem bs_pos {x d : Int} (hd : 0 < d) (h : 0 ≤ x * d) : 0 ≤ x := by
  rcases bs_lg x 0 with hx | hx
  · have := Int.mul_neg_of_neg_of_pos hx hd
    omega
  · exact hx
theorem bs_zer {x d : Int} (hd : 0 < d) (h : d * x = 0) : x = 0 := by
  rcases Int.mul_eq_zero.mp h with z | z
  · omega
  · exact z
theorem bs_ng {x y : Int} : x * y < 0 ↔ (x < 0 ∧ 0 < y) ∨ (0 < x ∧ y < 0) := by
  constructor
  · intro h
    rcases Int.lt_trichotomy x 0 with hx | hx | hx
    · rcases bs_lg 0 y with hy | hy
      · exact Or.inl ⟨hx, hy⟩
      · have := Int.mul_nonneg (show 0 ≤ -x by omega) (show 0 ≤ -y by omega)
        rw [Int.neg_mul_neg] at this
        omega
    · rw [hx, Int.zero_mul] at h
      omega
    · rcases bs_lg y 0 with hy | hy
      · exact Or.inr ⟨hx, hy⟩
      · have := Int.mul_nonneg (show 0 ≤ x by omega) hy
        omega
  · rintro (⟨a, b⟩ | ⟨a, b⟩)
    · exact Int.mul_neg_of_neg_of_pos a b
    · exact Int.mul_neg_of_pos_of_neg a b
/-- a linear form that is not negative at both ends is not negative between them -/
theorem bs_bw {f d lN lD hN hD nl nd : Int} (hl : 0 < lD) (hh : 0 < hD) (hd : 0 < nd) (h1 : lN * nd ≤ nl * lD) (h2 : nl * hD ≤ hN * nd)
    (a : 0 ≤ f * lD + lN * d) (b : 0 ≤ f * hD + hN * d) : 0 ≤ f * nd + nl * d := by
  rcases Int.le_total 0 d with z | z
  · refine bs_pos hl ?_
    have e1 := Int.mul_nonneg (Int.le_of_lt hd) a
    have e2 := Int.mul_nonneg z (show 0 ≤ nl * lD - lN * nd by omega)
    have e : (f * nd + nl * d) * lD = nd * (f * lD + lN * d) + d * (nl * lD - lN * nd) := by grind
    omega
  · refine bs_pos hh ?_
    have e1 := Int.mul_nonneg (Int.le_of_lt hd) b
    have e2 := Int.mul_nonneg (show 0 ≤ -d by omega) (show 0 ≤ hN * nd - nl * hD by omega)
    have e : (f * nd + nl * d) * hD = nd * (f * hD + hN * d) + (-d) * (hN * nd - nl * hD) := by grind
    omega
/-- who is on the viewpoint's side is met first -/
theorem bs_first {s k nf af nq aq : Int} (hs : 0 ≤ s) (hk : k ≠ 0) (hf : 0 < nf) (haf : 0 < af) (hq : 0 < nq) (haq : 0 < aq)
    (a : 0 ≤ nf * s + af * k) (b : nq * s + aq * k ≤ 0) : af * nq ≤ aq * nf := by
  have hq0 := Int.mul_nonneg (Int.le_of_lt hq) hs
  have hk' : k < 0 := by
    rcases bs_lg k 0 with z | z
    · exact z
    · have := Int.mul_pos haq (show 0 < k by omega)
      omega
  have e1 := Int.mul_nonneg (Int.le_of_lt hf) (show 0 ≤ -(nq * s + aq * k) by omega)
  have e2 := Int.mul_nonneg (Int.le_of_lt hq) a
  have e : (aq * nf - af * nq) * (-k) = nf * (-(nq * s + aq * k)) + nq * (nf * s + af * k) := by grind
  have := bs_pos (show 0 < -k by omega) (show 0 ≤ (aq * nf - af * nq) * (-k) by omega)
  omega
/-- the point at which a linear form vanishes lies between two points of different signs -/
theorem bs_mid {f d lN lD hN hD num den : Int} (hl : 0 < lD) (hh : 0 < hD) (hd : 0 < den) (h0 : f * den + num * d = 0)
    (hc : (f * lD + lN * d) * (f * hD + hN * d) < 0) :
    ∃ α β K : Int, 0 < α ∧ 0 < β ∧ 0 < K ∧ ∀ F D : Int, K * (F * den + num * D) = den * (α * (F * lD + lN * D) + β * (F * hD + hN * D)) := by
  rcases bs_ng.mp hc with ⟨x, y⟩ | ⟨x, y⟩
  · refine ⟨f * hD + hN * d, -(f * lD + lN * d), (f * hD + hN * d) * lD + -(f * lD + lN * d) * hD, y, by omega, ?_, fun F D => ?_⟩
    · have := Int.mul_pos y hl
      have := Int.mul_pos (show 0 < -(f * lD + lN * d) by omega) hh
      omega
    · grind
  · refine ⟨-(f * hD + hN * d), f * lD + lN * d, -(f * hD + hN * d) * lD + (f * lD + lN * d) * hD, by omega, x, ?_, fun F D => ?_⟩
    · have := Int.mul_pos (show 0 < -(f * hD + hN * d) by omega) hl
      have := Int.mul_pos x hh
      omega
    · grind
theorem bs_midP {f d lN lD hN hD num den F D : Int} (hl : 0 < lD) (hh : 0 < hD) (hd : 0 < den) (h0 : f * den + num * d = 0)
    (hc : (f * lD + lN * d) * (f * hD + hN * d) < 0) (a : 0 ≤ F * lD + lN * D) (b : 0 ≤ F * hD + hN * D) : 0 ≤ F * den + num * D := by
  obtain ⟨α, β, K, ha, hb, hK, H⟩ := bs_mid hl hh hd h0 hc
  have e1 := Int.mul_nonneg (Int.le_of_lt ha) a
  have e2 := Int.mul_nonneg (Int.le_of_lt hb) b
  have e3 := Int.mul_nonneg (Int.le_of_lt hd) (show 0 ≤ α * (F * lD + lN * D) + β * (F * hD + hN * D) by omega)
  refine bs_pos hK ?_
  rw [Int.mul_comm, H]
  exact e3
theorem bs_midN {f d lN lD hN hD num den F D : Int} (hl : 0 < lD) (hh : 0 < hD) (hd : 0 < den) (h0 : f * den + num * d = 0)
    (hc : (f * lD + lN * d) * (f * hD + hN * d) < 0) (a : F * lD + lN * D ≤ 0) (b : F * hD + hN * D ≤ 0) : F * den + num * D ≤ 0 := by
  have h := bs_midP (F := -F) (D := -D) hl hh hd h0 hc (by grind) (by grind)
  grind

/-! pure: walls and rays. g w 0..3: the wall's two ends; r 0, r 1: the viewpoint; r 2, r 3: the ray -/
def bs_sd (g : Nat → Nat → Int) (w : Nat) (x y : Int) : Int := (g w 2 - g w 0) * (y - g w 1) - (g w 3 - g w 1) * (x - g w 0)
def bs_f1 (g : Nat → Nat → Int) (w p : Nat) : Int := bs_sd g w (g p 0) (g p 1)
def bs_f2 (g : Nat → Nat → Int) (w p : Nat) : Int := bs_sd g w (g p 2) (g p 3)
def bs_F (g : Nat → Nat → Int) (w p : Nat) (N D : Int) : Int := bs_f1 g w p * D + N * (bs_f2 g w p - bs_f1 g w p)
def bs_rd (g : Nat → Nat → Int) (r : Nat → Int) (p : Nat) : Int := (g p 2 - g p 0) * r 3 - (g p 3 - g p 1) * r 2
def bs_ra (g : Nat → Nat → Int) (r : Nat → Int) (p : Nat) : Int := (g p 2 - g p 0) * (g p 1 - r 1) - (g p 3 - g p 1) * (g p 0 - r 0)
def bs_rl (g : Nat → Nat → Int) (r : Nat → Int) (p : Nat) : Int := (r 0 - g p 0) * r 3 - (r 1 - g p 1) * r 2
def bs_e (g : Nat → Nat → Int) (r : Nat → Int) (p : Nat) : Int := if bs_rd g r p < 0 then -1 else 1
def bs_nd (g : Nat → Nat → Int) (r : Nat → Int) (p : Nat) : Int := bs_e g r p * bs_rd g r p
def bs_na (g : Nat → Nat → Int) (r : Nat → Int) (p : Nat) : Int := bs_e g r p * bs_ra g r p
def bs_nl (g : Nat → Nat → Int) (r : Nat → Int) (p : Nat) : Int := bs_e g r p * bs_rl g r p
def bs_hit (g : Nat → Nat → Int) (r : Nat → Int) (p : Nat) : Prop := 0 < bs_nd g r p ∧ 0 < bs_na g r p ∧ 0 ≤ bs_nl g r p ∧ bs_nl g r p ≤ bs_nd g r p
def bs_le (g : Nat → Nat → Int) (r : Nat → Int) (p q : Nat) : Prop := bs_na g r p * bs_nd g r q ≤ bs_na g r q * bs_nd g r p
def bs_bt (a b c : Int) : Prop := (a ≤ c ∧ c ≤ b) ∨ (b ≤ c ∧ c ≤ a)
def bs_tc (g : Nat → Nat → Int) (w : Nat) (x y : Int) : Prop := bs_sd g w x y = 0 ∧ bs_bt (g w 0) (g w 2) x ∧ bs_bt (g w 1) (g w 3) y
/-- the two walls don't meet, as the program asks it -/
def bs_nm (g : Nat → Nat → Int) (a b : Nat) : Prop := ¬ bs_tc g a (g b 0) (g b 1) ∧ ¬ bs_tc g a (g b 2) (g b 3) ∧ ¬ bs_tc g b (g a 0) (g a 1) ∧ ¬ bs_tc g b (g a 2) (g a 3) ∧ ¬ (bs_f1 g a b * bs_f2 g a b < 0 ∧ bs_f1 g b a * bs_f2 g b a < 0)
theorem bs_id4 (ew fw ep fp A B a b x y : Int) : (ew * B - fw * A) * (ep * y - fp * x) + (b * x - a * y) * ((ew * (B + fp) - fw * (A + ep)) - (ew * B - fw * A)) = (ep * y - fp * x) * (ew * (B - b) - fw * (A - a)) + (ep * b - fp * a) * (ew * y - fw * x) := by grind
theorem bs_Fr (g : Nat → Nat → Int) (r : Nat → Int) (w p : Nat) : bs_F g w p (bs_rl g r p) (bs_rd g r p) = bs_rd g r p * bs_sd g w (r 0) (r 1) + bs_ra g r p * bs_rd g r w := by
  have h := bs_id4 (g w 2 - g w 0) (g w 3 - g w 1) (g p 2 - g p 0) (g p 3 - g p 1) (g p 0 - g w 0) (g p 1 - g w 1) (g p 0 - r 0) (g p 1 - r 1) (r 2) (r 3)
  unfold bs_F bs_f1 bs_f2 bs_rl bs_rd bs_ra bs_sd
  rw [show g p 1 - g w 1 + (g p 3 - g p 1) = g p 3 - g w 1 by omega, show g p 0 - g w 0 + (g p 2 - g p 0) = g p 2 - g w 0 by omega, show g p 1 - g w 1 - (g p 1 - r 1) = r 1 - g w 1 by omega, show g p 0 - g w 0 - (g p 0 - r 0) = r 0 - g w 0 by omega] at h
  rw [← h]
  grind
theorem bs_Fe (g : Nat → Nat → Int) (w p : Nat) (e N D : Int) : bs_F g w p (e * N) (e * D) = e * bs_F g w p N D := by
  unfold bs_F
  grind
/-- the ray's point on wall p, seen from the line of w -/
theorem bs_I1 (g : Nat → Nat → Int) (r : Nat → Int) (w p : Nat) : bs_F g w p (bs_nl g r p) (bs_nd g r p) = bs_nd g r p * bs_sd g w (r 0) (r 1) + bs_na g r p * bs_rd g r w := by
  unfold bs_nl bs_nd bs_na
  rw [bs_Fe, bs_Fr]
  grind
theorem bs_X0 (g : Nat → Nat → Int) (r : Nat → Int) (p : Nat) : bs_nd g r p * (g p 0 - r 0) + bs_nl g r p * (g p 2 - g p 0) = bs_na g r p * r 2 := by
  unfold bs_nl bs_nd bs_na bs_rl bs_rd bs_ra
  grind
theorem bs_X1 (g : Nat → Nat → Int) (r : Nat → Int) (p : Nat) : bs_nd g r p * (g p 1 - r 1) + bs_nl g r p * (g p 3 - g p 1) = bs_na g r p * r 3 := by
  unfold bs_nl bs_nd bs_na bs_rl bs_rd bs_ra
  grind
theorem bs_eE (g : Nat → Nat → Int) (r : Nat → Int) (p : Nat) : bs_e g r p = 1 ∨ bs_e g r p = -1 := by
  unfold bs_e
  split
  · exact Or.inr rfl
  · exact Or.inl rfl
theorem bs_nd0 (g : Nat → Nat → Int) (r : Nat → Int) (p : Nat) : 0 ≤ bs_nd g r p := by
  unfold bs_nd bs_e
  split <;> omega
theorem bs_ndz (g : Nat → Nat → Int) (r : Nat → Int) (p : Nat) : bs_nd g r p = 0 ↔ bs_rd g r p = 0 := by
  unfold bs_nd bs_e
  split <;> omega
theorem bs_f1s (g : Nat → Nat → Int) (p : Nat) : bs_f1 g p p = 0 := by
  unfold bs_f1 bs_sd
  grind
theorem bs_f2s (g : Nat → Nat → Int) (p : Nat) : bs_f2 g p p = 0 := by
  unfold bs_f2 bs_sd
  grind
theorem bs_Fs (g : Nat → Nat → Int) (p : Nat) (N D : Int) : bs_F g p p N D = 0 := by
  unfold bs_F
  rw [bs_f1s, bs_f2s]
  omega
theorem bs_ord {g : Nat → Nat → Int} {r : Nat → Int} {w p q : Nat} {σ : Int} (hσ : σ = 1 ∧ 0 ≤ bs_sd g w (r 0) (r 1) ∨ σ = -1 ∧ bs_sd g w (r 0) (r 1) < 0) (hw : bs_rd g r w ≠ 0)
    (hp : 0 < bs_nd g r p) (hp' : 0 < bs_na g r p) (hq : 0 < bs_nd g r q) (hq' : 0 < bs_na g r q)
    (a : 0 ≤ σ * bs_F g w p (bs_nl g r p) (bs_nd g r p)) (b : σ * bs_F g w q (bs_nl g r q) (bs_nd g r q) ≤ 0) : bs_le g r p q := by
  rw [bs_I1] at a b
  unfold bs_le
  rcases hσ with ⟨e, h⟩ | ⟨e, h⟩
  · rw [e] at a b
    exact bs_first h hw hp hp' hq hq' (by omega) (by omega)
  · rw [e] at a b
    exact bs_first (s := -bs_sd g w (r 0) (r 1)) (k := -bs_rd g r w) (by omega) (by omega) hp hp' hq hq' (by grind) (by grind)
end
section
/-! pure: two hit walls that don't meet are met at different places -/
theorem bs_btw {d n a b c : Int} (hd : 0 < d) (h0 : 0 ≤ n) (h1 : n ≤ d) (h : d * (c - a) = n * (b - a)) : bs_bt a b c := by
  unfold bs_bt
  rcases Int.le_total a b with z | z
  · left
    have e1 := Int.mul_nonneg h0 (show 0 ≤ b - a by omega)
    have e2 := Int.mul_nonneg (show 0 ≤ d - n by omega) (show 0 ≤ b - a by omega)
    have e3 : (b - c) * d = (d - n) * (b - a) := by grind
    have r1 := bs_pos hd (show 0 ≤ (c - a) * d by rw [Int.mul_comm]; omega)
    have r2 := bs_pos hd (show 0 ≤ (b - c) * d by omega)
    omega
  · right
    have e1 := Int.mul_nonneg h0 (show 0 ≤ a - b by omega)
    have e2 := Int.mul_nonneg (show 0 ≤ d - n by omega) (show 0 ≤ a - b by omega)
    have e3 : (c - b) * d = (d - n) * (a - b) := by grind
    have e4 : (a - c) * d = n * (a - b) := by grind
    have r1 := bs_pos hd (show 0 ≤ (a - c) * d by omega)
    have r2 := bs_pos hd (show 0 ≤ (c - b) * d by omega)
    omega
/-- a point on a slanted line, between in one coordinate, is between in the other -/
theorem bs_lny {ex ey qx qy x y : Int} (hx : ex ≠ 0) (h : ex * (y - qy) = ey * (x - qx)) (hb : bs_bt qx (qx + ex) x) : bs_bt qy (qy + ey) y := by
  rcases bs_lg 0 ex with z | z
  · refine bs_btw (d := ex) (n := x - qx) z ?_ ?_ (by grind)
    · unfold bs_bt at hb; omega
    · unfold bs_bt at hb; omega
  · refine bs_btw (d := -ex) (n := -(x - qx)) (by omega) ?_ ?_ (by grind)
    · unfold bs_bt at hb; omega
    · unfold bs_bt at hb; omega
theorem bs_col {p0 p1 p2 p3 q0 q1 q2 q3 : Int} (h1 : (q2 - q0) * (p1 - q1) = (q3 - q1) * (p0 - q0)) (h2 : (q2 - q0) * (p3 - q1) = (q3 - q1) * (p2 - q0))
    (hq : q2 - q0 ≠ 0) (hp : ¬ (p2 - p0 = 0 ∧ p3 - p1 = 0)) (o : bs_bt q0 q2 p0 ∨ bs_bt q0 q2 p2 ∨ bs_bt p0 p2 q0 ∨ bs_bt p0 p2 q2) :
    (bs_bt q0 q2 p0 ∧ bs_bt q1 q3 p1) ∨ (bs_bt q0 q2 p2 ∧ bs_bt q1 q3 p3) ∨ ((p2 - p0) * (q1 - p1) = (p3 - p1) * (q0 - p0) ∧ bs_bt p0 p2 q0 ∧ bs_bt p1 p3 q1) ∨ ((p2 - p0) * (q3 - p1) = (p3 - p1) * (q2 - p0) ∧ bs_bt p0 p2 q2 ∧ bs_bt p1 p3 q3) := by
  have par : (q2 - q0) * (p3 - p1) = (q3 - q1) * (p2 - p0) := by grind
  have hpx : p2 - p0 ≠ 0 := by
    intro z
    rw [z, Int.mul_zero] at par
    rcases Int.mul_eq_zero.mp par with y | y
    · exact hq y
    · exact hp ⟨z, y⟩
  have k1 : (p2 - p0) * (q1 - p1) = (p3 - p1) * (q0 - p0) := by
    have e : (q2 - q0) * ((p2 - p0) * (q1 - p1) - (p3 - p1) * (q0 - p0)) = 0 := by grind
    rcases Int.mul_eq_zero.mp e with y | y
    · exact absurd y hq
    · omega
  have k2 : (p2 - p0) * (q3 - p1) = (p3 - p1) * (q2 - p0) := by grind
  have s1 : q0 + (q2 - q0) = q2 := by omega
  have s2 : q1 + (q3 - q1) = q3 := by omega
  have s3 : p0 + (p2 - p0) = p2 := by omega
  have s4 : p1 + (p3 - p1) = p3 := by omega
  rcases o with o | o | o | o
  · refine Or.inl ⟨o, ?_⟩
    have := bs_lny (qy := q1) hq h1 (by rw [s1]; exact o)
    rw [s2] at this
    exact this
  · refine Or.inr (Or.inl ⟨o, ?_⟩)
    have := bs_lny (qy := q1) hq h2 (by rw [s1]; exact o)
    rw [s2] at this
    exact this
  · refine Or.inr (Or.inr (Or.inl ⟨k1, o, ?_⟩))
    have := bs_lny (qy := p1) hpx k1 (by rw [s3]; exact o)
    rw [s4] at this
    exact this
  · refine Or.inr (Or.inr (Or.inr ⟨k2, o, ?_⟩))
    have := bs_lny (qy := p1) hpx k2 (by rw [s3]; exact o)
    rw [s4] at this
    exact this
theorem bs_inL {d n a b m : Int} (h0 : 0 ≤ n) (h1 : n ≤ d) (ha : m ≤ a) (hb : m ≤ b) : d * m ≤ d * a + n * (b - a) := by
  have e1 := Int.mul_nonneg (show 0 ≤ d - n by omega) (show 0 ≤ a - m by omega)
  have e2 := Int.mul_nonneg h0 (show 0 ≤ b - m by omega)
  have e : d * a + n * (b - a) = d * m + (d - n) * (a - m) + n * (b - m) := by grind
  omega
theorem bs_inH {d n a b m : Int} (h0 : 0 ≤ n) (h1 : n ≤ d) (ha : a ≤ m) (hb : b ≤ m) : d * a + n * (b - a) ≤ d * m := by
  have e1 := Int.mul_nonneg (show 0 ≤ d - n by omega) (show 0 ≤ m - a by omega)
  have e2 := Int.mul_nonneg h0 (show 0 ≤ m - b by omega)
  have e : d * m = d * a + n * (b - a) + (d - n) * (m - a) + n * (m - b) := by grind
  omega
theorem bs_ap {d n D N a b x y m : Int} (hd : 0 < d) (hD : 0 < D) (h0 : 0 ≤ n) (h1 : n ≤ d) (k0 : 0 ≤ N) (k1 : N ≤ D) (e : D * (d * a + n * (b - a)) = d * (D * x + N * (y - x))) (ha : a ≤ m) (hb : b ≤ m) : ¬ (m < x ∧ m < y) := by
  rintro ⟨hx, hy⟩
  have u1 := Int.mul_le_mul_of_nonneg_left (bs_inH h0 h1 ha hb) (Int.le_of_lt hD)
  have u2 := Int.mul_le_mul_of_nonneg_left (bs_inL (d := D) (n := N) (a := x) (b := y) (m := m + 1) k0 k1 (by omega) (by omega)) (Int.le_of_lt hd)
  have u3 : d * (D * (m + 1)) = D * (d * m) + d * D := by grind
  have u4 := Int.mul_pos hd hD
  omega
/-- two intervals that share a place: an end of one lies in the other -/
theorem bs_ov {d n D N a b x y : Int} (hd : 0 < d) (hD : 0 < D) (h0 : 0 ≤ n) (h1 : n ≤ d) (k0 : 0 ≤ N) (k1 : N ≤ D) (e : D * (d * a + n * (b - a)) = d * (D * x + N * (y - x))) : bs_bt x y a ∨ bs_bt x y b ∨ bs_bt a b x ∨ bs_bt a b y := by
  have q1 : ¬ (max a b < x ∧ max a b < y) := bs_ap hd hD h0 h1 k0 k1 e (by omega) (by omega)
  have q2 : ¬ (max x y < a ∧ max x y < b) := bs_ap hD hd k0 k1 h0 h1 e.symm (by omega) (by omega)
  unfold bs_bt
  omega
theorem bs_eqX {d n a b v α k D N x y β : Int} (x0 : d * (a - v) + n * (b - a) = α * k) (y0 : D * (x - v) + N * (y - x) = β * k) (e : α * D = β * d) : D * (d * a + n * (b - a)) = d * (D * x + N * (y - x)) := by
  have h1 : d * a + n * (b - a) = α * k + d * v := by grind
  have h2 : D * x + N * (y - x) = β * k + D * v := by grind
  rw [h1, h2]
  grind
theorem bs_same {g : Nat → Nat → Int} {r : Nat → Int} {p q : Nat} (hp : bs_hit g r p) (hq : bs_hit g r q) (e : bs_na g r p * bs_nd g r q = bs_na g r q * bs_nd g r p) : bs_F g q p (bs_nl g r p) (bs_nd g r p) = 0 := by
  have i1 := bs_I1 g r q p
  have i2 := bs_I1 g r q q
  rw [bs_Fs] at i2
  refine bs_zer hq.1 ?_
  rw [i1]
  grind
theorem bs_on {g : Nat → Nat → Int} {r : Nat → Int} {p q : Nat} (hp : bs_hit g r p) (hq : bs_hit g r q) (e : bs_na g r p * bs_nd g r q = bs_na g r q * bs_nd g r p) {x y : Int}
    (hx : bs_nd g r p * (x - r 0) = bs_na g r p * r 2) (hy : bs_nd g r p * (y - r 1) = bs_na g r p * r 3) : bs_bt (g q 0) (g q 2) x ∧ bs_bt (g q 1) (g q 3) y := by
  have x0 := bs_X0 g r q
  have x1 := bs_X1 g r q
  have a0 : bs_nd g r p * (bs_nd g r q * (x - r 0) - bs_na g r q * r 2) = 0 := by grind
  have a1 : bs_nd g r p * (bs_nd g r q * (y - r 1) - bs_na g r q * r 3) = 0 := by grind
  have b0 := bs_zer hp.1 a0
  have b1 := bs_zer hp.1 a1
  exact ⟨bs_btw hq.1 hq.2.2.1 hq.2.2.2 (by grind), bs_btw hq.1 hq.2.2.1 hq.2.2.2 (by grind)⟩
theorem bs_tieA {g : Nat → Nat → Int} {r : Nat → Int} {p q : Nat} (hp : bs_hit g r p) (hq : bs_hit g r q) (e : bs_na g r p * bs_nd g r q = bs_na g r q * bs_nd g r p)
    (z : ¬ bs_f1 g q p * bs_f2 g q p < 0) : bs_tc g q (g p 0) (g p 1) ∨ bs_tc g q (g p 2) (g p 3) ∨ (bs_f1 g q p = 0 ∧ bs_f2 g q p = 0) := by
  have h := bs_same hp hq e
  unfold bs_F at h
  have x0 := bs_X0 g r p
  have x1 := bs_X1 g r p
  have nd0 := hp.1
  rcases Int.lt_trichotomy 0 (bs_nl g r p) with c | c | c
  · rcases Int.lt_trichotomy (bs_nl g r p) (bs_nd g r p) with c2 | c2 | c2
    · have h' : bs_f1 g q p * (bs_nd g r p - bs_nl g r p) + bs_f2 g q p * bs_nl g r p = 0 := by grind
      refine Or.inr (Or.inr ?_)
      rcases Int.lt_trichotomy (bs_f1 g q p) 0 with s | s | s
      · rcases bs_lg 0 (bs_f2 g q p) with s2 | s2
        · exact absurd (bs_ng.mpr (Or.inl ⟨s, s2⟩)) z
        · have m1 := Int.mul_neg_of_neg_of_pos s (show 0 < bs_nd g r p - bs_nl g r p by omega)
          have m2 := Int.mul_nonneg (show 0 ≤ -bs_f2 g q p by omega) (Int.le_of_lt c)
          rw [Int.neg_mul] at m2
          omega
      · refine ⟨s, ?_⟩
        rw [s, Int.zero_mul, Int.zero_add, Int.mul_comm] at h'
        exact bs_zer c h'
      · rcases bs_lg (bs_f2 g q p) 0 with s2 | s2
        · exact absurd (bs_ng.mpr (Or.inr ⟨s, s2⟩)) z
        · have m1 := Int.mul_pos s (show 0 < bs_nd g r p - bs_nl g r p by omega)
          have m2 := Int.mul_nonneg s2 (Int.le_of_lt c)
          omega
    · refine Or.inr (Or.inl ⟨?_, bs_on hp hq e (by grind) (by grind)⟩)
      have : bs_nd g r p * bs_f2 g q p = 0 := by grind
      exact bs_zer nd0 this
    · have := hp.2.2.2
      omega
  · refine Or.inl ⟨?_, bs_on hp hq e (by grind) (by grind)⟩
    have : bs_nd g r p * bs_f1 g q p = 0 := by grind
    exact bs_zer nd0 this
  · have := hp.2.2.1
    omega
theorem bs_nz {g : Nat → Nat → Int} {r : Nat → Int} {p : Nat} (h : bs_hit g r p) : ¬ (g p 2 - g p 0 = 0 ∧ g p 3 - g p 1 = 0) := by
  rintro ⟨a, b⟩
  have h1 := h.1
  have : bs_rd g r p = 0 := by
    unfold bs_rd
    rw [a, b]
    omega
  rw [(bs_ndz g r p).mpr this] at h1
  omega
theorem bs_tieB {g : Nat → Nat → Int} {r : Nat → Int} {p q : Nat} (hp : bs_hit g r p) (hq : bs_hit g r q) (e : bs_na g r p * bs_nd g r q = bs_na g r q * bs_nd g r p)
    (z1 : bs_f1 g q p = 0) (z2 : bs_f2 g q p = 0) : bs_tc g q (g p 0) (g p 1) ∨ bs_tc g q (g p 2) (g p 3) ∨ bs_tc g p (g q 0) (g q 1) ∨ bs_tc g p (g q 2) (g q 3) := by
  have np := bs_nz hp
  have nq := bs_nz hq
  have w1 := z1
  have w2 := z2
  unfold bs_f1 bs_sd at w1
  unfold bs_f2 bs_sd at w2
  have x0 := bs_X0 g r p
  have x1 := bs_X1 g r p
  have y0 := bs_X0 g r q
  have y1 := bs_X1 g r q
  have o0 := bs_ov (d := bs_nd g r p) (n := bs_nl g r p) (D := bs_nd g r q) (N := bs_nl g r q) (a := g p 0) (b := g p 2) (x := g q 0) (y := g q 2) hp.1 hq.1 hp.2.2.1 hp.2.2.2 hq.2.2.1 hq.2.2.2 (bs_eqX x0 y0 e)
  have o1 := bs_ov (d := bs_nd g r p) (n := bs_nl g r p) (D := bs_nd g r q) (N := bs_nl g r q) (a := g p 1) (b := g p 3) (x := g q 1) (y := g q 3) hp.1 hq.1 hp.2.2.1 hp.2.2.2 hq.2.2.1 hq.2.2.2 (bs_eqX x1 y1 e)
  by_cases hx : g q 2 - g q 0 = 0
  · have hy : g q 3 - g q 1 ≠ 0 := fun h => nq ⟨hx, h⟩
    rcases bs_col (p0 := g p 1) (p1 := g p 0) (p2 := g p 3) (p3 := g p 2) (q0 := g q 1) (q1 := g q 0) (q2 := g q 3) (q3 := g q 2) (by omega) (by omega) hy (fun h => np ⟨h.2, h.1⟩) o1 with ⟨a, b⟩ | ⟨a, b⟩ | ⟨c, a, b⟩ | ⟨c, a, b⟩
    · exact Or.inl ⟨z1, b, a⟩
    · exact Or.inr (Or.inl ⟨z2, b, a⟩)
    · exact Or.inr (Or.inr (Or.inl ⟨by unfold bs_sd; omega, b, a⟩))
    · exact Or.inr (Or.inr (Or.inr ⟨by unfold bs_sd; omega, b, a⟩))
  · rcases bs_col (p0 := g p 0) (p1 := g p 1) (p2 := g p 2) (p3 := g p 3) (q0 := g q 0) (q1 := g q 1) (q2 := g q 2) (q3 := g q 3) (by omega) (by omega) hx np o0 with ⟨a, b⟩ | ⟨a, b⟩ | ⟨c, a, b⟩ | ⟨c, a, b⟩
    · exact Or.inl ⟨z1, a, b⟩
    · exact Or.inr (Or.inl ⟨z2, a, b⟩)
    · exact Or.inr (Or.inr (Or.inl ⟨by unfold bs_sd; omega, a, b⟩))
    · exact Or.inr (Or.inr (Or.inr ⟨by unfold bs_sd; omega, a, b⟩))
theorem bs_tie {g : Nat → Nat → Int} {r : Nat → Int} {p q : Nat} (hp : bs_hit g r p) (hq : bs_hit g r q) (h : bs_nm g p q) : bs_na g r p * bs_nd g r q ≠ bs_na g r q * bs_nd g r p := by
  intro e
  obtain ⟨n1, n2, n3, n4, n5⟩ := h
  by_cases c : bs_f1 g q p * bs_f2 g q p < 0
  · have c2 : ¬ bs_f1 g p q * bs_f2 g p q < 0 := fun t => n5 ⟨t, c⟩
    rcases bs_tieA hq hp e.symm c2 with a | a | ⟨a, b⟩
    · exact n1 a
    · exact n2 a
    · rcases bs_tieB hq hp e.symm a b with t | t | t | t
      · exact n1 t
      · exact n2 t
      · exact n3 t
      · exact n4 t
  · rcases bs_tieA hp hq e c with a | a | ⟨a, b⟩
    · exact n3 a
    · exact n4 a
    · rcases bs_tieB hp hq e a b with t | t | t | t
      · exact n3 t
      · exact n4 t
      · exact n1 t
      · exact n2 t

/-! pure: what is seen -/
def bs_ok (g : Nat → Nat → Int) (C : Nat) : Prop := (∀ w k, w < C → k < 4 → -14 ≤ g w k ∧ g w k ≤ 14 ∧ g w k % 2 = 0) ∧ (∀ w, w < C → ¬ (g w 0 = g w 2 ∧ g w 1 = g w 3)) ∧ (∀ a b, a < b → b < C → bs_nm g a b)
def bs_ray (vx vy : Int) (look c : Nat) : Nat → Int := fun k => match k with
  | 0 => vx
  | 1 => vy
  | 2 => if look = 0 then 16 else if look = 1 then -(2 * (c : Int) - 15) else if look = 2 then -16 else 2 * (c : Int) - 15
  | _ => if look = 0 then 2 * (c : Int) - 15 else if look = 1 then 16 else if look = 2 then -(2 * (c : Int) - 15) else -16
def bs_dist (g : Nat → Nat → Int) (r : Nat → Int) (p : Nat) : Int := bs_na g r p * 1024 / bs_nd g r p
def bs_see (g : Nat → Nat → Int) (C : Nat) (r : Nat → Int) (x y : Int) : Prop := (x = -4 ∧ y = -4 ∧ ∀ p, p < C → ¬ bs_hit g r p) ∨ (∃ p : Nat, p < C ∧ x = (p : Int) ∧ y = bs_dist g r p ∧ bs_hit g r p ∧ ∀ q, q < C → bs_hit g r q → bs_le g r p q)
theorem bs_par : ∀ c : Nat, c < 16 → ∀ a b : Int, -28 ≤ a → a ≤ 28 → a % 2 = 0 → b % 2 = 0 → a * (2 * (c : Int) - 15) = 16 * b → a = 0 ∧ b = 0 := by
  intro c hc a b h1 h2 h3 h4 h
  have hc' : c = 0 ∨ c = 1 ∨ c = 2 ∨ c = 3 ∨ c = 4 ∨ c = 5 ∨ c = 6 ∨ c = 7 ∨ c = 8 ∨ c = 9 ∨ c = 10 ∨ c = 11 ∨ c = 12 ∨ c = 13 ∨ c = 14 ∨ c = 15 := by omega
  rcases hc' with rfl | rfl | rfl | rfl | rfl | rfl | rfl | rfl | rfl | rfl | rfl | rfl | rfl | rfl | rfl | rfl <;> omega
theorem bs_rdN {g : Nat → Nat → Int} {C w : Nat} {vx vy : Int} {look c : Nat} (h : bs_ok g C) (hw : w < C) (hc : c < 16) : bs_rd g (bs_ray vx vy look c) w ≠ 0 := by
  obtain ⟨h1, h2, _⟩ := h
  have b0 := h1 w 0 hw (by omega)
  have b1 := h1 w 1 hw (by omega)
  have b2 := h1 w 2 hw (by omega)
  have b3 := h1 w 3 hw (by omega)
  have nz := h2 w hw
  intro z0
  have z : (g w 2 - g w 0) * (if look = 0 then 2 * (c : Int) - 15 else if look = 1 then 16 else if look = 2 then -(2 * (c : Int) - 15) else -16) - (g w 3 - g w 1) * (if look = 0 then 16 else if look = 1 then -(2 * (c : Int) - 15) else if look = 2 then -16 else 2 * (c : Int) - 15) = 0 := z0
  have P1 := bs_par c hc (g w 2 - g w 0) (g w 3 - g w 1) (by omega) (by omega) (by omega) (by omega)
  have P2 := bs_par c hc (g w 3 - g w 1) (-(g w 2 - g w 0)) (by omega) (by omega) (by omega) (by omega)
  by_cases l0 : look = 0
  · rw [if_pos l0, if_pos l0] at z
    have := P1 (by omega)
    omega
  · rw [if_neg l0, if_neg l0] at z
    by_cases l1 : look = 1
    · rw [if_pos l1, if_pos l1, Int.mul_neg] at z
      have := P2 (by omega)
      omega
    · rw [if_neg l1, if_neg l1] at z
      by_cases l2 : look = 2
      · rw [if_pos l2, if_pos l2, Int.mul_neg] at z
        have := P1 (by omega)
        omega
      · rw [if_neg l2, if_neg l2] at z
        have := P2 (by omega)
        omega
theorem bs_nmS {g : Nat → Nat → Int} {a b : Nat} (h : bs_nm g a b) : bs_nm g b a := ⟨h.2.2.1, h.2.2.2.1, h.1, h.2.1, fun t => h.2.2.2.2 ⟨t.2, t.1⟩⟩
theorem bs_uniq {g : Nat → Nat → Int} {C p q : Nat} {r : Nat → Int} (h : bs_ok g C) (hp : p < C) (hq : q < C) (a : bs_hit g r p) (b : bs_hit g r q) (l1 : bs_le g r p q) (l2 : bs_le g r q p) : p = q := by
  rcases Nat.lt_trichotomy p q with z | z | z
  · exact absurd (Int.le_antisymm l1 l2) (bs_tie a b (h.2.2 p q z hq))
  · exact z
  · exact absurd (Int.le_antisymm l1 l2) (bs_tie a b (bs_nmS (h.2.2 q p z hp)))
theorem bs_cgn {g g' : Nat → Nat → Int} {r : Nat → Int} {p : Nat} (h : g' p = g p) : bs_nd g' r p = bs_nd g r p ∧ bs_na g' r p = bs_na g r p ∧ bs_nl g' r p = bs_nl g r p := by
  unfold bs_nd bs_na bs_nl bs_e bs_rd bs_ra bs_rl
  rw [h]
  exact ⟨rfl, rfl, rfl⟩
theorem bs_cgh {g g' : Nat → Nat → Int} {r : Nat → Int} {p : Nat} (h : g' p = g p) : bs_hit g' r p ↔ bs_hit g r p := by
  unfold bs_hit
  obtain ⟨a, b, c⟩ := bs_cgn (r := r) h
  rw [a, b, c]
theorem bs_cgl {g g' : Nat → Nat → Int} {r : Nat → Int} {p q : Nat} (h : g' p = g p) (h' : g' q = g q) : bs_le g' r p q ↔ bs_le g r p q := by
  unfold bs_le
  obtain ⟨a, b, c⟩ := bs_cgn (r := r) h
  obtain ⟨a', b', c'⟩ := bs_cgn (r := r) h'
  rw [a, b, a', b']
theorem bs_cgd {g g' : Nat → Nat → Int} {r : Nat → Int} {p : Nat} (h : g' p = g p) : bs_dist g' r p = bs_dist g r p := by
  unfold bs_dist
  obtain ⟨a, b, c⟩ := bs_cgn (r := r) h
  rw [a, b]
theorem bs_dmono {g : Nat → Nat → Int} {r : Nat → Int} {p q : Nat} (hp : bs_hit g r p) (hq : bs_hit g r q) (l : bs_le g r q p) : bs_dist g r q ≤ bs_dist g r p := by
  unfold bs_dist
  unfold bs_le at l
  refine (Int.le_ediv_iff_mul_le hp.1).mpr ?_
  have k := Int.ediv_mul_le (bs_na g r q * 1024) (show bs_nd g r q ≠ 0 by have := hq.1; omega)
  generalize bs_na g r q * 1024 / bs_nd g r q = d at *
  have h1 := Int.mul_le_mul_of_nonneg_right k (Int.le_of_lt hp.1)
  have h2 : (bs_na g r p * 1024 - d * bs_nd g r p) * bs_nd g r q = 1024 * (bs_na g r p * bs_nd g r q - bs_na g r q * bs_nd g r p) + (bs_na g r q * 1024 * bs_nd g r p - d * bs_nd g r q * bs_nd g r p) := by grind
  have := bs_pos hq.1 (show 0 ≤ (bs_na g r p * 1024 - d * bs_nd g r p) * bs_nd g r q by omega)
  omega
theorem bs_d0 {g : Nat → Nat → Int} {r : Nat → Int} {p : Nat} (hp : bs_hit g r p) : 0 ≤ bs_dist g r p := by
  unfold bs_dist
  exact Int.ediv_nonneg (by have := hp.2.1; omega) (Int.le_of_lt hp.1)
/-- the law, a ray: with one more wall, perhaps, the seen wall stays or is the new one, not farther -/
theorem bs_near {g g' : Nat → Nat → Int} {C C' : Nat} {r : Nat → Int} {x y x' y' : Int} (hC : C' = C ∨ C' = C + 1) (hg : ∀ w, w < C → g' w = g w) (ho : bs_ok g' C') (s : bs_see g C r x y) (s' : bs_see g' C' r x' y') :
    (x' = x ∧ y' = y) ∨ (x' ≠ x ∧ C' = C + 1 ∧ x' = (C : Int) ∧ 0 ≤ y' ∧ (x = -4 ∨ (x ≠ -4 ∧ y' ≤ y))) := by
  rcases s with ⟨e1, e2, h⟩ | ⟨p, pC, e1, e2, hp, hm⟩
  · rcases s' with ⟨e1', e2', h'⟩ | ⟨q, qC, e1', e2', hq, hm'⟩
    · exact Or.inl ⟨by omega, by omega⟩
    · by_cases z : q < C
      · exact absurd ((bs_cgh (hg q z)).mp hq) (h q z)
      · refine Or.inr ⟨by omega, by omega, by omega, ?_, Or.inl e1⟩
        rw [e2']
        exact bs_d0 hq
  · have hp' : bs_hit g' r p := (bs_cgh (hg p pC)).mpr hp
    rcases s' with ⟨e1', e2', h'⟩ | ⟨q, qC, e1', e2', hq, hm'⟩
    · exact absurd hp' (h' p (by omega))
    · have l := hm' p (by omega) hp'
      by_cases z : q < C
      · have l2 := hm q z ((bs_cgh (hg q z)).mp hq)
        have l3 : bs_le g' r p q := (bs_cgl (hg p pC) (hg q z)).mpr l2
        have e := bs_uniq ho (by omega) qC hp' hq l3 l
        refine Or.inl ⟨by omega, ?_⟩
        rw [e2', e2, ← e, bs_cgd (hg p pC)]
      · refine Or.inr ⟨by omega, by omega, by omega, ?_, Or.inr ⟨by omega, ?_⟩⟩
        · rw [e2']
          exact bs_d0 hq
        · rw [e2', e2, ← bs_cgd (hg p pC)]
          exact bs_dmono hp' hq l
theorem bs_fun {g : Nat → Nat → Int} {C : Nat} {r : Nat → Int} {x y x' y' : Int} (ho : bs_ok g C) (s : bs_see g C r x y) (s' : bs_see g C r x' y') : x' = x ∧ y' = y := by
  rcases bs_near (Or.inl rfl) (fun _ _ => rfl) ho s s' with h | h
  · exact h
  · have := h.2.1
    omega
end
section
/-! pure: sums -/
def bs_S (h : Nat → Nat) : Nat → Nat
  | 0 => 0
  | n + 1 => bs_S h n + h n
theorem bs_Sc {h h' : Nat → Nat} : ∀ {n : Nat}, (∀ i, i < n → h' i = h i) → bs_S h' n = bs_S h n
  | 0, _ => rfl
  | n + 1, e => by
    show bs_S h' n + h' n = bs_S h n + h n
    rw [bs_Sc (fun i hi => e i (by omega)), e n (by omega)]
theorem bs_Sadd {a b c : Nat → Nat} : ∀ {n : Nat}, (∀ i, i < n → a i + b i ≤ c i) → bs_S a n + bs_S b n ≤ bs_S c n
  | 0, _ => Nat.le_refl 0
  | n + 1, e => by
    show bs_S a n + a n + (bs_S b n + b n) ≤ bs_S c n + c n
    have := bs_Sadd (n := n) (fun i hi => e i (by omega))
    have := e n (by omega)
    omega
theorem bs_Slt {a b c : Nat → Nat} : ∀ {n j : Nat}, (∀ i, i < n → a i + b i ≤ c i) → j < n → a j + b j + 1 ≤ c j → bs_S a n + bs_S b n + 1 ≤ bs_S c n
  | 0, j, _, h, _ => absurd h (by omega)
  | n + 1, j, e, h, k => by
    show bs_S a n + a n + (bs_S b n + b n) + 1 ≤ bs_S c n + c n
    have q := e n (by omega)
    by_cases z : j = n
    · rw [z] at k
      have := bs_Sadd (n := n) (fun i hi => e i (by omega))
      omega
    · have := bs_Slt (n := n) (fun i hi => e i (by omega)) (show j < n by omega) k
      omega
theorem bs_Sup {h h' : Nat → Nat} {f : Nat} : ∀ {n : Nat}, f < n → (∀ i, i < n → i ≠ f → h' i = h i) → bs_S h' n + h f = bs_S h n + h' f
  | 0, a, _ => absurd a (by omega)
  | n + 1, a, e => by
    show bs_S h' n + h' n + h f = bs_S h n + h n + h' f
    by_cases z : f = n
    · have := bs_Sc (n := n) (h := h) (h' := h') (fun i hi => e i (by omega) (by omega))
      rw [z]
      omega
    · have := bs_Sup (n := n) (h := h) (h' := h') (show f < n by omega) (fun i hi => e i (by omega))
      have := e n (by omega) (fun q => z q.symm)
      omega
theorem bs_Sb {h : Nat → Nat} {b : Nat} : ∀ {n : Nat}, (∀ i, i < n → h i ≤ b) → bs_S h n ≤ n * b
  | 0, _ => by
    show 0 ≤ 0 * b
    omega
  | n + 1, e => by
    show bs_S h n + h n ≤ (n + 1) * b
    have := bs_Sb (n := n) (fun i hi => e i (by omega))
    have := e n (by omega)
    rw [Nat.succ_mul]
    omega
theorem bs_Sz {h : Nat → Nat} : ∀ {n : Nat}, bs_S h n = 0 → ∀ i, i < n → h i = 0
  | 0, _, i, hi => absurd hi (by omega)
  | n + 1, e, i, hi => by
    have e' : bs_S h n + h n = 0 := e
    by_cases z : i = n
    · rw [z]
      omega
    · exact bs_Sz (n := n) (by omega) i (by omega)
theorem bs_pig : ∀ (m n : Nat) (o : Nat → Int), (∀ k, k < m → ∃ f, f < n ∧ o f = (k : Int)) → m ≤ n
  | 0, _, _, _ => Nat.zero_le _
  | m + 1, n, o, h => by
    obtain ⟨f, hf, ef⟩ := h m (by omega)
    have := bs_pig m (n - 1) (fun i => if i < f then o i else o (i + 1)) (fun k hk => by
      obtain ⟨i, hi, ei⟩ := h k (by omega)
      have ne : i ≠ f := fun z => by rw [z, ef] at ei; omega
      by_cases c : i < f
      · exact ⟨i, by omega, by show (if i < f then o i else o (i + 1)) = (k : Int); rw [if_pos c]; exact ei⟩
      · exact ⟨i - 1, by omega, by show (if i - 1 < f then o (i - 1) else o (i - 1 + 1)) = (k : Int); rw [if_neg (by omega), show i - 1 + 1 = i by omega]; exact ei⟩)
    omega

/-! pure: the tree. t f 0..6: wall, low, high, owner, placed of piece f; s n 0..2: line, front, behind of node n; A k a: 1 where node k lies in front of node a, -1 behind, 0 else -/
def bs_lo (g t : Nat → Nat → Int) (w f : Nat) : Int := bs_F g w (t f 0).toNat (t f 1) (t f 2)
def bs_hi (g t : Nat → Nat → Int) (w f : Nat) : Int := bs_F g w (t f 0).toNat (t f 3) (t f 4)
def bs_cr (g : Nat → Nat → Int) (C : Nat) (t : Nat → Nat → Int) (f : Nat) : Nat := bs_S (fun w => if bs_lo g t w f * bs_hi g t w f < 0 then 1 else 0) C
def bs_pb (C : Nat) (t : Nat → Nat → Int) (f : Nat) : Prop := 0 ≤ t f 0 ∧ t f 0 < C ∧ 0 ≤ t f 1 ∧ t f 1 ≤ t f 2 ∧ 0 < t f 2 ∧ t f 2 ≤ 3136 ∧ 0 ≤ t f 3 ∧ t f 3 ≤ t f 4 ∧ 0 < t f 4 ∧ t f 4 ≤ 3136
def bs_cov (C P : Nat) (t : Nat → Nat → Int) : Prop := ∀ p : Nat, p < C → ∀ a d : Int, 0 < d → 0 ≤ a → a ≤ d → ∃ f : Nat, f < P ∧ t f 0 = (p : Int) ∧ t f 1 * d ≤ a * t f 2 ∧ a * t f 4 ≤ t f 3 * d
def bs_NI (N : Nat) (s A : Nat → Nat → Int) : Prop :=
  (∀ k a, k < N → A k a ≠ 0 → a < k) ∧
  (∀ k a, k < N → A k a = 0 ∨ A k a = 1 ∨ A k a = -1) ∧
  (∀ n e : Nat, n < N → e = 1 ∨ e = 2 → s n e = -1 ∨ ∃ m : Nat, s n e = (m : Int) ∧ n < m ∧ m < N ∧ A m n = 3 - 2 * (e : Int) ∧ ∀ a, a ≠ n → A m a = A n a) ∧
  (∀ k n e : Nat, k < N → e = 1 ∨ e = 2 → A k n = 3 - 2 * (e : Int) → ∃ m : Nat, s n e = (m : Int) ∧ (k = m ∨ A k m ≠ 0)) ∧
  (∀ k m a, k < N → A k m ≠ 0 → A m a ≠ 0 → A k a = A m a) ∧
  (∀ k, k < N → k = 0 ∨ A k 0 ≠ 0)
/-- the nodes after 'the child k of n on side σ' -/
def bs_NX (n N : Nat) (s A : Nat → Nat → Int) (N' : Nat) (s' A' : Nat → Nat → Int) (k : Nat) (σ : Int) : Prop :=
  bs_NI N' s' A' ∧ N ≤ N' ∧ N' ≤ N + 1 ∧ (∀ j, j < N → A' j = A j) ∧ (∀ j, j < N → s' j 0 = s j 0) ∧ n < k ∧ k < N' ∧ A' k n = σ ∧ (∀ a, a ≠ n → A' k a = A n a) ∧ (∀ j, j < N' → j < N ∨ j = k) ∧
  (∀ j, n < j → j < N' → (j < N → s j 1 = -1 ∧ s j 2 = -1) → s' j 1 = -1 ∧ s' j 2 = -1)
theorem bs_NXold {n N : Nat} {s A : Nat → Nat → Int} {e : Nat} (h : bs_NI N s A) (hn : n < N) (he : e = 1 ∨ e = 2) (hs : s n e ≠ -1) : ∃ k : Nat, s n e = (k : Int) ∧ bs_NX n N s A N s A k (3 - 2 * (e : Int)) := by
  rcases h.2.2.1 n e hn he with z | ⟨m, h1, h2, h3, h4, h5⟩
  · exact absurd z hs
  · exact ⟨m, h1, h, Nat.le_refl _, by omega, fun _ _ => rfl, fun _ _ => rfl, h2, h3, h4, h5, fun j hj => Or.inl hj, fun j a b c => c b⟩
theorem bs_NXnew {n N : Nat} {s A s' : Nat → Nat → Int} {e : Nat} (h : bs_NI N s A) (hn : n < N) (he : e = 1 ∨ e = 2) (hs : s n e = -1)
    (h1 : ∀ k j, k < N → j < 3 → (k ≠ n ∨ j ≠ e) → s' k j = s k j) (h2 : s' n e = (N : Int)) (h3 : s' N 1 = -1) (h4 : s' N 2 = -1) :
    ∃ A', bs_NX n N s A (N + 1) s' A' N (3 - 2 * (e : Int)) := by
  obtain ⟨a0, a1, c1, a5, a6, a7⟩ := h
  have an : ∀ k, k < N → ∀ a, k ≤ a → A k a = 0 := fun k hk a ha => by
    rcases Int.lt_trichotomy (A k a) 0 with z | z | z
    · have := a0 k a hk (by omega)
      omega
    · exact z
    · have := a0 k a hk (by omega)
      omega
  refine ⟨fun k a => if k = N then (if a = n then 3 - 2 * (e : Int) else A n a) else A k a, ?_⟩
  generalize hA : (fun k a => if k = N then (if a = n then 3 - 2 * (e : Int) else A n a) else A k a : Nat → Nat → Int) = A'
  have e1 : ∀ k, k < N → A' k = A k := fun k hk => by
    rw [← hA]
    funext a
    show (if k = N then _ else A k a) = A k a
    rw [if_neg (by omega)]
  have e2 : A' N n = 3 - 2 * (e : Int) := by
    rw [← hA]
    show (if N = N then (if n = n then 3 - 2 * (e : Int) else A n n) else A N n) = _
    rw [if_pos rfl, if_pos rfl]
  have e3 : ∀ a, a ≠ n → A' N a = A n a := fun a ha => by
    rw [← hA]
    show (if N = N then (if a = n then 3 - 2 * (e : Int) else A n a) else A N a) = _
    rw [if_pos rfl, if_neg ha]
  have sg : (3 - 2 * (e : Int)) ≠ 0 := by omega
  have nn : A n n = 0 := an n hn n (Nat.le_refl n)
  refine ⟨⟨?_, ?_, ?_, ?_, ?_, ?_⟩, by omega, by omega, e1, fun j hj => h1 j 0 hj (by omega) (Or.inr (by omega)), hn, by omega, e2, e3, fun j hj => by omega, ?_⟩
  · intro k a hk z
    by_cases q : k = N
    · rw [q] at z ⊢
      by_cases qa : a = n
      · omega
      · rw [e3 a qa] at z
        have := a0 n a hn z
        omega
    · rw [e1 k (by omega)] at z
      exact a0 k a (by omega) z
  · intro k a hk
    by_cases q : k = N
    · rw [q]
      by_cases qa : a = n
      · rw [qa, e2]
        omega
      · rw [e3 a qa]
        exact a1 n a hn
    · rw [e1 k (by omega)]
      exact a1 k a (by omega)
  · intro n' e' hn' he'
    by_cases q : n' = N
    · left
      rw [q]
      rcases he' with z | z
      · rw [z]; exact h3
      · rw [z]; exact h4
    · by_cases q2 : n' = n ∧ e' = e
      · right
        rw [q2.1, q2.2]
        exact ⟨N, h2, hn, by omega, e2, fun a ha => by rw [e3 a ha, e1 n hn]⟩
      · have q3 : n' ≠ n ∨ e' ≠ e := by omega
        rw [h1 n' e' (by omega) (by omega) q3]
        rcases c1 n' e' (by omega) he' with z | ⟨m, m1, m2, m3, m4, m5⟩
        · exact Or.inl z
        · refine Or.inr ⟨m, m1, m2, by omega, ?_, fun a ha => ?_⟩
          · rw [e1 m m3]; exact m4
          · rw [e1 m m3, e1 n' (by omega)]; exact m5 a ha
  · intro k n' e' hk he' z
    by_cases q : k = N
    · rw [q] at z ⊢
      by_cases qn : n' = n
      · rw [qn, e2] at z
        have : e' = e := by omega
        rw [qn, this]
        exact ⟨N, h2, Or.inl rfl⟩
      · rw [e3 n' qn] at z
        have l := a0 n n' hn (by omega)
        obtain ⟨m, m1, m2⟩ := a5 n n' e' hn he' z
        refine ⟨m, ?_, Or.inr ?_⟩
        · rw [h1 n' e' (by omega) (by omega) (Or.inl qn)]
          exact m1
        · rcases m2 with m2 | m2
          · rw [← m2, e2]
            exact sg
          · have : m ≠ n := fun y => m2 (by rw [y]; exact nn)
            rw [e3 m this]
            exact m2
    · rw [e1 k (by omega)] at z
      have l := a0 k n' (by omega) (by omega)
      obtain ⟨m, m1, m2⟩ := a5 k n' e' (by omega) he' z
      refine ⟨m, ?_, by rw [e1 k (by omega)]; exact m2⟩
      rw [h1 n' e' (by omega) (by omega) ?_]
      · exact m1
      · by_cases y : n' = n
        · refine Or.inr (fun y2 => ?_)
          rw [y, y2, hs] at m1
          omega
        · exact Or.inl y
  · intro k m a hk z1 z2
    by_cases q : k = N
    · rw [q] at z1 ⊢
      by_cases qm : m = n
      · rw [qm, e1 n hn] at z2 ⊢
        exact e3 a (fun y => z2 (by rw [y]; exact nn))
      · rw [e3 m qm] at z1
        have l := a0 n m hn z1
        rw [e1 m (by omega)] at z2 ⊢
        have l2 := a0 m a (by omega) z2
        rw [e3 a (by omega)]
        exact a6 n m a hn z1 z2
    · rw [e1 k (by omega)] at z1 ⊢
      have l := a0 k m (by omega) z1
      rw [e1 m (by omega)] at z2 ⊢
      exact a6 k m a (by omega) z1 z2
  · intro k hk
    by_cases q : k = N
    · right
      rw [q]
      by_cases qn : 0 = n
      · rw [qn, e2]
        exact sg
      · rw [e3 0 qn]
        rcases a7 n hn with y | y
        · omega
        · exact y
    · rw [e1 k (by omega)]
      exact a7 k (by omega)
  · intro j j1 j2 j3
    by_cases q : j = N
    · rw [q]
      exact ⟨h3, h4⟩
    · rw [h1 j 1 (by omega) (by omega) (Or.inl (by omega)), h1 j 2 (by omega) (by omega) (Or.inl (by omega))]
      exact j3 (by omega)
def bs_TJ (g : Nat → Nat → Int) (C P : Nat) (t : Nat → Nat → Int) (N : Nat) (s A : Nat → Nat → Int) : Prop :=
  bs_NI N s A ∧ (∀ f, f < P → bs_pb C t f) ∧ (∀ f, f < P → 0 ≤ t f 5 ∧ t f 5 < N) ∧
  (∀ f a, f < P → 0 ≤ A (t f 5).toNat a * bs_lo g t (s a 0).toNat f ∧ 0 ≤ A (t f 5).toNat a * bs_hi g t (s a 0).toNat f) ∧
  (∀ f, f < P → t f 6 ≠ 0 → bs_lo g t (s (t f 5).toNat 0).toNat f = 0 ∧ bs_hi g t (s (t f 5).toNat 0).toNat f = 0) ∧
  bs_cov C P t ∧ P + bs_S (bs_cr g C t) P ≤ 110
def bs_sj (P N : Nat) (t : Nat → Nat → Int) : Prop := ∀ k, k < N → ∃ f : Nat, f < P ∧ t f 5 = (k : Int)
theorem bs_loK {g t t' : Nat → Nat → Int} {f : Nat} (h : ∀ j, j < 5 → t' f j = t f j) (w : Nat) : bs_lo g t' w f = bs_lo g t w f := by
  unfold bs_lo
  rw [h 0 (by omega), h 1 (by omega), h 2 (by omega)]
theorem bs_hiK {g t t' : Nat → Nat → Int} {f : Nat} (h : ∀ j, j < 5 → t' f j = t f j) (w : Nat) : bs_hi g t' w f = bs_hi g t w f := by
  unfold bs_hi
  rw [h 0 (by omega), h 3 (by omega), h 4 (by omega)]
theorem bs_crK {g t t' : Nat → Nat → Int} {C f : Nat} (h : ∀ j, j < 5 → t' f j = t f j) : bs_cr g C t' f = bs_cr g C t f := by
  unfold bs_cr
  refine bs_Sc (fun w _ => ?_)
  rw [bs_loK h, bs_hiK h]
theorem bs_pbK {t t' : Nat → Nat → Int} {C f : Nat} (h : ∀ j, j < 5 → t' f j = t f j) (k : bs_pb C t f) : bs_pb C t' f := by
  unfold bs_pb
  rw [h 0 (by omega), h 1 (by omega), h 2 (by omega), h 3 (by omega), h 4 (by omega)]
  exact k
theorem bs_covK {t t' : Nat → Nat → Int} {C P : Nat} (h : ∀ f, f < P → ∀ j, j < 5 → t' f j = t f j) (k : bs_cov C P t) : bs_cov C P t' := by
  intro p hp a d h1 h2 h3
  obtain ⟨f, hf, k1, k2, k3⟩ := k p hp a d h1 h2 h3
  refine ⟨f, hf, ?_⟩
  rw [h f hf 0 (by omega), h f hf 1 (by omega), h f hf 2 (by omega), h f hf 3 (by omega), h f hf 4 (by omega)]
  exact ⟨k1, k2, k3⟩
theorem bs_TJx {g : Nat → Nat → Int} {C P : Nat} {t : Nat → Nat → Int} {n N : Nat} {s A : Nat → Nat → Int} {N' : Nat} {s' A' : Nat → Nat → Int} {k : Nat} {σ : Int}
    (h : bs_TJ g C P t N s A) (x : bs_NX n N s A N' s' A' k σ) : bs_TJ g C P t N' s' A' := by
  obtain ⟨h1, h2, h3, h4, h5, h6, h7⟩ := h
  obtain ⟨x1, x2, x3, x4, x5, x6⟩ := x
  refine ⟨x1, h2, fun f hf => ?_, fun f a hf => ?_, fun f hf z => ?_, h6, h7⟩
  · have := h3 f hf
    omega
  · have o := h3 f hf
    have on : (t f 5).toNat < N := by omega
    rw [x4 _ on]
    by_cases z : A (t f 5).toNat a = 0
    · rw [z]
      omega
    · have l := h1.1 _ a on z
      rw [x5 a (by omega)]
      exact h4 f a hf
  · have o := h3 f hf
    rw [x5 _ (by omega)]
    exact h5 f hf z
theorem bs_TJmove {g : Nat → Nat → Int} {C P : Nat} {t t' : Nat → Nat → Int} {n N : Nat} {s A : Nat → Nat → Int} {i k w : Nat} {σ : Int} (h : bs_TJ g C P t N s A)
    (hi : i < P) (e1 : ∀ f, f ≠ i → t' f = t f) (e2 : ∀ j, j < 5 → t' i j = t i j) (e5 : t' i 5 = (k : Int)) (e6 : t' i 6 = 0) (o5 : t i 5 = (n : Int))
    (hk : k < N) (k1 : A k n = σ) (k2 : ∀ a, a ≠ n → A k a = A n a) (hw : s n 0 = (w : Int)) (l : 0 ≤ σ * bs_lo g t w i) (l2 : 0 ≤ σ * bs_hi g t w i) : bs_TJ g C P t' N s A := by
  obtain ⟨h1, h2, h3, h4, h5, h6, h7⟩ := h
  have ea : ∀ f, ∀ j, j < 5 → t' f j = t f j := fun f j hj => by
    by_cases z : f = i
    · rw [z]; exact e2 j hj
    · rw [e1 f z]
  refine ⟨h1, fun f hf => bs_pbK (ea f) (h2 f hf), fun f hf => ?_, fun f a hf => ?_, fun f hf z => ?_, bs_covK (fun f _ => ea f) h6, ?_⟩
  · by_cases z : f = i
    · rw [z, e5]
      omega
    · rw [e1 f z]
      exact h3 f hf
  · rw [bs_loK (ea f), bs_hiK (ea f)]
    by_cases z : f = i
    · rw [z, e5, Int.toNat_natCast]
      by_cases y : a = n
      · rw [y, k1, hw, Int.toNat_natCast]
        exact ⟨l, l2⟩
      · rw [k2 a y]
        have := h4 i a hi
        rw [o5, Int.toNat_natCast] at this
        exact this
    · rw [e1 f z]
      exact h4 f a hf
  · rw [bs_loK (ea f), bs_hiK (ea f)]
    by_cases y : f = i
    · rw [y] at z
      exact absurd e6 z
    · rw [e1 f y] at z ⊢
      exact h5 f hf z
  · rw [bs_Sc (h := bs_cr g C t) (fun f _ => bs_crK (ea f))]
    exact h7
theorem bs_TJplace {g : Nat → Nat → Int} {C P : Nat} {t t' : Nat → Nat → Int} {n N : Nat} {s A : Nat → Nat → Int} {i w : Nat} (h : bs_TJ g C P t N s A)
    (hi : i < P) (e1 : ∀ f, f ≠ i → t' f = t f) (e2 : ∀ j, j < 6 → t' i j = t i j) (o5 : t i 5 = (n : Int)) (hw : s n 0 = (w : Int)) (l : bs_lo g t w i = 0) (l2 : bs_hi g t w i = 0) : bs_TJ g C P t' N s A := by
  obtain ⟨h1, h2, h3, h4, h5, h6, h7⟩ := h
  have ea : ∀ f, ∀ j, j < 6 → t' f j = t f j := fun f j hj => by
    by_cases z : f = i
    · rw [z]; exact e2 j hj
    · rw [e1 f z]
  have eb : ∀ f, ∀ j, j < 5 → t' f j = t f j := fun f j hj => ea f j (by omega)
  refine ⟨h1, fun f hf => bs_pbK (eb f) (h2 f hf), fun f hf => ?_, fun f a hf => ?_, fun f hf z => ?_, bs_covK (fun f _ => eb f) h6, ?_⟩
  · rw [ea f 5 (by omega)]
    exact h3 f hf
  · rw [bs_loK (eb f), bs_hiK (eb f), ea f 5 (by omega)]
    exact h4 f a hf
  · rw [bs_loK (eb f), bs_hiK (eb f), ea f 5 (by omega)]
    by_cases y : f = i
    · rw [y, o5, Int.toNat_natCast, hw, Int.toNat_natCast]
      exact ⟨l, l2⟩
    · rw [e1 f y] at z
      exact h5 f hf z
  · rw [bs_Sc (h := bs_cr g C t) (fun f _ => bs_crK (eb f))]
    exact h7
theorem bs_ind {a b x : Int} (hp : 0 ≤ a → 0 ≤ b → 0 ≤ x) (hn : a ≤ 0 → b ≤ 0 → x ≤ 0) : (if a * x < 0 then 1 else 0) + (if x * b < 0 then 1 else 0) ≤ (if a * b < 0 then 1 else 0 : Nat) := by
  simp only [bs_ng]
  split <;> split <;> split <;> omega
theorem bs_FP {g : Nat → Nat → Int} {w p : Nat} {lN lD hN hD num den : Int} (hl : 0 < lD) (hh : 0 < hD) (hd : 0 < den) (h0 : bs_F g w p num den = 0) (hc : bs_F g w p lN lD * bs_F g w p hN hD < 0)
    (w' : Nat) (c : Int) (a : 0 ≤ c * bs_F g w' p lN lD) (b : 0 ≤ c * bs_F g w' p hN hD) : 0 ≤ c * bs_F g w' p num den := by
  have z : ∀ N D : Int, c * bs_F g w' p N D = (c * bs_f1 g w' p) * D + N * (c * (bs_f2 g w' p - bs_f1 g w' p)) := fun N D => by
    unfold bs_F
    grind
  rw [z] at a b ⊢
  exact bs_midP hl hh hd h0 hc a b
end
section
theorem bs_TJsplit {g : Nat → Nat → Int} {C P : Nat} {t t' : Nat → Nat → Int} {n N : Nat} {s A : Nat → Nat → Int} {i k1 k2 w : Nat} {σ num den : Int} (h : bs_TJ g C P t N s A)
    (hi : i < P) (hwC : w < C) (e1 : ∀ f, f ≠ i → f ≠ P → t' f = t f)
    (i0 : t' i 0 = t i 0) (i1 : t' i 1 = t i 1) (i2 : t' i 2 = t i 2) (i3 : t' i 3 = num) (i4 : t' i 4 = den) (i5 : t' i 5 = (k1 : Int)) (i6 : t' i 6 = 0)
    (p0 : t' P 0 = t i 0) (p1 : t' P 1 = num) (p2 : t' P 2 = den) (p3 : t' P 3 = t i 3) (p4 : t' P 4 = t i 4) (p5 : t' P 5 = (k2 : Int)) (p6 : t' P 6 = 0)
    (o5 : t i 5 = (n : Int)) (hk1 : k1 < N) (a1 : A k1 n = σ) (b1 : ∀ a, a ≠ n → A k1 a = A n a) (hk2 : k2 < N) (a2 : A k2 n = -σ) (b2 : ∀ a, a ≠ n → A k2 a = A n a)
    (hw : s n 0 = (w : Int)) (l : 0 ≤ σ * bs_lo g t w i) (l2 : 0 ≤ -σ * bs_hi g t w i)
    (hc : bs_lo g t w i * bs_hi g t w i < 0) (hd : 0 < den) (hd2 : den ≤ 3136) (h0 : bs_F g w (t i 0).toNat num den = 0) : bs_TJ g C (P + 1) t' N s A := by
  obtain ⟨h1, h2, h3, h4, h5, h6, h7⟩ := h
  obtain ⟨b0, b00, b11, b12, b13, b14, b21, b22, b23, b24⟩ := h2 i hi
  have hc' := hc
  unfold bs_lo bs_hi at hc'
  have eo : ∀ f, f < P → f ≠ i → t' f = t f := fun f hf z => e1 f z (by omega)
  have li : ∀ w', bs_lo g t' w' i = bs_lo g t w' i := fun w' => by
    unfold bs_lo
    rw [i0, i1, i2]
  have hI : ∀ w', bs_hi g t' w' i = bs_F g w' (t i 0).toNat num den := fun w' => by
    unfold bs_hi
    rw [i0, i3, i4]
  have lP : ∀ w', bs_lo g t' w' P = bs_F g w' (t i 0).toNat num den := fun w' => by
    unfold bs_lo
    rw [p0, p1, p2]
  have hP : ∀ w', bs_hi g t' w' P = bs_hi g t w' i := fun w' => by
    unfold bs_hi
    rw [p0, p3, p4]
  have X : ∀ (w' : Nat) (c : Int), 0 ≤ c * bs_lo g t w' i → 0 ≤ c * bs_hi g t w' i → 0 ≤ c * bs_F g w' (t i 0).toNat num den := fun w' c u v => bs_FP b13 b23 hd h0 hc' w' c u v
  have n0 : 0 ≤ num := by
    have := bs_midP (F := 0) (D := 1) b13 b23 hd h0 hc' (by omega) (by omega)
    omega
  have n1 : num ≤ den := by
    have := bs_midP (F := 1) (D := -1) b13 b23 hd h0 hc' (by omega) (by omega)
    omega
  refine ⟨h1, fun f hf => ?_, fun f hf => ?_, fun f a hf => ?_, fun f hf z => ?_, ?_, ?_⟩
  · by_cases z : f = i
    · rw [z]
      unfold bs_pb
      rw [i0, i1, i2, i3, i4]
      exact ⟨b0, b00, b11, b12, b13, b14, n0, n1, hd, hd2⟩
    · by_cases y : f = P
      · rw [y]
        unfold bs_pb
        rw [p0, p1, p2, p3, p4]
        exact ⟨b0, b00, n0, n1, hd, hd2, b21, b22, b23, b24⟩
      · exact bs_pbK (fun j _ => by rw [e1 f z y]) (h2 f (by omega))
  · by_cases z : f = i
    · rw [z, i5]
      omega
    · by_cases y : f = P
      · rw [y, p5]
        omega
      · rw [e1 f z y]
        exact h3 f (by omega)
  · have q := h4 i a hi
    rw [o5, Int.toNat_natCast] at q
    by_cases z : f = i
    · rw [z, i5, Int.toNat_natCast, li, hI]
      by_cases y : a = n
      · rw [y, a1, hw, Int.toNat_natCast, h0]
        exact ⟨l, by omega⟩
      · rw [b1 a y]
        exact ⟨q.1, X _ _ q.1 q.2⟩
    · by_cases y : f = P
      · rw [y, p5, Int.toNat_natCast, lP, hP]
        by_cases x : a = n
        · rw [x, a2, hw, Int.toNat_natCast, h0]
          exact ⟨by omega, l2⟩
        · rw [b2 a x]
          exact ⟨X _ _ q.1 q.2, q.2⟩
      · have ef := e1 f z y
        rw [bs_loK (fun j _ => by rw [ef]), bs_hiK (fun j _ => by rw [ef]), ef]
        exact h4 f a (by omega)
  · by_cases y : f = i
    · rw [y] at z
      exact absurd i6 z
    · by_cases x : f = P
      · rw [x] at z
        exact absurd p6 z
      · have ef := e1 f y x
        rw [bs_loK (fun j _ => by rw [ef]), bs_hiK (fun j _ => by rw [ef])]
        rw [ef] at z ⊢
        exact h5 f (by omega) z
  · intro p hp a d d1 d2 d3
    obtain ⟨f, hf, k1', k2', k3'⟩ := h6 p hp a d d1 d2 d3
    by_cases z : f = i
    · rw [z] at k1' k2' k3'
      rcases Int.le_total (a * den) (num * d) with y | y
      · refine ⟨i, by omega, ?_⟩
        rw [i0, i1, i2, i3, i4]
        exact ⟨k1', k2', y⟩
      · refine ⟨P, by omega, ?_⟩
        rw [p0, p1, p2, p3, p4]
        exact ⟨k1', y, k3'⟩
    · refine ⟨f, by omega, ?_⟩
      rw [e1 f z (by omega)]
      exact ⟨k1', k2', k3'⟩
  · have u1 := bs_Sup (h := bs_cr g C t) (h' := bs_cr g C t') hi (fun f hf z => bs_crK (fun j _ => by rw [eo f hf z]))
    have u2 : bs_cr g C t' i + bs_cr g C t' P + 1 ≤ bs_cr g C t i := by
      unfold bs_cr
      refine bs_Slt (j := w) (fun w' _ => ?_) hwC ?_
      · rw [li, hI, lP, hP]
        refine bs_ind (fun u v => ?_) (fun u v => ?_)
        · have := X w' 1 (by omega) (by omega)
          omega
        · have := X w' (-1) (by omega) (by omega)
          omega
      · show (if bs_lo g t' w i * bs_hi g t' w i < 0 then 1 else 0) + (if bs_lo g t' w P * bs_hi g t' w P < 0 then 1 else 0) + 1 ≤ (if bs_lo g t w i * bs_hi g t w i < 0 then 1 else 0)
        rw [li, hI, lP, hP, h0, if_pos hc, Int.mul_zero, Int.zero_mul, if_neg (by omega)]
        omega
    show P + 1 + (bs_S (bs_cr g C t') P + bs_cr g C t' P) ≤ 110
    omega
theorem bs_TJbound {g : Nat → Nat → Int} {C P : Nat} {t : Nat → Nat → Int} {N : Nat} {s A : Nat → Nat → Int} (h : bs_TJ g C P t N s A) (k : bs_sj P N t) : P ≤ 110 ∧ N ≤ 110 := by
  have h7 := h.2.2.2.2.2.2
  have := bs_pig N P (fun f => t f 5) k
  omega
/-- before node n is divided -/
def bs_OI (g : Nat → Nat → Int) (C P : Nat) (t : Nat → Nat → Int) (N : Nat) (s A : Nat → Nat → Int) (n : Nat) : Prop :=
  bs_TJ g C P t N s A ∧ bs_sj P N t ∧ n ≤ N ∧ (∀ k, k < n → 0 ≤ s k 0 ∧ s k 0 < C) ∧ (∀ k, n ≤ k → k < N → s k 1 = -1 ∧ s k 2 = -1) ∧
  (∀ f, f < P → t f 5 < n → t f 6 ≠ 0) ∧ (∀ f, f < P → (n : Int) ≤ t f 5 → t f 6 = 0)
/-- while node n is divided: the pieces below i are done, E pieces stood at its start, w is its line -/
def bs_DI (g : Nat → Nat → Int) (C P : Nat) (t : Nat → Nat → Int) (N : Nat) (s A : Nat → Nat → Int) (n i E w : Nat) : Prop :=
  bs_TJ g C P t N s A ∧ bs_sj P N t ∧ n < N ∧ (∀ k, k ≤ n → 0 ≤ s k 0 ∧ s k 0 < C) ∧ s n 0 = (w : Int) ∧ (∀ k, n < k → k < N → s k 1 = -1 ∧ s k 2 = -1) ∧
  (∀ f, f < P → t f 5 < n → t f 6 ≠ 0) ∧ (∀ f, f < P → t f 5 = n → f < i → t f 6 ≠ 0) ∧ (∀ f, f < P → (n : Int) < t f 5 → t f 6 = 0) ∧
  (∃ f : Nat, f < P ∧ t f 5 = (n : Int) ∧ t f 0 = (w : Int)) ∧ (∀ f, f < P → E ≤ f → (n : Int) < t f 5) ∧ E ≤ P
theorem bs_DI0 {g : Nat → Nat → Int} {C P : Nat} {t : Nat → Nat → Int} {N : Nat} {s s' A : Nat → Nat → Int} {n w b : Nat} (h : bs_OI g C P t N s A n) (hn : n < N)
    (hb : b < P) (b5 : t b 5 = (n : Int)) (b0 : t b 0 = (w : Int)) (e1 : ∀ k, k ≠ n → s' k = s k) (e2 : ∀ j, j = 1 ∨ j = 2 → s' n j = s n j) (e3 : s' n 0 = (w : Int)) : bs_DI g C P t N s' A n 0 P w := by
  obtain ⟨⟨h1, h2, h3, h4, h5, h6, h7⟩, k1, k2, k3, k4, k5, k6⟩ := h
  have es : ∀ k j, j = 1 ∨ j = 2 → s' k j = s k j := fun k j hj => by
    by_cases z : k = n
    · rw [z]; exact e2 j hj
    · rw [e1 k z]
  have hwC : w < C := by
    have := h2 b hb
    unfold bs_pb at this
    omega
  have kn := k4 n (Nat.le_refl n) hn
  have A0 : ∀ k, k < N → A k n = 0 := fun k hk => by
    rcases h1.2.1 k n hk with z | z | z
    · exact z
    · obtain ⟨m, m1, _⟩ := h1.2.2.2.1 k n 1 hk (Or.inl rfl) (by omega)
      omega
    · obtain ⟨m, m1, _⟩ := h1.2.2.2.1 k n 2 hk (Or.inr rfl) (by omega)
      omega
  refine ⟨⟨⟨h1.1, h1.2.1, ?_, ?_, h1.2.2.2.2.1, h1.2.2.2.2.2⟩, h2, h3, fun f a hf => ?_, fun f hf z => ?_, h6, h7⟩, k1, hn, fun k hk => ?_, e3, fun k a c => ?_, k5, fun f _ _ z => absurd z (by omega), fun f a c => k6 f a (by omega), ⟨b, hb, b5, b0⟩, fun f a c => absurd c (by omega), Nat.le_refl P⟩
  · intro n' e hn' he
    rw [es n' e he]
    exact h1.2.2.1 n' e hn' he
  · intro k n' e hk he
    rw [es n' e he]
    exact h1.2.2.2.1 k n' e hk he
  · by_cases z : a = n
    · have o := h3 f hf
      rw [z, A0 _ (by omega)]
      omega
    · rw [e1 a z]
      exact h4 f a hf
  · have o := h3 f hf
    have l : t f 5 < (n : Int) := by
      rcases bs_lg (t f 5) n with y | y
      · exact y
      · exact absurd (k6 f hf y) z
    rw [e1 _ (by omega)]
    exact h5 f hf z
  · by_cases z : k = n
    · rw [z, e3]
      omega
    · rw [e1 k z]
      exact k3 k (by omega)
  · rw [es k 1 (Or.inl rfl), es k 2 (Or.inr rfl)]
    exact k4 k (by omega) c
theorem bs_DIend {g : Nat → Nat → Int} {C P : Nat} {t : Nat → Nat → Int} {N : Nat} {s A : Nat → Nat → Int} {n E w : Nat} (h : bs_DI g C P t N s A n E E w) : bs_OI g C P t N s A (n + 1) := by
  obtain ⟨h1, h2, h3, h4, h5, h6, h7, h8, h9, h10, h11, h12⟩ := h
  refine ⟨h1, h2, by omega, fun k hk => h4 k (by omega), fun k a c => h6 k (by omega) c, fun f hf z => ?_, fun f hf z => h9 f hf (by omega)⟩
  by_cases y : t f 5 = (n : Int)
  · refine h8 f hf y ?_
    rcases Nat.lt_or_ge f E with q | q
    · exact q
    · have := h11 f hf q
      omega
  · exact h7 f hf (by omega)
theorem bs_DIskip {g : Nat → Nat → Int} {C P : Nat} {t : Nat → Nat → Int} {N : Nat} {s A : Nat → Nat → Int} {n i E w : Nat} (h : bs_DI g C P t N s A n i E w) (z : t i 5 ≠ (n : Int) ∨ t i 6 ≠ 0) : bs_DI g C P t N s A n (i + 1) E w := by
  obtain ⟨h1, h2, h3, h4, h5, h6, h7, h8, h9, h10, h11, h12⟩ := h
  refine ⟨h1, h2, h3, h4, h5, h6, h7, fun f hf y l => ?_, h9, h10, h11, h12⟩
  by_cases q : f = i
  · rw [q] at y ⊢
    rcases z with z | z
    · exact absurd y z
    · exact z
  · exact h8 f hf y (by omega)
theorem bs_DIplace {g : Nat → Nat → Int} {C P : Nat} {t t' : Nat → Nat → Int} {N : Nat} {s A : Nat → Nat → Int} {n i E w : Nat} (h : bs_DI g C P t N s A n i E w) (hi : i < E) (o5 : t i 5 = (n : Int))
    (l : bs_lo g t w i = 0) (l2 : bs_hi g t w i = 0) (e1 : ∀ f, f ≠ i → t' f = t f) (e2 : ∀ j, j < 6 → t' i j = t i j) (e6 : t' i 6 ≠ 0) : bs_DI g C P t' N s A n (i + 1) E w := by
  obtain ⟨h1, h2, h3, h4, h5, h6, h7, h8, h9, h10, h11, h12⟩ := h
  have ea : ∀ f, ∀ j, j < 6 → t' f j = t f j := fun f j hj => by
    by_cases z : f = i
    · rw [z]; exact e2 j hj
    · rw [e1 f z]
  refine ⟨bs_TJplace h1 (by omega) e1 e2 o5 h5 l l2, fun k hk => ?_, h3, h4, h5, h6, fun f hf z => ?_, fun f hf y q => ?_, fun f hf z => ?_, ?_, fun f hf z => ?_, h12⟩
  · obtain ⟨f, a, c⟩ := h2 k hk
    exact ⟨f, a, by rw [ea f 5 (by omega)]; exact c⟩
  · rw [ea f 5 (by omega)] at z
    rw [e1 f (fun y => by rw [y, o5] at z; omega)]
    exact h7 f hf z
  · by_cases x : f = i
    · rw [x]; exact e6
    · rw [e1 f x] at y ⊢
      exact h8 f hf y (by omega)
  · rw [ea f 5 (by omega)] at z
    rw [e1 f (fun y => by rw [y, o5] at z; omega)]
    exact h9 f hf z
  · obtain ⟨f, a, c, d⟩ := h10
    exact ⟨f, a, by rw [ea f 5 (by omega)]; exact c, by rw [ea f 0 (by omega)]; exact d⟩
  · rw [ea f 5 (by omega)]
    exact h11 f hf z
theorem bs_DImove {g : Nat → Nat → Int} {C P : Nat} {t t' : Nat → Nat → Int} {N : Nat} {s A : Nat → Nat → Int} {n i E w : Nat} {N' : Nat} {s' A' : Nat → Nat → Int} {k : Nat} {σ : Int} (h : bs_DI g C P t N s A n i E w) (hi : i < E)
    (o5 : t i 5 = (n : Int)) (x : bs_NX n N s A N' s' A' k σ) (l : 0 ≤ σ * bs_lo g t w i) (l2 : 0 ≤ σ * bs_hi g t w i) (nz : ¬ (bs_lo g t w i = 0 ∧ bs_hi g t w i = 0))
    (e1 : ∀ f, f ≠ i → t' f = t f) (e2 : ∀ j, j < 5 → t' i j = t i j) (e5 : t' i 5 = (k : Int)) (e6 : t' i 6 = 0) : bs_DI g C P t' N' s' A' n (i + 1) E w := by
  obtain ⟨h1, h2, h3, h4, h5, h6, h7, h8, h9, h10, h11, h12⟩ := h
  have xx := x
  obtain ⟨x1, x2, x3, x4, x5, x6, x7, x8, x9, x10, x11⟩ := x
  have hw : s' n 0 = (w : Int) := by rw [x5 n h3]; exact h5
  obtain ⟨b, hb, b5, b0⟩ := h10
  have nb : b ≠ i := fun z => by
    rw [z] at b0
    refine nz ⟨?_, ?_⟩
    · unfold bs_lo
      rw [b0, Int.toNat_natCast, bs_Fs]
    · unfold bs_hi
      rw [b0, Int.toNat_natCast, bs_Fs]
  refine ⟨bs_TJmove (bs_TJx h1 xx) (by omega) e1 e2 e5 e6 o5 x7 x8 (fun a ha => by rw [x9 a ha, x4 n h3]) hw l l2, fun j hj => ?_, by omega, fun j hj => ?_, hw, fun j a c => ?_, fun f hf z => ?_, fun f hf y q => ?_, fun f hf z => ?_, ⟨b, hb, by rw [e1 b nb]; exact b5, by rw [e1 b nb]; exact b0⟩, fun f hf z => ?_, h12⟩
  · by_cases y : j = k
    · exact ⟨i, by omega, by rw [e5, y]⟩
    · have jN : j < N := by
        rcases x10 j hj with q | q
        · exact q
        · exact absurd q y
      by_cases y2 : j = n
      · exact ⟨b, hb, by rw [e1 b nb, y2]; exact b5⟩
      · obtain ⟨f, a, c⟩ := h2 j jN
        exact ⟨f, a, by rw [e1 f (fun q => by rw [q, o5] at c; omega)]; exact c⟩
  · rw [x5 j (by omega)]
    exact h4 j hj
  · exact x11 j a c (fun q => h6 j a q)
  · by_cases y : f = i
    · rw [y, e5] at z
      omega
    · rw [e1 f y] at z ⊢
      exact h7 f hf z
  · by_cases z : f = i
    · rw [z, e5] at y
      omega
    · rw [e1 f z] at y ⊢
      exact h8 f hf y (by omega)
  · by_cases y : f = i
    · rw [y]; exact e6
    · rw [e1 f y] at z ⊢
      exact h9 f hf z
  · rw [e1 f (by omega)]
    exact h11 f hf z
theorem bs_DIsplit {g : Nat → Nat → Int} {C P : Nat} {t t' : Nat → Nat → Int} {N : Nat} {s A : Nat → Nat → Int} {n i E w : Nat} {N1 N2 : Nat} {s1 A1 s2 A2 : Nat → Nat → Int} {k1 k2 : Nat} {σ num den : Int} (h : bs_DI g C P t N s A n i E w) (hi : i < E)
    (o5 : t i 5 = (n : Int)) (x : bs_NX n N s A N1 s1 A1 k1 σ) (y : bs_NX n N1 s1 A1 N2 s2 A2 k2 (-σ)) (hσ : 0 ≤ σ * bs_lo g t w i) (hσ2 : 0 ≤ -σ * bs_hi g t w i)
    (hc : bs_lo g t w i * bs_hi g t w i < 0) (hd : 0 < den) (hd2 : den ≤ 3136) (h0 : bs_F g w (t i 0).toNat num den = 0)
    (e1 : ∀ f, f ≠ i → f ≠ P → t' f = t f)
    (i0 : t' i 0 = t i 0) (i1 : t' i 1 = t i 1) (i2 : t' i 2 = t i 2) (i3 : t' i 3 = num) (i4 : t' i 4 = den) (i5 : t' i 5 = (k1 : Int)) (i6 : t' i 6 = 0)
    (p0 : t' P 0 = t i 0) (p1 : t' P 1 = num) (p2 : t' P 2 = den) (p3 : t' P 3 = t i 3) (p4 : t' P 4 = t i 4) (p5 : t' P 5 = (k2 : Int)) (p6 : t' P 6 = 0) :
    bs_DI g C (P + 1) t' N2 s2 A2 n (i + 1) E w := by
  obtain ⟨h1, h2, h3, h4, h5, h6, h7, h8, h9, h10, h11, h12⟩ := h
  have xx := x
  have yy := y
  obtain ⟨x1, x2, x3, x4, x5, x6, x7, x8, x9, x10, x11⟩ := x
  obtain ⟨y1, y2, y3, y4, y5, y6, y7, y8, y9, y10, y11⟩ := y
  have hw : s2 n 0 = (w : Int) := by rw [y5 n (by omega), x5 n h3]; exact h5
  have hwC : w < C := by
    have := h4 n (Nat.le_refl n)
    omega
  obtain ⟨b, hb, b5, b0⟩ := h10
  have nb : b ≠ i := fun z => by
    rw [z] at b0
    have : bs_lo g t w i = 0 := by
      unfold bs_lo
      rw [b0, Int.toNat_natCast, bs_Fs]
    rw [this, Int.zero_mul] at hc
    omega
  have k1N : k1 < N1 := x7
  have A2n : A2 n = A n := by rw [y4 n (by omega), x4 n h3]
  have eb := e1 b nb (by omega)
  refine ⟨bs_TJsplit (bs_TJx (bs_TJx h1 xx) yy) (by omega) hwC e1 i0 i1 i2 i3 i4 i5 i6 p0 p1 p2 p3 p4 p5 p6 o5 (by omega) (by rw [y4 k1 k1N]; exact x8) (fun a ha => by rw [y4 k1 k1N, x9 a ha, A2n]) y7 y8 (fun a ha => by rw [y9 a ha, y4 n (by omega)]) hw hσ hσ2 hc hd hd2 h0,
    fun j hj => ?_, by omega, fun j hj => ?_, hw, fun j a c => ?_, fun f hf z => ?_, fun f hf z q => ?_, fun f hf z => ?_, ⟨b, by omega, by rw [eb]; exact b5, by rw [eb]; exact b0⟩, fun f hf z => ?_, by omega⟩
  · by_cases z : j = k2
    · exact ⟨P, by omega, by rw [p5, z]⟩
    · by_cases z1 : j = k1
      · exact ⟨i, by omega, by rw [i5, z1]⟩
      · have j1 : j < N1 := by
          rcases y10 j hj with q | q
          · exact q
          · exact absurd q z
        have jN : j < N := by
          rcases x10 j j1 with q | q
          · exact q
          · exact absurd q z1
        by_cases z2 : j = n
        · exact ⟨b, by omega, by rw [eb, z2]; exact b5⟩
        · obtain ⟨f, a, c⟩ := h2 j jN
          exact ⟨f, by omega, by rw [e1 f (fun q => by rw [q, o5] at c; omega) (by omega)]; exact c⟩
  · rw [y5 j (by omega), x5 j (by omega)]
    exact h4 j hj
  · exact y11 j a c (fun q => x11 j a q (fun q2 => h6 j a q2))
  · by_cases q : f = i
    · rw [q, i5] at z
      omega
    · by_cases q2 : f = P
      · rw [q2, p5] at z
        omega
      · rw [e1 f q q2] at z ⊢
        exact h7 f (by omega) z
  · by_cases q1 : f = i
    · rw [q1, i5] at z
      omega
    · by_cases q2 : f = P
      · rw [q2, p5] at z
        omega
      · rw [e1 f q1 q2] at z ⊢
        exact h8 f (by omega) z (by omega)
  · by_cases q1 : f = i
    · rw [q1]; exact i6
    · by_cases q2 : f = P
      · rw [q2]; exact p6
      · rw [e1 f q1 q2] at z ⊢
        exact h9 f (by omega) z
  · by_cases q2 : f = P
    · rw [q2, p5]
      omega
    · rw [e1 f (by omega) q2]
      exact h11 f (by omega) z
end
section
/-! pure: the walk through the tree, a ray -/
def bs_TF (g : Nat → Nat → Int) (C P : Nat) (t : Nat → Nat → Int) (N : Nat) (s A : Nat → Nat → Int) : Prop :=
  bs_TJ g C P t N s A ∧ bs_sj P N t ∧ (∀ k, k < N → 0 ≤ s k 0 ∧ s k 0 < C) ∧ (∀ f, f < P → t f 6 ≠ 0)
theorem bs_OIend {g : Nat → Nat → Int} {C P : Nat} {t : Nat → Nat → Int} {N : Nat} {s A : Nat → Nat → Int} (h : bs_OI g C P t N s A N) : bs_TF g C P t N s A :=
  ⟨h.1, h.2.1, h.2.2.2.1, fun f hf => h.2.2.2.2.2.1 f hf (h.1.2.2.1 f hf).2⟩
def bs_hp (g t : Nat → Nat → Int) (r : Nat → Int) (f : Nat) : Prop := 0 < bs_nd g r (t f 0).toNat ∧ 0 < bs_na g r (t f 0).toNat ∧ t f 1 * bs_nd g r (t f 0).toNat ≤ bs_nl g r (t f 0).toNat * t f 2 ∧ bs_nl g r (t f 0).toNat * t f 4 ≤ t f 3 * bs_nd g r (t f 0).toNat
/-- item x of the stack stands for node k: x = 2n: n and all below it; x = 2n + 1: n alone -/
def bs_in (A : Nat → Nat → Int) (x k : Nat) : Prop := k = x / 2 ∨ (x % 2 = 0 ∧ A k (x / 2) ≠ 0)
def bs_pw (g : Nat → Nat → Int) (P : Nat) (t A : Nat → Nat → Int) (r : Nat → Int) (x y : Nat) : Prop := ∀ f h : Nat, f < P → h < P → bs_in A x (t f 5).toNat → bs_in A y (t h 5).toNat → bs_hp g t r f → bs_hp g t r h → bs_le g r (t f 0).toNat (t h 0).toNat
def bs_op (x : Int) (l : List Nat) : List Nat := if x < 0 then l else (2 * x.toNat) :: l
def bs_cl (g : Nat → Nat → Int) (C P : Nat) (t A : Nat → Nat → Int) (r : Nat → Int) (l : List Nat) (x y : Int) : Prop :=
  (x = -4 ∧ y = -4 ∧ ∀ f, f < P → bs_hp g t r f → ∃ z, z ∈ l ∧ bs_in A z (t f 5).toNat) ∨ (∃ p : Nat, p < C ∧ x = (p : Int) ∧ y = bs_dist g r p ∧ bs_hit g r p ∧ ∀ f, f < P → bs_hp g t r f → bs_le g r p (t f 0).toNat)
/-- in the midst of drawing node n: its pieces below i are drawn -/
def bs_cd (g : Nat → Nat → Int) (C P : Nat) (t A : Nat → Nat → Int) (r : Nat → Int) (l : List Nat) (n i : Nat) (x y : Int) : Prop :=
  (x = -4 ∧ y = -4 ∧ ∀ f, f < P → bs_hp g t r f → (t f 5 = (n : Int) ∧ i ≤ f) ∨ ∃ z, z ∈ l ∧ bs_in A z (t f 5).toNat) ∨ (∃ p : Nat, p < C ∧ x = (p : Int) ∧ y = bs_dist g r p ∧ bs_hit g r p ∧ ∀ f, f < P → bs_hp g t r f → bs_le g r p (t f 0).toNat)
theorem bs_hpF {g t : Nat → Nat → Int} {C : Nat} {r : Nat → Int} {f w : Nat} {c : Int} (h : bs_hp g t r f) (b : bs_pb C t f) (l : 0 ≤ c * bs_lo g t w f) (l2 : 0 ≤ c * bs_hi g t w f) : 0 ≤ c * bs_F g w (t f 0).toNat (bs_nl g r (t f 0).toNat) (bs_nd g r (t f 0).toNat) := by
  obtain ⟨b0, b00, b11, b12, b13, b14, b21, b22, b23, b24⟩ := b
  obtain ⟨h1, h2, h3, h4⟩ := h
  have z : ∀ N D : Int, c * bs_F g w (t f 0).toNat N D = (c * bs_f1 g w (t f 0).toNat) * D + N * (c * (bs_f2 g w (t f 0).toNat - bs_f1 g w (t f 0).toNat)) := fun N D => by
    unfold bs_F
    grind
  unfold bs_lo at l
  unfold bs_hi at l2
  rw [z] at l l2 ⊢
  exact bs_bw b13 b23 h1 h3 h4 l l2
theorem bs_hph {g t : Nat → Nat → Int} {C : Nat} {r : Nat → Int} {f : Nat} (h : bs_hp g t r f) (b : bs_pb C t f) : bs_hit g r (t f 0).toNat := by
  obtain ⟨b0, b00, b11, b12, b13, b14, b21, b22, b23, b24⟩ := b
  obtain ⟨h1, h2, h3, h4⟩ := h
  refine ⟨h1, h2, ?_, ?_⟩
  · have := Int.mul_nonneg b11 (Int.le_of_lt h1)
    exact bs_pos b13 (by omega)
  · have := Int.mul_le_mul_of_nonneg_right b22 (Int.le_of_lt h1)
    have e : (bs_nd g r (t f 0).toNat - bs_nl g r (t f 0).toNat) * t f 4 = t f 4 * bs_nd g r (t f 0).toNat - bs_nl g r (t f 0).toNat * t f 4 := by grind
    have := bs_pos b23 (show 0 ≤ (bs_nd g r (t f 0).toNat - bs_nl g r (t f 0).toNat) * t f 4 by omega)
    omega
theorem bs_fin {g : Nat → Nat → Int} {C P : Nat} {t A : Nat → Nat → Int} {r : Nat → Int} {l : List Nat} {x y : Int} (h : bs_cl g C P t A r l x y) (e : l = [] ∨ 0 ≤ x) (hc : bs_cov C P t) : bs_see g C r x y := by
  have cv : ∀ p, p < C → bs_hit g r p → ∃ f, f < P ∧ (t f 0).toNat = p ∧ bs_hp g t r f := fun p hp hh => by
    obtain ⟨f, f1, f2, f3, f4⟩ := hc p hp (bs_nl g r p) (bs_nd g r p) hh.1 hh.2.2.1 hh.2.2.2
    have e : (t f 0).toNat = p := by omega
    refine ⟨f, f1, e, ?_⟩
    unfold bs_hp
    rw [e]
    exact ⟨hh.1, hh.2.1, f3, f4⟩
  rcases h with ⟨a, b, c⟩ | ⟨p, p1, p2, p3, p4, p5⟩
  · refine Or.inl ⟨a, b, fun p hp hh => ?_⟩
    obtain ⟨f, f1, f2, f3⟩ := cv p hp hh
    obtain ⟨z, z1, _⟩ := c f f1 f3
    rcases e with e | e
    · rw [e] at z1
      exact absurd z1 (List.not_mem_nil)
    · omega
  · refine Or.inr ⟨p, p1, p2, p3, p4, fun q hq hh => ?_⟩
    obtain ⟨f, f1, f2, f3⟩ := cv q hq hh
    have := p5 f f1 f3
    rw [f2] at this
    exact this
/-- which sign the viewpoint has to a line -/
def bs_sgn (g : Nat → Nat → Int) (r : Nat → Int) (w : Nat) (σ : Int) : Prop := σ = 1 ∧ 0 ≤ bs_sd g w (r 0) (r 1) ∨ σ = -1 ∧ bs_sd g w (r 0) (r 1) < 0
def bs_up (g : Nat → Nat → Int) (P : Nat) (t A : Nat → Nat → Int) (r : Nat → Int) (w : Nat) (σ : Int) (x : Nat) : Prop := ∀ f, f < P → bs_in A x (t f 5).toNat → bs_hp g t r f → 0 ≤ σ * bs_F g w (t f 0).toNat (bs_nl g r (t f 0).toNat) (bs_nd g r (t f 0).toNat)
theorem bs_R {g : Nat → Nat → Int} {P : Nat} {t A : Nat → Nat → Int} {r : Nat → Int} {w : Nat} {σ : Int} {x y : Nat} (hs : bs_sgn g r w σ) (hw : bs_rd g r w ≠ 0) (u : bs_up g P t A r w σ x) (v : bs_up g P t A r w (-σ) y) : bs_pw g P t A r x y := by
  intro f h hf hh i1 i2 p1 p2
  have a := u f hf i1 p1
  have b := v h hh i2 p2
  rw [Int.neg_mul] at b
  exact bs_ord hs hw p1.1 p1.2.1 p2.1 p2.2.1 a (by omega)
theorem bs_sub {N : Nat} {s A : Nat → Nat → Int} (h : bs_NI N s A) {n e k : Nat} (hn : n < N) (he : e = 1 ∨ e = 2) (hs : 0 ≤ s n e) (hk : k < N) (i : bs_in A (2 * (s n e).toNat) k) : A k n = 3 - 2 * (e : Int) := by
  rcases h.2.2.1 n e hn he with z | ⟨m, m1, m2, m3, m4, m5⟩
  · omega
  · rw [m1, Int.toNat_natCast] at i
    unfold bs_in at i
    rw [show 2 * m / 2 = m by omega] at i
    rcases i with i | i
    · rw [i]; exact m4
    · rw [h.2.2.2.2.1 k m n hk i.2 (by rw [m4]; omega)]
      exact m4
theorem bs_upc {g : Nat → Nat → Int} {C P : Nat} {t : Nat → Nat → Int} {N : Nat} {s A : Nat → Nat → Int} (h : bs_TF g C P t N s A) {r : Nat → Int} {n e w : Nat} (hn : n < N) (hw : s n 0 = (w : Int)) (he : e = 1 ∨ e = 2) (hs : 0 ≤ s n e) : bs_up g P t A r w (3 - 2 * (e : Int)) (2 * (s n e).toNat) := by
  intro f hf i p
  have o := h.1.2.2.1 f hf
  have a := bs_sub h.1.1 hn he hs (show (t f 5).toNat < N by omega) i
  have q := h.1.2.2.2.1 f n hf
  rw [a, hw, Int.toNat_natCast] at q
  exact bs_hpF p (h.1.2.1 f hf) q.1 q.2
theorem bs_upo {g : Nat → Nat → Int} {C P : Nat} {t : Nat → Nat → Int} {N : Nat} {s A : Nat → Nat → Int} (h : bs_TF g C P t N s A) {r : Nat → Int} {n w : Nat} (hw : s n 0 = (w : Int)) (σ : Int) : bs_up g P t A r w σ (2 * n + 1) := by
  intro f hf i p
  have o := h.1.2.2.1 f hf
  have on : (t f 5).toNat = n := by
    unfold bs_in at i
    omega
  have q := h.1.2.2.2.2.1 f hf (h.2.2.2 f hf)
  rw [on, hw, Int.toNat_natCast] at q
  exact bs_hpF p (h.1.2.1 f hf) (by rw [q.1]; omega) (by rw [q.2]; omega)
theorem bs_pwop {R : Nat → Nat → Prop} {x : Int} {l : List Nat} (h : 0 ≤ x → ∀ y, y ∈ l → R (2 * x.toNat) y) (k : l.Pairwise R) : (bs_op x l).Pairwise R := by
  unfold bs_op
  split
  · exact k
  · exact List.pairwise_cons.mpr ⟨h (by omega), k⟩
theorem bs_opm {x : Int} {l : List Nat} {y : Nat} (h : y ∈ bs_op x l) : (0 ≤ x ∧ y = 2 * x.toNat) ∨ y ∈ l := by
  unfold bs_op at h
  split at h
  · exact Or.inr h
  · rcases List.mem_cons.mp h with z | z
    · exact Or.inl ⟨by omega, z⟩
    · exact Or.inr z
theorem bs_opl {x : Int} {l : List Nat} {y : Nat} (h : y ∈ l) : y ∈ bs_op x l := by
  unfold bs_op
  split
  · exact h
  · exact List.mem_cons_of_mem _ h
theorem bs_opx {x : Int} {l : List Nat} (h : 0 ≤ x) : 2 * x.toNat ∈ bs_op x l := by
  unfold bs_op
  rw [if_neg (by omega)]
  exact List.mem_cons_self
/-- the stack after a visit of n: e is the nearer side -/
def bs_vl (s : Nat → Nat → Int) (n e : Nat) (l : List Nat) : List Nat := bs_op (s n e) ((2 * n + 1) :: bs_op (s n (3 - e)) l)
theorem bs_vpw {g : Nat → Nat → Int} {C P : Nat} {t : Nat → Nat → Int} {N : Nat} {s A : Nat → Nat → Int} (h : bs_TF g C P t N s A) {r : Nat → Int} {n e w : Nat} {l : List Nat} (hn : n < N) (hw : s n 0 = (w : Int)) (he : e = 1 ∨ e = 2) (hs : bs_sgn g r w (3 - 2 * (e : Int))) (hr : bs_rd g r w ≠ 0)
    (k : (2 * n :: l).Pairwise (bs_pw g P t A r)) : (bs_vl s n e l).Pairwise (bs_pw g P t A r) := by
  obtain ⟨k1, k2⟩ := List.pairwise_cons.mp k
  have he' : 3 - e = 1 ∨ 3 - e = 2 := by omega
  have sg : 3 - 2 * ((3 - e : Nat) : Int) = -(3 - 2 * (e : Int)) := by omega
  have subc : ∀ e' : Nat, e' = 1 ∨ e' = 2 → 0 ≤ s n e' → ∀ y, y ∈ l → bs_pw g P t A r (2 * (s n e').toNat) y := fun e' he' z y hy f q hf hq i1 i2 p1 p2 => by
    have o := h.1.2.2.1 f hf
    have a := bs_sub h.1.1 hn he' z (show (t f 5).toNat < N by omega) i1
    refine k1 y hy f q hf hq (Or.inr ⟨by omega, ?_⟩) i2 p1 p2
    rw [show 2 * n / 2 = n by omega, a]
    omega
  have sube : ∀ y, y ∈ l → bs_pw g P t A r (2 * n + 1) y := fun y hy f q hf hq i1 i2 p1 p2 => by
    refine k1 y hy f q hf hq (Or.inl ?_) i2 p1 p2
    unfold bs_in at i1
    omega
  have un := fun (z : 0 ≤ s n e) => bs_upc (r := r) h hn hw he z
  have uf := fun (z : 0 ≤ s n (3 - e)) => bs_upc (r := r) h hn hw he' z
  rw [sg] at uf
  have uo := fun σ => bs_upo (r := r) h hw σ
  unfold bs_vl
  refine bs_pwop (fun z y hy => ?_) (List.pairwise_cons.mpr ⟨fun y hy => ?_, bs_pwop (fun z => subc _ he' z) k2⟩)
  · rcases List.mem_cons.mp hy with q | q
    · rw [q]
      exact bs_R hs hr (un z) (uo _)
    · rcases bs_opm q with ⟨q1, q2⟩ | q
      · rw [q2]
        exact bs_R hs hr (un z) (uf q1)
      · exact subc e he z y q
  · rcases bs_opm hy with ⟨q1, q2⟩ | q
    · rw [q2]
      exact bs_R hs hr (uo _) (uf q1)
    · exact sube y q
theorem bs_vin {N : Nat} {s A : Nat → Nat → Int} (h : bs_NI N s A) {n e k : Nat} {l : List Nat} (he : e = 1 ∨ e = 2) (hk : k < N) (i : bs_in A (2 * n) k) : ∃ z, z ∈ bs_vl s n e l ∧ bs_in A z k := by
  have ch : ∀ e' : Nat, e' = 1 ∨ e' = 2 → A k n = 3 - 2 * (e' : Int) → ∃ z, z ∈ bs_vl s n e l ∧ bs_in A z k := fun e' he' z => by
    obtain ⟨m, m1, m2⟩ := h.2.2.2.1 k n e' hk he' z
    refine ⟨2 * (s n e').toNat, ?_, ?_⟩
    · unfold bs_vl
      by_cases q : e' = e
      · rw [q]
        exact bs_opx (by rw [← q, m1]; omega)
      · have : e' = 3 - e := by omega
        rw [this]
        exact bs_opl (List.mem_cons_of_mem _ (bs_opx (by rw [← this, m1]; omega)))
    · unfold bs_in
      rw [m1, Int.toNat_natCast, show 2 * m / 2 = m by omega]
      rcases m2 with m2 | m2
      · exact Or.inl m2
      · exact Or.inr ⟨by omega, m2⟩
  unfold bs_in at i
  rw [show 2 * n / 2 = n by omega] at i
  rcases i with i | i
  · refine ⟨2 * n + 1, bs_opl List.mem_cons_self, Or.inl ?_⟩
    omega
  · rcases h.2.1 k n hk with z | z | z
    · exact absurd z i.2
    · exact ch 1 (Or.inl rfl) (by omega)
    · exact ch 2 (Or.inr rfl) (by omega)
theorem bs_vcl {g : Nat → Nat → Int} {C P : Nat} {t : Nat → Nat → Int} {N : Nat} {s A : Nat → Nat → Int} (h : bs_TF g C P t N s A) {r : Nat → Int} {n e : Nat} {l : List Nat} {x y : Int} (he : e = 1 ∨ e = 2) (k : bs_cl g C P t A r (2 * n :: l) x y) : bs_cl g C P t A r (bs_vl s n e l) x y := by
  rcases k with ⟨a, b, c⟩ | k
  · refine Or.inl ⟨a, b, fun f hf p => ?_⟩
    have o := h.1.2.2.1 f hf
    obtain ⟨z, z1, z2⟩ := c f hf p
    rcases List.mem_cons.mp z1 with q | q
    · rw [q] at z2
      exact bs_vin h.1.1 he (by omega) z2
    · exact ⟨z, bs_opl (List.mem_cons_of_mem _ (bs_opl q)), z2⟩
  · exact Or.inr k
theorem bs_vN {N : Nat} {s A : Nat → Nat → Int} (h : bs_NI N s A) {n e : Nat} {l : List Nat} (hn : n < N) (he : e = 1 ∨ e = 2) (k : ∀ x, x ∈ l → x / 2 < N) : ∀ x, x ∈ bs_vl s n e l → x / 2 < N := by
  have ch : ∀ e' : Nat, e' = 1 ∨ e' = 2 → 0 ≤ s n e' → 2 * (s n e').toNat / 2 < N := fun e' he' z => by
    rcases h.2.2.1 n e' hn he' with y | ⟨m, m1, m2, m3, _⟩
    · omega
    · rw [m1, Int.toNat_natCast]
      omega
  intro x hx
  rcases bs_opm hx with ⟨a, b⟩ | hx
  · rw [b]
    exact ch e he a
  · rcases List.mem_cons.mp hx with q | q
    · omega
    · rcases bs_opm q with ⟨a, b⟩ | q
      · rw [b]
        exact ch (3 - e) (by omega) a
      · exact k x q
/-! the rounds: a weight that falls -/
def bs_wn (N : Nat) (A : Nat → Nat → Int) (n : Nat) : Nat := bs_S (fun k => if k = n ∨ A k n ≠ 0 then 1 else 0) N
def bs_wt (N : Nat) (A : Nat → Nat → Int) (x : Nat) : Nat := if x % 2 = 1 then 1 else 2 * bs_wn N A (x / 2)
def bs_ws (N : Nat) (A : Nat → Nat → Int) : List Nat → Nat
  | [] => 0
  | x :: l => bs_wt N A x + bs_ws N A l
theorem bs_wtE (N : Nat) (A : Nat → Nat → Int) (n : Nat) : bs_wt N A (2 * n) = 2 * bs_wn N A n := by
  unfold bs_wt
  rw [if_neg (by omega), show 2 * n / 2 = n by omega]
theorem bs_wtO (N : Nat) (A : Nat → Nat → Int) (n : Nat) : bs_wt N A (2 * n + 1) = 1 := by
  unfold bs_wt
  rw [if_pos (by omega)]
theorem bs_wn1 {N : Nat} {A : Nat → Nat → Int} {n : Nat} (h : n < N) : 1 ≤ bs_wn N A n := by
  have := bs_Slt (a := fun _ => 0) (b := fun _ => 0) (c := fun k => if k = n ∨ A k n ≠ 0 then 1 else 0) (n := N) (j := n) (fun i _ => by omega) h (by
    show 0 + 0 + 1 ≤ (if n = n ∨ A n n ≠ 0 then 1 else 0)
    rw [if_pos (Or.inl rfl)]
    omega)
  unfold bs_wn
  omega
theorem bs_wnN (N : Nat) (A : Nat → Nat → Int) (n : Nat) : bs_wn N A n ≤ N := by
  have := bs_Sb (h := fun k => if k = n ∨ A k n ≠ 0 then 1 else 0) (b := 1) (n := N) (fun i _ => by
    show (if i = n ∨ A i n ≠ 0 then 1 else 0) ≤ 1
    split <;> omega)
  unfold bs_wn
  omega
theorem bs_wl {N : Nat} {A : Nat → Nat → Int} : ∀ {l : List Nat}, (∀ x, x ∈ l → x / 2 < N) → l.length ≤ bs_ws N A l
  | [], _ => Nat.le_refl 0
  | x :: l, h => by
    have := bs_wl (A := A) (l := l) (fun y hy => h y (List.mem_cons_of_mem _ hy))
    have := bs_wn1 (A := A) (h x List.mem_cons_self)
    show l.length + 1 ≤ bs_wt N A x + bs_ws N A l
    unfold bs_wt
    split <;> omega
theorem bs_wop (N : Nat) (A : Nat → Nat → Int) (x : Int) (l : List Nat) : bs_ws N A (bs_op x l) = (if x < 0 then 0 else 2 * bs_wn N A x.toNat) + bs_ws N A l := by
  unfold bs_op
  split
  · omega
  · show bs_wt N A (2 * x.toNat) + bs_ws N A l = _
    unfold bs_wt
    rw [if_neg (by omega), show 2 * x.toNat / 2 = x.toNat by omega]
theorem bs_wv {N : Nat} {s A : Nat → Nat → Int} (h : bs_NI N s A) {n e : Nat} {l : List Nat} (hn : n < N) (he : e = 1 ∨ e = 2) : bs_ws N A (bs_vl s n e l) + 1 ≤ bs_ws N A (2 * n :: l) := by
  have he' : 3 - e = 1 ∨ 3 - e = 2 := by omega
  have inS : ∀ e' : Nat, e' = 1 ∨ e' = 2 → ∀ k, k < N → 0 ≤ s n e' → (k = (s n e').toNat ∨ A k (s n e').toNat ≠ 0) → A k n = 3 - 2 * (e' : Int) := fun e' q k hk z i => by
    refine bs_sub h hn q z hk ?_
    unfold bs_in
    rw [show 2 * (s n e').toNat / 2 = (s n e').toNat by omega]
    rcases i with i | i
    · exact Or.inl i
    · exact Or.inr ⟨by omega, i⟩
  have key : (if s n e < 0 then 0 else bs_wn N A (s n e).toNat) + (if s n (3 - e) < 0 then 0 else bs_wn N A (s n (3 - e)).toNat) + 1 ≤ bs_wn N A n := by
    have nn : A n n = 0 := by
      rcases Int.lt_trichotomy (A n n) 0 with z | z | z
      · have := h.1 n n hn (by omega)
        omega
      · exact z
      · have := h.1 n n hn (by omega)
        omega
    have cz : ∀ x : Int, (if x < 0 then 0 else bs_wn N A x.toNat) = bs_S (fun k => if 0 ≤ x ∧ (k = x.toNat ∨ A k x.toNat ≠ 0) then 1 else 0) N := fun x => by
      split
      · have := bs_Sb (h := fun k => if 0 ≤ x ∧ (k = x.toNat ∨ A k x.toNat ≠ 0) then 1 else 0) (b := 0) (n := N) (fun i _ => by
          show (if 0 ≤ x ∧ (i = x.toNat ∨ A i x.toNat ≠ 0) then 1 else 0) ≤ 0
          rw [if_neg (by omega)]
          omega)
        omega
      · unfold bs_wn
        refine bs_Sc (fun i _ => ?_)
        by_cases q : i = x.toNat ∨ A i x.toNat ≠ 0
        · rw [if_pos q, if_pos ⟨by omega, q⟩]
        · rw [if_neg q, if_neg (fun y => q y.2)]
    rw [cz, cz]
    unfold bs_wn
    refine bs_Slt (j := n) (fun k hk => ?_) hn ?_
    · by_cases q1 : 0 ≤ s n e ∧ (k = (s n e).toNat ∨ A k (s n e).toNat ≠ 0)
      · have a1 := inS e he k hk q1.1 q1.2
        rw [if_pos q1, if_pos (Or.inr (by omega))]
        by_cases q2 : 0 ≤ s n (3 - e) ∧ (k = (s n (3 - e)).toNat ∨ A k (s n (3 - e)).toNat ≠ 0)
        · have a2 := inS (3 - e) he' k hk q2.1 q2.2
          omega
        · rw [if_neg q2]
          omega
      · rw [if_neg q1]
        by_cases q2 : 0 ≤ s n (3 - e) ∧ (k = (s n (3 - e)).toNat ∨ A k (s n (3 - e)).toNat ≠ 0)
        · have a2 := inS (3 - e) he' k hk q2.1 q2.2
          rw [if_pos q2, if_pos (Or.inr (by omega))]
          omega
        · rw [if_neg q2]
          omega
    · have g1 : ¬ (0 ≤ s n e ∧ (n = (s n e).toNat ∨ A n (s n e).toNat ≠ 0)) := fun q1 => by
        have a1 := inS e he n hn q1.1 q1.2
        omega
      have g2 : ¬ (0 ≤ s n (3 - e) ∧ (n = (s n (3 - e)).toNat ∨ A n (s n (3 - e)).toNat ≠ 0)) := fun q1 => by
        have a1 := inS (3 - e) he' n hn q1.1 q1.2
        omega
      rw [if_neg g1, if_neg g2, if_pos (Or.inl rfl)]
      omega
  unfold bs_vl
  rw [bs_wop]
  show _ + (bs_wt N A (2 * n + 1) + bs_ws N A (bs_op (s n (3 - e)) l)) + 1 ≤ bs_wt N A (2 * n) + bs_ws N A l
  rw [bs_wop, bs_wtE, bs_wtO]
  by_cases c1 : s n e < 0
  · rw [if_pos c1] at key ⊢
    by_cases c2 : s n (3 - e) < 0
    · rw [if_pos c2] at key ⊢
      omega
    · rw [if_neg c2] at key ⊢
      omega
  · rw [if_neg c1] at key ⊢
    by_cases c2 : s n (3 - e) < 0
    · rw [if_pos c2] at key ⊢
      omega
    · rw [if_neg c2] at key ⊢
      omega
/-! drawing, a ray -/
theorem bs_cd0 {g : Nat → Nat → Int} {C P : Nat} {t A : Nat → Nat → Int} {r : Nat → Int} {l : List Nat} {n : Nat} {x y : Int} (o : ∀ f, f < P → 0 ≤ t f 5) (h : bs_cl g C P t A r ((2 * n + 1) :: l) x y) : bs_cd g C P t A r l n 0 x y := by
  rcases h with ⟨a, b, c⟩ | h
  · refine Or.inl ⟨a, b, fun f hf p => ?_⟩
    obtain ⟨z, z1, z2⟩ := c f hf p
    rcases List.mem_cons.mp z1 with q | q
    · left
      rw [q] at z2
      unfold bs_in at z2
      have := o f hf
      omega
    · exact Or.inr ⟨z, q, z2⟩
  · exact Or.inr h
theorem bs_cdE {g : Nat → Nat → Int} {C P : Nat} {t A : Nat → Nat → Int} {r : Nat → Int} {l : List Nat} {n : Nat} {x y : Int} (h : bs_cd g C P t A r l n P x y) : bs_cl g C P t A r l x y := by
  rcases h with ⟨a, b, c⟩ | h
  · refine Or.inl ⟨a, b, fun f hf p => ?_⟩
    rcases c f hf p with q | q
    · omega
    · exact q
  · exact Or.inr h
theorem bs_cdN {g : Nat → Nat → Int} {C P : Nat} {t A : Nat → Nat → Int} {r : Nat → Int} {l : List Nat} {n i : Nat} {x y : Int} (h : bs_cd g C P t A r l n i x y) (z : 0 ≤ x ∨ t i 5 ≠ (n : Int) ∨ ¬ bs_hp g t r i) : bs_cd g C P t A r l n (i + 1) x y := by
  rcases h with ⟨a, b, c⟩ | h
  · refine Or.inl ⟨a, b, fun f hf p => ?_⟩
    rcases c f hf p with ⟨q, q2⟩ | q
    · left
      by_cases e : f = i
      · rw [e] at q p
        rcases z with z | z | z
        · omega
        · exact absurd q z
        · exact absurd p z
      · exact ⟨q, by omega⟩
    · exact Or.inr q
  · exact Or.inr h
theorem bs_cdH {g : Nat → Nat → Int} {C P : Nat} {t : Nat → Nat → Int} {N : Nat} {s A : Nat → Nat → Int} (h : bs_TF g C P t N s A) {r : Nat → Int} {l : List Nat} {n i w : Nat} {x y x' y' : Int} (hw : s n 0 = (w : Int)) (hr : bs_rd g r w ≠ 0)
    (k : ((2 * n + 1) :: l).Pairwise (bs_pw g P t A r)) (c : bs_cd g C P t A r l n i x y) (hx : x < 0) (hi : i < P) (o : t i 5 = (n : Int)) (p : bs_hp g t r i) (e1 : x' = t i 0) (e2 : y' = bs_dist g r (t i 0).toNat) : bs_cd g C P t A r l n (i + 1) x' y' := by
  have b := h.1.2.1 i hi
  rcases c with ⟨c1, c2, c3⟩ | ⟨q, q1, q2, _⟩
  · refine Or.inr ⟨(t i 0).toNat, ?_, ?_, e2, bs_hph p b, fun f hf pf => ?_⟩
    · unfold bs_pb at b
      omega
    · unfold bs_pb at b
      omega
    · have ini : bs_in A (2 * n + 1) (t i 5).toNat := Or.inl (by omega)
      rcases c3 f hf pf with ⟨a1, a2⟩ | ⟨z, z1, z2⟩
      · have inf : bs_in A (2 * n + 1) (t f 5).toNat := Or.inl (by omega)
        have sg : ∃ σ, bs_sgn g r w σ := by
          rcases bs_lg (bs_sd g w (r 0) (r 1)) 0 with z | z
          · exact ⟨-1, Or.inr ⟨rfl, z⟩⟩
          · exact ⟨1, Or.inl ⟨rfl, z⟩⟩
        obtain ⟨σ, hσ⟩ := sg
        exact bs_R hσ hr (bs_upo h hw σ) (bs_upo h hw (-σ)) i f hi hf ini inf p pf
      · exact (List.pairwise_cons.mp k).1 z z1 i f hi hf ini z2 p pf
  · omega
end
section
/-! machine ints as ints -/
theorem bs_ia {a b : Int32} (h1 : -2147483648 ≤ a.toInt + b.toInt) (h2 : a.toInt + b.toInt < 2147483648) : (a + b).toInt = a.toInt + b.toInt := by
  rw [Int32.toInt_add]
  exact Int.bmod_eq_of_le (by omega) (by omega)
theorem bs_is {a b : Int32} (h1 : -2147483648 ≤ a.toInt - b.toInt) (h2 : a.toInt - b.toInt < 2147483648) : (a - b).toInt = a.toInt - b.toInt := by
  rw [Int32.toInt_sub]
  exact Int.bmod_eq_of_le (by omega) (by omega)
theorem bs_im {a b : Int32} (h1 : -2147483648 ≤ a.toInt * b.toInt) (h2 : a.toInt * b.toInt < 2147483648) : (a * b).toInt = a.toInt * b.toInt := by
  rw [Int32.toInt_mul]
  exact Int.bmod_eq_of_le (by omega) (by omega)
theorem bs_ine {a : Int32} (h1 : -2147483647 ≤ a.toInt) (h2 : a.toInt ≤ 2147483647) : (-a).toInt = -a.toInt := by
  rw [Int32.toInt_neg]
  exact Int.bmod_eq_of_le (by omega) (by omega)
theorem bs_la {a b : Int64} (h1 : -9223372036854775808 ≤ a.toInt + b.toInt) (h2 : a.toInt + b.toInt < 9223372036854775808) : (a + b).toInt = a.toInt + b.toInt := by
  rw [Int64.toInt_add]
  exact Int.bmod_eq_of_le (by omega) (by omega)
theorem bs_ls {a b : Int64} (h1 : -9223372036854775808 ≤ a.toInt - b.toInt) (h2 : a.toInt - b.toInt < 9223372036854775808) : (a - b).toInt = a.toInt - b.toInt := by
  rw [Int64.toInt_sub]
  exact Int.bmod_eq_of_le (by omega) (by omega)
theorem bs_lm {a b : Int64} (h1 : -9223372036854775808 ≤ a.toInt * b.toInt) (h2 : a.toInt * b.toInt < 9223372036854775808) : (a * b).toInt = a.toInt * b.toInt := by
  rw [Int64.toInt_mul]
  exact Int.bmod_eq_of_le (by omega) (by omega)
theorem bs_lne {a : Int64} (h1 : -9223372036854775807 ≤ a.toInt) (h2 : a.toInt ≤ 9223372036854775807) : (-a).toInt = -a.toInt := by
  rw [Int64.toInt_neg]
  exact Int.bmod_eq_of_le (by omega) (by omega)
theorem bs_pbd {x y a b : Int} (hx : -a ≤ x ∧ x ≤ a) (hy : -b ≤ y ∧ y ≤ b) : -(a * b) ≤ x * y ∧ x * y ≤ a * b := by
  have e1 := Int.mul_nonneg (show 0 ≤ a - x by omega) (show 0 ≤ b - y by omega)
  have e2 := Int.mul_nonneg (show 0 ≤ a + x by omega) (show 0 ≤ b + y by omega)
  have e3 := Int.mul_nonneg (show 0 ≤ a - x by omega) (show 0 ≤ b + y by omega)
  have e4 := Int.mul_nonneg (show 0 ≤ a + x by omega) (show 0 ≤ b - y by omega)
  have f1 : (a - x) * (b - y) + (a + x) * (b + y) = 2 * (a * b) + 2 * (x * y) := by grind
  have f2 : (a - x) * (b + y) + (a + x) * (b - y) = 2 * (a * b) - 2 * (x * y) := by grind
  omega
def bs_b (b : Int) (x : Int) : Prop := -b ≤ x ∧ x ≤ b
/-- e * q - f * p over ints of the machine -/
theorem bs_det {b b' : Int} {e q f p : Int32} (he : bs_b b e.toInt) (hf : bs_b b f.toInt) (hq : bs_b b' q.toInt) (hp : bs_b b' p.toInt) (hb : b * b' ≤ 1000000) :
    (e * q - f * p).toInt = e.toInt * q.toInt - f.toInt * p.toInt ∧ bs_b (2 * (b * b')) (e.toInt * q.toInt - f.toInt * p.toInt) := by
  have h1 := bs_pbd he hq
  have h2 := bs_pbd hf hp
  have m1 : (e * q).toInt = e.toInt * q.toInt := bs_im (by omega) (by omega)
  have m2 : (f * p).toInt = f.toInt * p.toInt := bs_im (by omega) (by omega)
  refine ⟨?_, ?_⟩
  · rw [bs_is (by omega) (by omega), m1, m2]
  · unfold bs_b
    omega
theorem bs_d28 {x y : Int32} (hx : bs_b 14 x.toInt) (hy : bs_b 14 y.toInt) : (x - y).toInt = x.toInt - y.toInt ∧ bs_b 28 (x.toInt - y.toInt) := by
  unfold bs_b at hx hy ⊢
  exact ⟨bs_is (by omega) (by omega), by omega⟩
theorem bs_sd32 {x0 y0 x1 y1 x y : Int32} (h0 : bs_b 14 x0.toInt) (h1 : bs_b 14 y0.toInt) (h2 : bs_b 14 x1.toInt) (h3 : bs_b 14 y1.toInt) (hx : bs_b 14 x.toInt) (hy : bs_b 14 y.toInt) :
    ((x1 - x0) * (y - y0) - (y1 - y0) * (x - x0)).toInt = (x1.toInt - x0.toInt) * (y.toInt - y0.toInt) - (y1.toInt - y0.toInt) * (x.toInt - x0.toInt) ∧ bs_b 1568 ((x1.toInt - x0.toInt) * (y.toInt - y0.toInt) - (y1.toInt - y0.toInt) * (x.toInt - x0.toInt)) := by
  obtain ⟨e1, b1⟩ := bs_d28 h2 h0
  obtain ⟨e2, b2⟩ := bs_d28 hy h1
  obtain ⟨e3, b3⟩ := bs_d28 h3 h1
  obtain ⟨e4, b4⟩ := bs_d28 hx h0
  have k := bs_det (e := x1 - x0) (q := y - y0) (f := y1 - y0) (p := x - x0) (b := 28) (b' := 28) (by rw [e1]; exact b1) (by rw [e3]; exact b3) (by rw [e2]; exact b2) (by rw [e4]; exact b4) (by omega)
  rw [e1, e2, e3, e4] at k
  exact k
/-! the state as ints -/
def bs_gv (a1 a2 a3 a4 : Nat → Int32) : Nat → Nat → Int := fun w k => match k with
  | 0 => (a1 w).toInt
  | 1 => (a2 w).toInt
  | 2 => (a3 w).toInt
  | _ => (a4 w).toInt
def bs_tv (a5 : Nat → Int32) (a6 a7 a8 a9 : Nat → Int64) (a10 a11 : Nat → Int32) : Nat → Nat → Int := fun f k => match k with
  | 0 => (a5 f).toInt
  | 1 => (a6 f).toInt
  | 2 => (a7 f).toInt
  | 3 => (a8 f).toInt
  | 4 => (a9 f).toInt
  | 5 => (a10 f).toInt
  | _ => (a11 f).toInt
def bs_sv (a12 a13 a14 : Nat → Int32) : Nat → Nat → Int := fun n k => match k with
  | 0 => (a12 n).toInt
  | 1 => (a13 n).toInt
  | _ => (a14 n).toInt
def bs_gb (g : Nat → Nat → Int) (C : Nat) : Prop := ∀ w k, w < C → k < 4 → bs_b 14 (g w k)
theorem bs_okb {g : Nat → Nat → Int} {C : Nat} (h : bs_ok g C) : bs_gb g C := fun w k hw hk => ⟨(h.1 w k hw hk).1, (h.1 w k hw hk).2.1⟩
theorem bs_nIof {x : Int32} (h : 0 ≤ x.toInt) : x = nI x.toInt.toNat ∧ x.toNatClampNeg = x.toInt.toNat := by
  have l : ¬ x < 0 := by
    rw [Int32.lt_iff_toInt_lt]
    show ¬ x.toInt < 0
    omega
  obtain ⟨j, j1, j2⟩ := nI_of l
  have t := nI_toInt j1
  rw [j2, t, nI_clamp j1]
  exact ⟨by rw [Int.toNat_natCast], by rw [Int.toNat_natCast]⟩
theorem bs_nIt {x : Int32} {n : Nat} (h : x.toInt = (n : Int)) : x = nI n := by
  have := (bs_nIof (x := x) (by omega)).1
  rw [h, Int.toNat_natCast] at this
  exact this
theorem bs_le0 {x y : Int32} : x ≤ y ↔ x.toInt ≤ y.toInt := Int32.le_iff_toInt_le
theorem bs_lt0 {x y : Int32} : x < y ↔ x.toInt < y.toInt := Int32.lt_iff_toInt_lt
theorem bs_eq0 {x y : Int32} : x = y ↔ x.toInt = y.toInt := Int32.toInt_inj.symm
theorem bs_le1 {x y : Int64} : x ≤ y ↔ x.toInt ≤ y.toInt := Int64.le_iff_toInt_le
theorem bs_lt1 {x y : Int64} : x < y ↔ x.toInt < y.toInt := Int64.lt_iff_toInt_lt
theorem bs_eq1 {x y : Int64} : x = y ↔ x.toInt = y.toInt := Int64.toInt_inj.symm
theorem bs_z0 : (0 : Int32).toInt = 0 := rfl
theorem bs_z1 : (1 : Int32).toInt = 1 := rfl
theorem bs_zm1 : (-1 : Int32).toInt = -1 := rfl
theorem bs_zm4 : (-4 : Int32).toInt = -4 := rfl
theorem bs_z2 : (2 : Int32).toInt = 2 := rfl
theorem bs_L0 : (0 : Int64).toInt = 0 := rfl
theorem bs_L1 : (1 : Int64).toInt = 1 := rfl
theorem bs_k12 : ¬ (1 : Int32) = 2 := by decide
theorem bs_km2 : ¬ (-1 : Int32) = 2 := by decide
theorem bs_k02 : ¬ (0 : Int32) = 2 := by decide
theorem bs_km1 : ¬ (-1 : Int32) = 1 := by decide
theorem bs_k01 : ¬ (0 : Int32) = 1 := by decide
theorem bs_k0m : ¬ (0 : Int32) = -1 := by decide
theorem bs_k10 : ¬ (1 : Int32) = 0 := by decide
end
section
/-! the walk: side, sign, sideAt, place, cuts, bestLine -/
section
variable {fc : Int32} {fvx : Int32} {fvy : Int32} {fb : Int32} {fp : Int32} {fn : Int32} {fo : Int32} {fdx : Int32} {fdy : Int32} {fs : Int32} {a1 : Nat → Int32} {a2 : Nat → Int32} {a3 : Nat → Int32} {a4 : Nat → Int32} {a5 : Nat → Int32} {a6 : Nat → Int64} {a7 : Nat → Int64} {a8 : Nat → Int64} {a9 : Nat → Int64} {a10 : Nat → Int32} {a11 : Nat → Int32} {a12 : Nat → Int32} {a13 : Nat → Int32} {a14 : Nat → Int32} {a15 : Nat → Int32} {a16 : Nat → Int32} {a17 : Nat → Int32}
theorem bs_wside {post : Int32 → Prop} {w : Nat} {x y : Int32} (hw : w < 10) (hg : ∀ k, k < 4 → bs_b 14 (bs_gv a1 a2 a3 a4 w k)) (hx : bs_b 14 x.toInt) (hy : bs_b 14 y.toInt)
    (H : ∀ v : Int32, v.toInt = bs_sd (bs_gv a1 a2 a3 a4) w x.toInt y.toInt → bs_b 1568 v.toInt → post v) : wpX_side post (fc, fvx, fvy, fb, fp, fn, fo, fdx, fdy, fs, a1, a2, a3, a4, a5, a6, a7, a8, a9, a10, a11, a12, a13, a14, a15, a16, a17) (nI w) x y := by
  have i : vp_in (nI w) 10 := vp_in_nI hw (by omega)
  have k := bs_sd32 (x0 := a1 w) (y0 := a2 w) (x1 := a3 w) (y1 := a4 w) (hg 0 (by omega)) (hg 1 (by omega)) (hg 2 (by omega)) (hg 3 (by omega)) hx hy
  have k1 := H _ k.1 (by rw [k.1]; exact k.2)
  unfold wpX_side
  rw [nI_clamp (by omega)]
  exact ⟨i, i, i, i, i, i, k1⟩
def bs_sn (x v : Int) : Prop := (0 < x ∧ v = 1) ∨ (x < 0 ∧ v = -1) ∨ (x = 0 ∧ v = 0)
theorem bs_wsign {post : Int32 → Prop} {x : Int64} (H : ∀ v : Int32, bs_sn x.toInt v.toInt → post v) : wpX_sign post (fc, fvx, fvy, fb, fp, fn, fo, fdx, fdy, fs, a1, a2, a3, a4, a5, a6, a7, a8, a9, a10, a11, a12, a13, a14, a15, a16, a17) x := by
  unfold wpX_sign
  refine br_c (fun z => br_c (fun z2 => H 0 (Or.inr (Or.inr ⟨?_, rfl⟩))) (fun z2 => H (-1) (Or.inr (Or.inl ⟨?_, rfl⟩)))) (fun z => H 1 (Or.inl ⟨?_, rfl⟩))
  · rw [bs_le1, bs_L0] at z z2
    omega
  · rw [bs_le1, bs_L0] at z z2
    omega
  · rw [bs_le1, bs_L0] at z
    omega
theorem bs_wsideAt {post : Int32 → Prop} {C w p : Nat} {x y : Int64} (hC : C ≤ 10) (hw : w < C) (hp : p < C) (hg : bs_gb (bs_gv a1 a2 a3 a4) C) (hx : bs_b 3136 x.toInt) (hy : bs_b 3136 y.toInt)
    (H : ∀ v : Int32, bs_sn (bs_F (bs_gv a1 a2 a3 a4) w p x.toInt y.toInt) v.toInt → post v) : wpX_sideAt post (fc, fvx, fvy, fb, fp, fn, fo, fdx, fdy, fs, a1, a2, a3, a4, a5, a6, a7, a8, a9, a10, a11, a12, a13, a14, a15, a16, a17) (nI w) (nI p) x y := by
  have i : vp_in (nI p) 10 := vp_in_nI (by omega) (by omega)
  unfold wpX_sideAt
  rw [nI_clamp (by omega)]
  refine ⟨i, i, bs_wside (by omega) (fun k hk => hg w k hw hk) (hg p 0 hp (by omega)) (hg p 1 hp (by omega)) (fun v1 e1 b1 => ⟨i, i, bs_wside (by omega) (fun k hk => hg w k hw hk) (hg p 2 hp (by omega)) (hg p 3 hp (by omega)) (fun v2 e2 b2 => bs_wsign (fun v hv => H v ?_))⟩)⟩
  have d1 : (v2.toInt64 - v1.toInt64).toInt = v2.toInt - v1.toInt := by
    unfold bs_b at b1 b2
    rw [bs_ls (by rw [Int32.toInt_toInt64, Int32.toInt_toInt64]; omega) (by rw [Int32.toInt_toInt64, Int32.toInt_toInt64]; omega), Int32.toInt_toInt64, Int32.toInt_toInt64]
  have d2 : bs_b 3136 (v2.toInt - v1.toInt) := by
    unfold bs_b at b1 b2 ⊢
    omega
  have m1 := bs_pbd b1 hy
  have m2 := bs_pbd hx d2
  have q1 : (v1.toInt64 * y).toInt = v1.toInt * y.toInt := by
    rw [bs_lm (by rw [Int32.toInt_toInt64]; omega) (by rw [Int32.toInt_toInt64]; omega), Int32.toInt_toInt64]
  have q2 : (x * (v2.toInt64 - v1.toInt64)).toInt = x.toInt * (v2.toInt - v1.toInt) := by
    rw [bs_lm (by rw [d1]; omega) (by rw [d1]; omega), d1]
  have q3 : (v1.toInt64 * y + x * (v2.toInt64 - v1.toInt64)).toInt = v1.toInt * y.toInt + x.toInt * (v2.toInt - v1.toInt) := by
    rw [bs_la (by rw [q1, q2]; omega) (by rw [q1, q2]; omega), q1, q2]
  rw [q3, e1, e2] at hv
  exact hv
theorem bs_sn3 {x : Int} {v : Int32} (h : bs_sn x v.toInt) : bs_b 1 v.toInt := by
  unfold bs_sn at h
  unfold bs_b
  omega
theorem bs_snP {x v : Int} (h : bs_sn x v) : (0 < v ↔ 0 < x) ∧ (v < 0 ↔ x < 0) := by
  unfold bs_sn at h
  omega
theorem bs_plc {lo hi v1 v2 v : Int} (s1 : bs_sn lo v1) (s2 : bs_sn hi v2) (hv : bs_sn (v1 + v2) v) (nn : ¬ v1 * v2 < 0) :
    (v = 1 ∧ 0 ≤ lo ∧ 0 ≤ hi ∧ ¬ (lo = 0 ∧ hi = 0)) ∨ (v = -1 ∧ lo ≤ 0 ∧ hi ≤ 0 ∧ ¬ (lo = 0 ∧ hi = 0)) ∨ (v = 0 ∧ lo = 0 ∧ hi = 0) := by
  rw [bs_ng] at nn
  rcases s1 with ⟨a, b⟩ | ⟨a, b⟩ | ⟨a, b⟩ <;> rcases s2 with ⟨c, d⟩ | ⟨c, d⟩ | ⟨c, d⟩ <;> rcases hv with ⟨e, f⟩ | ⟨e, f⟩ | ⟨e, f⟩ <;> omega
theorem bs_plc2 {lo hi v1 v2 : Int} (s1 : bs_sn lo v1) (s2 : bs_sn hi v2) (nn : v1 * v2 < 0) : lo * hi < 0 := by
  rw [bs_ng] at nn ⊢
  have p1 := bs_snP s1
  have p2 := bs_snP s2
  rw [p1.1, p1.2, p2.1, p2.2] at nn
  exact nn
theorem bs_wplace {post : Int32 → Prop} {C f w : Nat} (hC : C ≤ 10) (hw : w < C) (hf : f < 128) (hg : bs_gb (bs_gv a1 a2 a3 a4) C) (hb : bs_pb C (bs_tv a5 a6 a7 a8 a9 a10 a11) f)
    (H2 : bs_lo (bs_gv a1 a2 a3 a4) (bs_tv a5 a6 a7 a8 a9 a10 a11) w f * bs_hi (bs_gv a1 a2 a3 a4) (bs_tv a5 a6 a7 a8 a9 a10 a11) w f < 0 → post 2)
    (H1 : 0 ≤ bs_lo (bs_gv a1 a2 a3 a4) (bs_tv a5 a6 a7 a8 a9 a10 a11) w f → 0 ≤ bs_hi (bs_gv a1 a2 a3 a4) (bs_tv a5 a6 a7 a8 a9 a10 a11) w f → ¬ (bs_lo (bs_gv a1 a2 a3 a4) (bs_tv a5 a6 a7 a8 a9 a10 a11) w f = 0 ∧ bs_hi (bs_gv a1 a2 a3 a4) (bs_tv a5 a6 a7 a8 a9 a10 a11) w f = 0) → post 1)
    (Hm : bs_lo (bs_gv a1 a2 a3 a4) (bs_tv a5 a6 a7 a8 a9 a10 a11) w f ≤ 0 → bs_hi (bs_gv a1 a2 a3 a4) (bs_tv a5 a6 a7 a8 a9 a10 a11) w f ≤ 0 → ¬ (bs_lo (bs_gv a1 a2 a3 a4) (bs_tv a5 a6 a7 a8 a9 a10 a11) w f = 0 ∧ bs_hi (bs_gv a1 a2 a3 a4) (bs_tv a5 a6 a7 a8 a9 a10 a11) w f = 0) → post (-1))
    (H0 : bs_lo (bs_gv a1 a2 a3 a4) (bs_tv a5 a6 a7 a8 a9 a10 a11) w f = 0 → bs_hi (bs_gv a1 a2 a3 a4) (bs_tv a5 a6 a7 a8 a9 a10 a11) w f = 0 → post 0) : wpX_place post (fc, fvx, fvy, fb, fp, fn, fo, fdx, fdy, fs, a1, a2, a3, a4, a5, a6, a7, a8, a9, a10, a11, a12, a13, a14, a15, a16, a17) (nI f) (nI w) := by
  have i : vp_in (nI f) 128 := vp_in_nI hf (by omega)
  have hb' := hb
  obtain ⟨b0, b00, b11, b12, b13, b14, b21, b22, b23, b24⟩ := hb
  have e5 : a5 f = nI ((bs_tv a5 a6 a7 a8 a9 a10 a11) f 0).toNat := (bs_nIof b0).1
  have pC : ((bs_tv a5 a6 a7 a8 a9 a10 a11) f 0).toNat < C := by omega
  unfold wpX_place
  rw [nI_clamp (by omega)]
  refine ⟨i, nm_r e5 ⟨i, i, bs_wsideAt hC hw pC hg ?_ ?_ (fun v1 s1 => ⟨i, i, bs_wsideAt hC hw pC hg ?_ ?_ (fun v2 s2 => ?_)⟩)⟩⟩
  · exact ⟨by show -3136 ≤ (bs_tv a5 a6 a7 a8 a9 a10 a11) f 1; omega, by show (bs_tv a5 a6 a7 a8 a9 a10 a11) f 1 ≤ 3136; omega⟩
  · exact ⟨by show -3136 ≤ (bs_tv a5 a6 a7 a8 a9 a10 a11) f 2; omega, b14⟩
  · exact ⟨by show -3136 ≤ (bs_tv a5 a6 a7 a8 a9 a10 a11) f 3; omega, by show (bs_tv a5 a6 a7 a8 a9 a10 a11) f 3 ≤ 3136; omega⟩
  · exact ⟨by show -3136 ≤ (bs_tv a5 a6 a7 a8 a9 a10 a11) f 4; omega, b24⟩
  · have t1 := bs_sn3 s1
    have t2 := bs_sn3 s2
    have mm := bs_pbd t1 t2
    have em : (v1 * v2).toInt = v1.toInt * v2.toInt := bs_im (by omega) (by omega)
    have ea : (v1 + v2).toInt = v1.toInt + v2.toInt := by
      unfold bs_b at t1 t2
      exact bs_ia (by omega) (by omega)
    have s1' : bs_sn (bs_lo (bs_gv a1 a2 a3 a4) (bs_tv a5 a6 a7 a8 a9 a10 a11) w f) v1.toInt := s1
    have s2' : bs_sn (bs_hi (bs_gv a1 a2 a3 a4) (bs_tv a5 a6 a7 a8 a9 a10 a11) w f) v2.toInt := s2
    clear s1 s2
    generalize bs_lo (bs_gv a1 a2 a3 a4) (bs_tv a5 a6 a7 a8 a9 a10 a11) w f = lo at *
    generalize bs_hi (bs_gv a1 a2 a3 a4) (bs_tv a5 a6 a7 a8 a9 a10 a11) w f = hi at *
    refine br_c (fun z => nm_e (bs_wsign (fun v hv => ?_))) (fun z => H2 ?_)
    · rw [bs_le0, em, bs_z0] at z
      rw [Int32.toInt_toInt64, ea] at hv
      have nn : ¬ v1.toInt * v2.toInt < 0 := by omega
      have vv : (v.toInt = 1 ∧ 0 ≤ lo ∧ 0 ≤ hi ∧ ¬ (lo = 0 ∧ hi = 0)) ∨ (v.toInt = -1 ∧ lo ≤ 0 ∧ hi ≤ 0 ∧ ¬ (lo = 0 ∧ hi = 0)) ∨ (v.toInt = 0 ∧ lo = 0 ∧ hi = 0) := by
        exact bs_plc s1' s2' hv nn
      rcases vv with ⟨q, q1, q2, q3⟩ | ⟨q, q1, q2, q3⟩ | ⟨q, q1, q2⟩
      · rw [show v = 1 from bs_eq0.mpr q]
        exact H1 q1 q2 q3
      · rw [show v = -1 from bs_eq0.mpr q]
        exact Hm q1 q2 q3
      · rw [show v = 0 from bs_eq0.mpr q]
        exact H0 q1 q2
    · rw [bs_le0, em, bs_z0] at z
      have nn : v1.toInt * v2.toInt < 0 := by omega
      exact bs_plc2 s1' s2' nn
end
end
section
section
variable {fc : Int32} {fvx : Int32} {fvy : Int32} {fb : Int32} {fp : Int32} {fn : Int32} {fo : Int32} {fdx : Int32} {fdy : Int32} {fs : Int32} {a1 : Nat → Int32} {a2 : Nat → Int32} {a3 : Nat → Int32} {a4 : Nat → Int32} {a5 : Nat → Int32} {a6 : Nat → Int64} {a7 : Nat → Int64} {a8 : Nat → Int64} {a9 : Nat → Int64} {a10 : Nat → Int32} {a11 : Nat → Int32} {a12 : Nat → Int32} {a13 : Nat → Int32} {a14 : Nat → Int32} {a15 : Nat → Int32} {a16 : Nat → Int32} {a17 : Nat → Int32}
theorem bs_wcuts5 {post : Int32 → Prop} {C P n w : Nat} (hC : C ≤ 10) (hw : w < C) (hP : P ≤ 128) (hg : bs_gb (bs_gv a1 a2 a3 a4) C) (hb : ∀ f, f < P → bs_pb C (bs_tv a5 a6 a7 a8 a9 a10 a11) f)
    (H : ∀ r : Nat, r ≤ P → post (nI r)) : ∀ k i j : Nat, i + k = P → j ≤ i → wX_cuts_5 post (nI n) (nI w) fc fvx fvy fb (nI P) fn fo fdx fdy fs a1 a2 a3 a4 a5 a6 a7 a8 a9 a10 a11 a12 a13 a14 a15 a16 a17 (k + 1) (nI j) (nI i) := by
  intro k
  induction k with
  | zero =>
    intro i j e hj
    exact pk_le P i (fun _ => H j (by omega)) (fun z => absurd z (by omega))
  | succ k ih =>
    intro i j e hj
    have iv : vp_in (nI i) 128 := vp_in_nI (by omega) (by omega)
    refine pk_le P i (fun z => absurd z (by omega)) (fun z => ?_)
    rw [nI_clamp (show i < 2 ^ 31 by omega)]
    have nx := ih (i + 1) j (by omega) (by omega)
    have n2 := ih (i + 1) (j + 1) (by omega) (by omega)
    refine ⟨iv, br_c (fun _ => ⟨iv, br_c (fun _ => ?_) (fun _ => nm_r (nI_1 i) nx)⟩) (fun _ => nm_r (nI_1 i) nx)⟩
    exact bs_wplace hC hw (by omega) hg (hb i (by omega)) (fun _ => br_t rfl (nm_r (nI_1 j) (nm_r (nI_1 i) n2))) (fun _ _ _ => br_f bs_k12 (nm_r (nI_1 i) nx)) (fun _ _ _ => br_f bs_km2 (nm_r (nI_1 i) nx)) (fun _ _ => br_f bs_k02 (nm_r (nI_1 i) nx))
theorem bs_wcuts {post : Int32 → Prop} {C P n w : Nat} (hC : C ≤ 10) (hw : w < C) (hP : P ≤ 128) (hg : bs_gb (bs_gv a1 a2 a3 a4) C) (hb : ∀ f, f < P → bs_pb C (bs_tv a5 a6 a7 a8 a9 a10 a11) f)
    (H : ∀ r : Nat, r ≤ P → post (nI r)) : wpX_cuts post (fc, fvx, fvy, fb, nI P, fn, fo, fdx, fdy, fs, a1, a2, a3, a4, a5, a6, a7, a8, a9, a10, a11, a12, a13, a14, a15, a16, a17) (nI n) (nI w) :=
  ⟨P + 1, bs_wcuts5 hC hw hP hg hb H P 0 0 (by omega) (by omega)⟩
end
end
section
section
variable {fc : Int32} {fvx : Int32} {fvy : Int32} {fb : Int32} {fp : Int32} {fn : Int32} {fo : Int32} {fdx : Int32} {fdy : Int32} {fs : Int32} {a1 : Nat → Int32} {a2 : Nat → Int32} {a3 : Nat → Int32} {a4 : Nat → Int32} {a5 : Nat → Int32} {a6 : Nat → Int64} {a7 : Nat → Int64} {a8 : Nat → Int64} {a9 : Nat → Int64} {a10 : Nat → Int32} {a11 : Nat → Int32} {a12 : Nat → Int32} {a13 : Nat → Int32} {a14 : Nat → Int32} {a15 : Nat → Int32} {a16 : Nat → Int32} {a17 : Nat → Int32}
theorem bs_wbest9 {post : Int32 → Prop} {C P n b : Nat} (hC : C ≤ 10) (hP : P ≤ 128) (hg : bs_gb (bs_gv a1 a2 a3 a4) C) (hb : ∀ f, f < P → bs_pb C (bs_tv a5 a6 a7 a8 a9 a10 a11) f)
    (hb1 : b < P) (hb2 : a10 b = nI n) (hb3 : a11 b = 0)
    (H : ∀ f : Nat, f < P → a10 f = nI n → post (a5 f)) : ∀ (k i m : Nat) (x2 : Int32), i + k = P → m ≤ 1000 → (m = 1000 ∧ i ≤ b ∨ ∃ f : Nat, f < P ∧ a10 f = nI n ∧ x2 = a5 f) → wX_bestLine_9 post (nI n) fc fvx fvy fb (nI P) fn fo fdx fdy fs a1 a2 a3 a4 a5 a6 a7 a8 a9 a10 a11 a12 a13 a14 a15 a16 a17 (k + 1) x2 (nI m) (nI i) := by
  intro k
  induction k with
  | zero =>
    intro i m x2 e hm h
    refine pk_le P i (fun _ => ?_) (fun z => absurd z (by omega))
    rcases h with h | ⟨f, f1, f2, f3⟩
    · omega
    · rw [f3]
      exact H f f1 f2
  | succ k ih =>
    intro i m x2 e hm h
    have iv : vp_in (nI i) 128 := vp_in_nI (by omega) (by omega)
    refine pk_le P i (fun z => absurd z (by omega)) (fun z => ?_)
    rw [nI_clamp (show i < 2 ^ 31 by omega)]
    have nx : ¬ (a10 i = nI n ∧ a11 i = 0) → wX_bestLine_9 post (nI n) fc fvx fvy fb (nI P) fn fo fdx fdy fs a1 a2 a3 a4 a5 a6 a7 a8 a9 a10 a11 a12 a13 a14 a15 a16 a17 (k + 1) x2 (nI m) (nI (i + 1)) := fun ne => ih (i + 1) m x2 (by omega) hm (by
      rcases h with h | h
      · refine Or.inl ⟨h.1, ?_⟩
        rcases Nat.lt_or_ge i b with q | q
        · omega
        · have : i = b := by omega
          rw [this] at ne
          exact absurd ⟨hb2, hb3⟩ ne
      · exact Or.inr h)
    have b0 := hb i (by omega)
    unfold bs_pb at b0
    have e5 : a5 i = nI ((bs_tv a5 a6 a7 a8 a9 a10 a11) i 0).toNat := (bs_nIof b0.1).1
    refine ⟨iv, br_c (fun z1 => ⟨iv, br_c (fun z2 => ⟨iv, ?_⟩) (fun z2 => nm_r (nI_1 i) (nx (fun q => z2 q.2)))⟩) (fun z1 => nm_r (nI_1 i) (nx (fun q => z1 q.1)))⟩
    rw [e5]
    refine bs_wcuts hC (by omega) hP hg hb (fun r hr => pk_le m r (fun q => nm_r (nI_1 i) (ih (i + 1) m x2 (by omega) hm ?_)) (fun q => ⟨iv, nm_e (nm_r (nI_1 i) (ih (i + 1) r _ (by omega) (by omega) (Or.inr ⟨i, by omega, z1, e5.symm⟩)))⟩))
    rcases h with h | h
    · omega
    · exact Or.inr h
theorem bs_wbest {post : Int32 → Prop} {C P n b : Nat} (hC : C ≤ 10) (hP : P ≤ 128) (hg : bs_gb (bs_gv a1 a2 a3 a4) C) (hb : ∀ f, f < P → bs_pb C (bs_tv a5 a6 a7 a8 a9 a10 a11) f)
    (hb1 : b < P) (hb2 : a10 b = nI n) (hb3 : a11 b = 0) (H : ∀ f : Nat, f < P → a10 f = nI n → post (a5 f)) : wpX_bestLine post (fc, fvx, fvy, fb, nI P, fn, fo, fdx, fdy, fs, a1, a2, a3, a4, a5, a6, a7, a8, a9, a10, a11, a12, a13, a14, a15, a16, a17) (nI n) :=
  ⟨P + 1, bs_wbest9 hC hP hg hb hb1 hb2 hb3 H P 0 1000 (-1) (by omega) (by omega) (Or.inl ⟨rfl, by omega⟩)⟩
end
end
section
/-! the walk: nodes -/
section
variable {fc : Int32} {fvx : Int32} {fvy : Int32} {fb : Int32} {fp : Int32} {fn : Int32} {fo : Int32} {fdx : Int32} {fdy : Int32} {fs : Int32} {a1 : Nat → Int32} {a2 : Nat → Int32} {a3 : Nat → Int32} {a4 : Nat → Int32} {a5 : Nat → Int32} {a6 : Nat → Int64} {a7 : Nat → Int64} {a8 : Nat → Int64} {a9 : Nat → Int64} {a10 : Nat → Int32} {a11 : Nat → Int32} {a12 : Nat → Int32} {a13 : Nat → Int32} {a14 : Nat → Int32} {a15 : Nat → Int32} {a16 : Nat → Int32} {a17 : Nat → Int32}
theorem bs_wnew1 {post : Int32 → St1 → Prop} {N : Nat} (hN : N < 128) (H : post (nI N) (fc, fvx, fvy, fb, fp, nI (N + 1), fo, fdx, fdy, fs, a1, a2, a3, a4, a5, a6, a7, a8, a9, a10, a11, upd a12 N (-1), upd a13 N (-1), upd a14 N (-1), a15, a16, a17)) : wpX_newNode post (fc, fvx, fvy, fb, fp, nI N, fo, fdx, fdy, fs, a1, a2, a3, a4, a5, a6, a7, a8, a9, a10, a11, a12, a13, a14, a15, a16, a17) := by
  have i : vp_in (nI N) 128 := vp_in_nI hN (by omega)
  have c := nI_clamp (show N < 2 ^ 31 by omega)
  unfold wpX_newNode
  exact ⟨i, nm_r (congrArg (fun k => upd a13 k (-1)) c) ⟨i, nm_r (congrArg (fun k => upd a14 k (-1)) c) ⟨i, nm_r (congrArg (fun k => upd a12 k (-1)) c) (nm_r (nI_1 N) (by rw [nI_pred]; exact H))⟩⟩⟩
theorem bs_wnew2 {post : Int32 → St1 → Prop} {N : Nat} (hN : N < 128) (H : post (nI N) (fc, fvx, fvy, fb, fp, nI (N + 1), fo, fdx, fdy, fs, a1, a2, a3, a4, a5, a6, a7, a8, a9, a10, a11, upd a12 N (-1), upd a13 N (-1), upd a14 N (-1), a15, a16, a17)) : wpX_newNode_2 post (fc, fvx, fvy, fb, fp, nI N, fo, fdx, fdy, fs, a1, a2, a3, a4, a5, a6, a7, a8, a9, a10, a11, a12, a13, a14, a15, a16, a17) := by
  have i : vp_in (nI N) 128 := vp_in_nI hN (by omega)
  have c := nI_clamp (show N < 2 ^ 31 by omega)
  unfold wpX_newNode_2
  exact ⟨i, nm_r (congrArg (fun k => upd a13 k (-1)) c) ⟨i, nm_r (congrArg (fun k => upd a14 k (-1)) c) ⟨i, nm_r (congrArg (fun k => upd a12 k (-1)) c) (nm_r (nI_1 N) (by rw [nI_pred]; exact H))⟩⟩⟩
theorem bs_wnew3 {post : Int32 → St1 → Prop} {N : Nat} (hN : N < 128) (H : post (nI N) (fc, fvx, fvy, fb, fp, nI (N + 1), fo, fdx, fdy, fs, a1, a2, a3, a4, a5, a6, a7, a8, a9, a10, a11, upd a12 N (-1), upd a13 N (-1), upd a14 N (-1), a15, a16, a17)) : wpX_newNode_3 post (fc, fvx, fvy, fb, fp, nI N, fo, fdx, fdy, fs, a1, a2, a3, a4, a5, a6, a7, a8, a9, a10, a11, a12, a13, a14, a15, a16, a17) := by
  have i : vp_in (nI N) 128 := vp_in_nI hN (by omega)
  have c := nI_clamp (show N < 2 ^ 31 by omega)
  unfold wpX_newNode_3
  exact ⟨i, nm_r (congrArg (fun k => upd a13 k (-1)) c) ⟨i, nm_r (congrArg (fun k => upd a14 k (-1)) c) ⟨i, nm_r (congrArg (fun k => upd a12 k (-1)) c) (nm_r (nI_1 N) (by rw [nI_pred]; exact H))⟩⟩⟩
theorem bs_u1 {f : Nat → Int32} {k j : Nat} {x : Int32} (h : j ≠ k) : (upd f k x j).toInt = (f j).toInt := by rw [pk_un h]
theorem bs_u2 {f : Nat → Int32} {k : Nat} {x : Int32} : (upd f k x k).toInt = x.toInt := by rw [pk_us]
theorem bs_wfront {post : Int32 → St1 → Prop} {n N : Nat} {A : Nat → Nat → Int} (h : bs_NI N (bs_sv a12 a13 a14) A) (hn : n < N) (hN : N < 128)
    (H : ∀ (N' : Nat) (a12' a13' a14' : Nat → Int32) (A' : Nat → Nat → Int) (k : Nat), bs_NX n N (bs_sv a12 a13 a14) A N' (bs_sv a12' a13' a14') A' k 1 → post (nI k) (fc, fvx, fvy, fb, fp, nI N', fo, fdx, fdy, fs, a1, a2, a3, a4, a5, a6, a7, a8, a9, a10, a11, a12', a13', a14', a15, a16, a17)) : wpX_frontOf post (fc, fvx, fvy, fb, fp, nI N, fo, fdx, fdy, fs, a1, a2, a3, a4, a5, a6, a7, a8, a9, a10, a11, a12, a13, a14, a15, a16, a17) (nI n) := by
  have i : vp_in (nI n) 128 := vp_in_nI (by omega) (by omega)
  unfold wpX_frontOf
  rw [nI_clamp (by omega)]
  by_cases z : bs_sv a12 a13 a14 n 1 = -1
  · have z' : (a13 n).toInt = -1 := z
    refine ⟨i, br_f (by rw [bs_le0, bs_z0]; omega) (bs_wnew2 hN ⟨i, nm_e ⟨i, ?_⟩⟩)⟩
    obtain ⟨A', x⟩ := bs_NXnew (s' := bs_sv (upd a12 N (-1)) (upd (upd a13 N (-1)) n (nI N)) (upd a14 N (-1))) h hn (Or.inl rfl) z (fun k j hk hj q => by
      have hj' : j = 0 ∨ j = 1 ∨ j = 2 := by omega
      rcases hj' with e | e | e
      · rw [e]
        exact bs_u1 (by omega)
      · rw [e] at q ⊢
        show (upd (upd a13 N (-1)) n (nI N) k).toInt = (a13 k).toInt
        rw [bs_u1 (by omega), bs_u1 (by omega)]
      · rw [e]
        exact bs_u1 (by omega)) (by
        show (upd (upd a13 N (-1)) n (nI N) n).toInt = N
        rw [bs_u2, nI_toInt (by omega)]) (by
        show (upd (upd a13 N (-1)) n (nI N) N).toInt = -1
        rw [bs_u1 (by omega), bs_u2]
        rfl) (by
        show (upd a14 N (-1) N).toInt = -1
        rw [bs_u2]
        rfl)
    rw [pk_us]
    exact H (N + 1) _ _ _ A' N x
  · obtain ⟨k, k1, k2⟩ := bs_NXold h hn (Or.inl rfl) z
    have e : a13 n = nI k := bs_nIt k1
    refine ⟨i, br_t (by rw [e]; exact nI_pos' (by have := k2.2.2.2.2.2.2.1; omega)) ⟨i, ?_⟩⟩
    rw [e]
    exact H N a12 a13 a14 A k k2
theorem bs_wbehind {post : Int32 → St1 → Prop} {n N : Nat} {A : Nat → Nat → Int} (h : bs_NI N (bs_sv a12 a13 a14) A) (hn : n < N) (hN : N < 128)
    (H : ∀ (N' : Nat) (a12' a13' a14' : Nat → Int32) (A' : Nat → Nat → Int) (k : Nat), bs_NX n N (bs_sv a12 a13 a14) A N' (bs_sv a12' a13' a14') A' k (-1) → post (nI k) (fc, fvx, fvy, fb, fp, nI N', fo, fdx, fdy, fs, a1, a2, a3, a4, a5, a6, a7, a8, a9, a10, a11, a12', a13', a14', a15, a16, a17)) : wpX_behindOf post (fc, fvx, fvy, fb, fp, nI N, fo, fdx, fdy, fs, a1, a2, a3, a4, a5, a6, a7, a8, a9, a10, a11, a12, a13, a14, a15, a16, a17) (nI n) := by
  have i : vp_in (nI n) 128 := vp_in_nI (by omega) (by omega)
  unfold wpX_behindOf
  rw [nI_clamp (by omega)]
  by_cases z : bs_sv a12 a13 a14 n 2 = -1
  · have z' : (a14 n).toInt = -1 := z
    refine ⟨i, br_f (by rw [bs_le0, bs_z0]; omega) (bs_wnew1 hN ⟨i, nm_e ⟨i, ?_⟩⟩)⟩
    obtain ⟨A', x⟩ := bs_NXnew (s' := bs_sv (upd a12 N (-1)) (upd a13 N (-1)) (upd (upd a14 N (-1)) n (nI N))) h hn (Or.inr rfl) z (fun k j hk hj q => by
      have hj' : j = 0 ∨ j = 1 ∨ j = 2 := by omega
      rcases hj' with e | e | e
      · rw [e]
        exact bs_u1 (by omega)
      · rw [e]
        exact bs_u1 (by omega)
      · rw [e] at q ⊢
        show (upd (upd a14 N (-1)) n (nI N) k).toInt = (a14 k).toInt
        rw [bs_u1 (by omega), bs_u1 (by omega)]) (by
        show (upd (upd a14 N (-1)) n (nI N) n).toInt = N
        rw [bs_u2, nI_toInt (by omega)]) (by
        show (upd a13 N (-1) N).toInt = -1
        rw [bs_u2]
        rfl) (by
        show (upd (upd a14 N (-1)) n (nI N) N).toInt = -1
        rw [bs_u1 (by omega), bs_u2]
        rfl)
    rw [pk_us]
    exact H (N + 1) _ _ _ A' N x
  · obtain ⟨k, k1, k2⟩ := bs_NXold h hn (Or.inr rfl) z
    have e : a14 n = nI k := bs_nIt k1
    refine ⟨i, br_t (by rw [e]; exact nI_pos' (by have := k2.2.2.2.2.2.2.1; omega)) ⟨i, ?_⟩⟩
    rw [e]
    exact H N a12 a13 a14 A k k2
theorem bs_tve {b5 : Nat → Int32} {b6 b7 b8 b9 : Nat → Int64} {b10 b11 : Nat → Int32} {f : Nat} (h5 : b5 f = a5 f) (h6 : b6 f = a6 f) (h7 : b7 f = a7 f) (h8 : b8 f = a8 f) (h9 : b9 f = a9 f) (h10 : b10 f = a10 f) (h11 : b11 f = a11 f) :
    bs_tv b5 b6 b7 b8 b9 b10 b11 f = bs_tv a5 a6 a7 a8 a9 a10 a11 f := by
  funext k
  unfold bs_tv
  rw [h5, h6, h7, h8, h9, h10, h11]
/-! the walk: split -/
theorem bs_wsp80 {post : St1 → Prop} {C P N n i E w p : Nat} {A : Nat → Nat → Int} {x y : Int64} (hC : C ≤ 10) (hg : bs_gb (bs_gv a1 a2 a3 a4) C)
    (d : bs_DI (bs_gv a1 a2 a3 a4) C P (bs_tv a5 a6 a7 a8 a9 a10 a11) N (bs_sv a12 a13 a14) A n i E w) (hi : i < E) (o5 : a10 i = nI n) (o6 : a11 i = 0) (hp : a5 i = nI p) (pC : p < C)
    (hc : bs_lo (bs_gv a1 a2 a3 a4) (bs_tv a5 a6 a7 a8 a9 a10 a11) w i * bs_hi (bs_gv a1 a2 a3 a4) (bs_tv a5 a6 a7 a8 a9 a10 a11) w i < 0)
    (hy : 0 < y.toInt) (hy2 : y.toInt ≤ 3136) (h0 : bs_F (bs_gv a1 a2 a3 a4) w p x.toInt y.toInt = 0)
    (H : ∀ (N' : Nat) (b5 : Nat → Int32) (b6 b7 b8 b9 : Nat → Int64) (b10 b11 b12 b13 b14 : Nat → Int32) (A' : Nat → Nat → Int), bs_DI (bs_gv a1 a2 a3 a4) C (P + 1) (bs_tv b5 b6 b7 b8 b9 b10 b11) N' (bs_sv b12 b13 b14) A' n (i + 1) E w → post (fc, fvx, fvy, fb, nI (P + 1), nI N', fo, fdx, fdy, fs, a1, a2, a3, a4, b5, b6, b7, b8, b9, b10, b11, b12, b13, b14, a15, a16, a17)) :
    wX_split_80 post (nI i) (nI w) (nI n) (nI p) x y fc fvx fvy fb (nI P) (nI N) fo fdx fdy fs a1 a2 a3 a4 a5 a6 a7 a8 a9 a10 a11 a12 a13 a14 a15 a16 a17 := by
  have dd := d
  obtain ⟨h1, h2, h3, h4, h5, h6, h7, h8, h9, h10, h11, h12⟩ := d
  obtain ⟨bP, bN⟩ := bs_TJbound h1 h2
  have vi : vp_in (nI i) 128 := vp_in_nI (by omega) (by omega)
  have vP : vp_in (nI P) 128 := vp_in_nI (by omega) (by omega)
  have hwC : w < C := by
    have := h4 n (Nat.le_refl n)
    omega
  obtain ⟨b0, b00, b11, b12, b13, b14, b21, b22, b23, b24⟩ := h1.2.1 i (by omega)
  have o5' : bs_tv a5 a6 a7 a8 a9 a10 a11 i 5 = (n : Int) := by
    show (a10 i).toInt = n
    rw [o5, nI_toInt (by omega)]
  have t0 : bs_tv a5 a6 a7 a8 a9 a10 a11 i 0 = (p : Int) := by
    show (a5 i).toInt = p
    rw [hp, nI_toInt (by omega)]
  have t0n : (bs_tv a5 a6 a7 a8 a9 a10 a11 i 0).toNat = p := by rw [t0, Int.toNat_natCast]
  have ne : i ≠ P := by omega
  -- the pieces after the cut, with the owners k1 and k2
  have fin : ∀ (N1 N2 : Nat) (c12 c13 c14 d12 d13 d14 : Nat → Int32) (A1 A2 : Nat → Nat → Int) (k1 k2 : Nat) (σ : Int), bs_NX n N (bs_sv a12 a13 a14) A N1 (bs_sv c12 c13 c14) A1 k1 σ → bs_NX n N1 (bs_sv c12 c13 c14) A1 N2 (bs_sv d12 d13 d14) A2 k2 (-σ) →
      0 ≤ σ * bs_lo (bs_gv a1 a2 a3 a4) (bs_tv a5 a6 a7 a8 a9 a10 a11) w i → 0 ≤ -σ * bs_hi (bs_gv a1 a2 a3 a4) (bs_tv a5 a6 a7 a8 a9 a10 a11) w i →
      post (fc, fvx, fvy, fb, nI (P + 1), nI N2, fo, fdx, fdy, fs, a1, a2, a3, a4, upd a5 P (nI p), vp_updL a6 P x, vp_updL a7 P y, vp_updL (vp_updL a8 P (a8 i)) i x, vp_updL (vp_updL a9 P (a9 i)) i y, upd (upd a10 i (nI k1)) P (nI k2), upd a11 P 0, d12, d13, d14, a15, a16, a17) := by
    intro N1 N2 c12 c13 c14 d12 d13 d14 A1 A2 k1 k2 σ X Y s1 s2
    have q1 : k1 < N1 := X.2.2.2.2.2.2.1
    have q2 : k2 < N2 := Y.2.2.2.2.2.2.1
    have q3 : N1 ≤ N + 1 := X.2.2.1
    have q4 : N2 ≤ N1 + 1 := Y.2.2.1
    refine H N2 _ _ _ _ _ _ _ _ _ _ A2 (bs_DIsplit (num := x.toInt) (den := y.toInt) dd hi o5' X Y s1 s2 hc hy hy2 (by rw [t0n]; exact h0) (fun f f1 f2 => ?_) ?_ ?_ ?_ ?_ ?_ ?_ ?_ ?_ ?_ ?_ ?_ ?_ ?_ ?_)
    · exact bs_tve (pk_un f2) (pk_uLn f2) (pk_uLn f2) (by rw [pk_uLn f1, pk_uLn f2]) (by rw [pk_uLn f1, pk_uLn f2]) (by rw [pk_un f2, pk_un f1]) (pk_un f2)
    · exact congrArg Int32.toInt (pk_un ne)
    · exact congrArg Int64.toInt (pk_uLn ne)
    · exact congrArg Int64.toInt (pk_uLn ne)
    · exact congrArg Int64.toInt pk_uLs
    · exact congrArg Int64.toInt pk_uLs
    · show (upd (upd a10 i (nI k1)) P (nI k2) i).toInt = k1
      rw [pk_un ne, pk_us, nI_toInt (by omega)]
    · show (upd a11 P 0 i).toInt = 0
      rw [pk_un ne, o6]
      rfl
    · show (upd a5 P (nI p) P).toInt = (a5 i).toInt
      rw [pk_us, hp]
    · exact congrArg Int64.toInt pk_uLs
    · exact congrArg Int64.toInt pk_uLs
    · show (vp_updL (vp_updL a8 P (a8 i)) i x P).toInt = (a8 i).toInt
      rw [pk_uLn (fun z => ne z.symm), pk_uLs]
    · show (vp_updL (vp_updL a9 P (a9 i)) i y P).toInt = (a9 i).toInt
      rw [pk_uLn (fun z => ne z.symm), pk_uLs]
    · show (upd (upd a10 i (nI k1)) P (nI k2) P).toInt = k2
      rw [pk_us, nI_toInt (by omega)]
    · show (upd a11 P 0 P).toInt = 0
      rw [pk_us]
      rfl
  unfold wX_split_80
  rw [nI_clamp (show i < 2 ^ 31 by omega), nI_clamp (show P < 2 ^ 31 by omega)]
  refine ⟨vi, vi, bs_wsideAt hC hwC pC hg ?_ ?_ (fun v sv => nm_r (nI_1 P) ⟨vP, nm_e ⟨vP, nm_e ⟨vP, nm_e ⟨vi, vP, nm_e ⟨vi, vP, nm_e ⟨vP, nm_e ⟨vi, nm_e ⟨vi, nm_e ?_⟩⟩⟩⟩⟩⟩⟩⟩)⟩
  · exact ⟨by show -3136 ≤ (bs_tv a5 a6 a7 a8 a9 a10 a11) i 1; omega, by show (bs_tv a5 a6 a7 a8 a9 a10 a11) i 1 ≤ 3136; omega⟩
  · exact ⟨by show -3136 ≤ (bs_tv a5 a6 a7 a8 a9 a10 a11) i 2; omega, b14⟩
  · have sv' : bs_sn (bs_lo (bs_gv a1 a2 a3 a4) (bs_tv a5 a6 a7 a8 a9 a10 a11) w i) v.toInt := by
      unfold bs_lo
      rw [t0n]
      exact sv
    have ss := bs_ng.mp hc
    refine br_c (fun z => ?_) (fun z => ?_)
    · rw [bs_le0, bs_z0] at z
      unfold bs_sn at sv'
      refine bs_wbehind h1.1 h3 (by omega) (fun N1 c12 c13 c14 A1 k1 X => ⟨vi, nm_e (bs_wfront X.1 (by have := X.2.1; omega) (by have := X.2.2.1; omega) (fun N2 d12 d13 d14 A2 k2 Y => ⟨vP, nm_e ?_⟩))⟩)
      exact fin N1 N2 c12 c13 c14 d12 d13 d14 A1 A2 k1 k2 (-1) X Y (by omega) (by omega)
    · rw [bs_le0, bs_z0] at z
      unfold bs_sn at sv'
      refine bs_wfront h1.1 h3 (by omega) (fun N1 c12 c13 c14 A1 k1 X => ⟨vi, nm_e (bs_wbehind X.1 (by have := X.2.1; omega) (by have := X.2.2.1; omega) (fun N2 d12 d13 d14 A2 k2 Y => ⟨vP, nm_e ?_⟩))⟩)
      exact fin N1 N2 c12 c13 c14 d12 d13 d14 A1 A2 k1 k2 1 X Y (by omega) (by omega)
theorem bs_wsplit {post : St1 → Prop} {C P N n i E w : Nat} {A : Nat → Nat → Int} (hC : C ≤ 10) (hg : bs_gb (bs_gv a1 a2 a3 a4) C)
    (d : bs_DI (bs_gv a1 a2 a3 a4) C P (bs_tv a5 a6 a7 a8 a9 a10 a11) N (bs_sv a12 a13 a14) A n i E w) (hi : i < E) (o5 : a10 i = nI n) (o6 : a11 i = 0)
    (hc : bs_lo (bs_gv a1 a2 a3 a4) (bs_tv a5 a6 a7 a8 a9 a10 a11) w i * bs_hi (bs_gv a1 a2 a3 a4) (bs_tv a5 a6 a7 a8 a9 a10 a11) w i < 0)
    (H : ∀ (N' : Nat) (b5 : Nat → Int32) (b6 b7 b8 b9 : Nat → Int64) (b10 b11 b12 b13 b14 : Nat → Int32) (A' : Nat → Nat → Int), bs_DI (bs_gv a1 a2 a3 a4) C (P + 1) (bs_tv b5 b6 b7 b8 b9 b10 b11) N' (bs_sv b12 b13 b14) A' n (i + 1) E w → post (fc, fvx, fvy, fb, nI (P + 1), nI N', fo, fdx, fdy, fs, a1, a2, a3, a4, b5, b6, b7, b8, b9, b10, b11, b12, b13, b14, a15, a16, a17)) :
    wpX_split post (fc, fvx, fvy, fb, nI P, nI N, fo, fdx, fdy, fs, a1, a2, a3, a4, a5, a6, a7, a8, a9, a10, a11, a12, a13, a14, a15, a16, a17) (nI i) (nI w) (nI n) := by
  have dd := d
  obtain ⟨h1, h2, h3, h4, h5, h6, h7, h8, h9, h10, h11, h12⟩ := d
  obtain ⟨bP, bN⟩ := bs_TJbound h1 h2
  have vi : vp_in (nI i) 128 := vp_in_nI (by omega) (by omega)
  have hwC : w < C := by
    have := h4 n (Nat.le_refl n)
    omega
  obtain ⟨b0, b00, b11, b12, b13, b14, b21, b22, b23, b24⟩ := h1.2.1 i (by omega)
  have e5 : a5 i = nI ((bs_tv a5 a6 a7 a8 a9 a10 a11) i 0).toNat := (bs_nIof b0).1
  have pC : ((bs_tv a5 a6 a7 a8 a9 a10 a11) i 0).toNat < C := by omega
  have hc' := hc
  unfold bs_lo bs_hi at hc'
  generalize hp : ((bs_tv a5 a6 a7 a8 a9 a10 a11) i 0).toNat = p at *
  have vp : vp_in (nI p) 10 := vp_in_nI (by omega) (by omega)
  unfold wpX_split
  rw [nI_clamp (show i < 2 ^ 31 by omega)]
  refine ⟨vi, nm_r e5 ?_⟩
  rw [nI_clamp (show p < 2 ^ 31 by omega)]
  refine ⟨vp, vp, bs_wside (by omega) (fun k hk => hg w k hwC hk) (hg p 0 pC (by omega)) (hg p 1 pC (by omega)) (fun v1 e1 q1 => ⟨vp, vp, bs_wside (by omega) (fun k hk => hg w k hwC hk) (hg p 2 pC (by omega)) (hg p 3 pC (by omega)) (fun v2 e2 q2 => nm_e ?_)⟩)⟩
  have f1 : v1.toInt = bs_f1 (bs_gv a1 a2 a3 a4) w p := e1
  have f2 : v2.toInt = bs_f2 (bs_gv a1 a2 a3 a4) w p := e2
  unfold bs_b at q1 q2
  have t1 : v1.toInt64.toInt = v1.toInt := Int32.toInt_toInt64 v1
  have t2 : v2.toInt64.toInt = v2.toInt := Int32.toInt_toInt64 v2
  have d1 : (v1.toInt64 - v2.toInt64).toInt = v1.toInt - v2.toInt := by
    rw [bs_ls (by omega) (by omega), t1, t2]
  have nz : v1.toInt - v2.toInt ≠ 0 := by
    intro z
    unfold bs_F at hc'
    rw [← f1, ← f2, show v2.toInt - v1.toInt = 0 by omega, Int.mul_zero, Int.mul_zero, Int.add_zero, Int.add_zero, bs_ng] at hc'
    rcases hc' with ⟨u1, u2⟩ | ⟨u1, u2⟩
    · rcases bs_lg 0 v1.toInt with y | y
      · have := Int.mul_pos y b13
        omega
      · have := Int.mul_nonneg (show 0 ≤ -v1.toInt by omega) (Int.le_of_lt b23)
        rw [Int.neg_mul] at this
        omega
    · rcases bs_lg v1.toInt 0 with y | y
      · have := Int.mul_neg_of_neg_of_pos y b13
        omega
      · have := Int.mul_nonneg y (Int.le_of_lt b23)
        omega
  refine br_c (fun z => ?_) (fun z => nm_e (nm_e ?_))
  · rw [bs_le1, d1, bs_L0] at z
    refine bs_wsp80 hC hg dd hi o5 o6 e5 pC hc (by rw [d1]; omega) (by rw [d1]; omega) ?_ H
    unfold bs_F
    rw [d1, t1, ← f1, ← f2]
    grind
  · rw [bs_le1, d1, bs_L0] at z
    have d2 : (-(v1.toInt64 - v2.toInt64)).toInt = -(v1.toInt - v2.toInt) := by
      rw [bs_lne (by omega) (by omega), d1]
    have d3 : (-v1.toInt64).toInt = -v1.toInt := by
      rw [bs_lne (by omega) (by omega), t1]
    refine bs_wsp80 hC hg dd hi o5 o6 e5 pC hc (by rw [d2]; omega) (by rw [d2]; omega) ?_ H
    unfold bs_F
    rw [d2, d3, ← f1, ← f2]
    grind
end
end
section
section
variable {fc : Int32} {fvx : Int32} {fvy : Int32} {fb : Int32} {fp : Int32} {fn : Int32} {fo : Int32} {fdx : Int32} {fdy : Int32} {fs : Int32} {a1 : Nat → Int32} {a2 : Nat → Int32} {a3 : Nat → Int32} {a4 : Nat → Int32} {a5 : Nat → Int32} {a6 : Nat → Int64} {a7 : Nat → Int64} {a8 : Nat → Int64} {a9 : Nat → Int64} {a10 : Nat → Int32} {a11 : Nat → Int32} {a12 : Nat → Int32} {a13 : Nat → Int32} {a14 : Nat → Int32} {a15 : Nat → Int32} {a16 : Nat → Int32} {a17 : Nat → Int32}
/-! the walk: divide -/
theorem bs_tv0 {i : Nat} : bs_tv a5 a6 a7 a8 a9 a10 a11 i 0 = (a5 i).toInt := rfl
theorem bs_tv1 {i : Nat} : bs_tv a5 a6 a7 a8 a9 a10 a11 i 1 = (a6 i).toInt := rfl
theorem bs_tv2 {i : Nat} : bs_tv a5 a6 a7 a8 a9 a10 a11 i 2 = (a7 i).toInt := rfl
theorem bs_tv3 {i : Nat} : bs_tv a5 a6 a7 a8 a9 a10 a11 i 3 = (a8 i).toInt := rfl
theorem bs_tv4 {i : Nat} : bs_tv a5 a6 a7 a8 a9 a10 a11 i 4 = (a9 i).toInt := rfl
theorem bs_tv5 {i : Nat} : bs_tv a5 a6 a7 a8 a9 a10 a11 i 5 = (a10 i).toInt := rfl
theorem bs_tv6 {i : Nat} : bs_tv a5 a6 a7 a8 a9 a10 a11 i 6 = (a11 i).toInt := rfl
theorem bs_sv0 {i : Nat} : bs_sv a12 a13 a14 i 0 = (a12 i).toInt := rfl
theorem bs_sv1 {i : Nat} : bs_sv a12 a13 a14 i 1 = (a13 i).toInt := rfl
theorem bs_sv2 {i : Nat} : bs_sv a12 a13 a14 i 2 = (a14 i).toInt := rfl
theorem bs_tvK {b10 b11 : Nat → Int32} {i j : Nat} (hj : j < 5) : bs_tv a5 a6 a7 a8 a9 b10 b11 i j = bs_tv a5 a6 a7 a8 a9 a10 a11 i j := by
  have hj' : j = 0 ∨ j = 1 ∨ j = 2 ∨ j = 3 ∨ j = 4 := by omega
  rcases hj' with q | q | q | q | q
  · rw [q, bs_tv0, bs_tv0]
  · rw [q, bs_tv1, bs_tv1]
  · rw [q, bs_tv2, bs_tv2]
  · rw [q, bs_tv3, bs_tv3]
  · rw [q, bs_tv4, bs_tv4]
theorem bs_tvK6 {b11 : Nat → Int32} {i j : Nat} (hj : j < 6) : bs_tv a5 a6 a7 a8 a9 a10 b11 i j = bs_tv a5 a6 a7 a8 a9 a10 a11 i j := by
  by_cases h : j < 5
  · exact bs_tvK h
  · rw [show j = 5 by omega, bs_tv5, bs_tv5]
theorem bs_svK {b12 : Nat → Int32} {n j : Nat} (hj : j = 1 ∨ j = 2) : bs_sv b12 a13 a14 n j = bs_sv a12 a13 a14 n j := by
  rcases hj with q | q
  · rw [q, bs_sv1, bs_sv1]
  · rw [q, bs_sv2, bs_sv2]
theorem bs_wdiv21 {post : St1 → Prop} {C n E w : Nat} (hC : C ≤ 10) (hg : bs_gb (bs_gv a1 a2 a3 a4) C)
    (H : ∀ (P N : Nat) (b5 : Nat → Int32) (b6 b7 b8 b9 : Nat → Int64) (b10 b11 b12 b13 b14 : Nat → Int32) (A : Nat → Nat → Int), bs_DI (bs_gv a1 a2 a3 a4) C P (bs_tv b5 b6 b7 b8 b9 b10 b11) N (bs_sv b12 b13 b14) A n E E w → post (fc, fvx, fvy, fb, nI P, nI N, fo, fdx, fdy, fs, a1, a2, a3, a4, b5, b6, b7, b8, b9, b10, b11, b12, b13, b14, a15, a16, a17)) :
    ∀ k i : Nat, i + k = E → ∀ (P N : Nat) (a5 : Nat → Int32) (a6 a7 a8 a9 : Nat → Int64) (a10 a11 a12 a13 a14 : Nat → Int32) (A : Nat → Nat → Int), bs_DI (bs_gv a1 a2 a3 a4) C P (bs_tv a5 a6 a7 a8 a9 a10 a11) N (bs_sv a12 a13 a14) A n i E w → wX_divide_21 post (nI n) (nI w) (nI E) (k + 1) (nI i) fc fvx fvy fb (nI P) (nI N) fo fdx fdy fs a1 a2 a3 a4 a5 a6 a7 a8 a9 a10 a11 a12 a13 a14 a15 a16 a17 := by
  intro k
  induction k with
  | zero =>
    intro i e P N a5 a6 a7 a8 a9 a10 a11 a12 a13 a14 A d
    obtain ⟨bP, bN⟩ := bs_TJbound d.1 d.2.1
    have eP := d.2.2.2.2.2.2.2.2.2.2.2
    have ei : i = E := by omega
    rw [ei] at d
    exact pk_le E i (fun _ => H P N a5 a6 a7 a8 a9 a10 a11 a12 a13 a14 A d) (fun z => absurd z (by omega))
  | succ k ih =>
    intro i e P N a5 a6 a7 a8 a9 a10 a11 a12 a13 a14 A d
    obtain ⟨bP, bN⟩ := bs_TJbound d.1 d.2.1
    have eP := d.2.2.2.2.2.2.2.2.2.2.2
    have hn := d.2.2.1
    have hwC : w < C := by
      have a := d.2.2.2.1 n (Nat.le_refl n)
      have b := d.2.2.2.2.1
      omega
    have iv : vp_in (nI i) 128 := vp_in_nI (by omega) (by omega)
    have tn : (nI n).toInt = (n : Int) := nI_toInt (by omega)
    refine pk_le E i (fun z => absurd z (by omega)) (fun z => ?_)
    rw [nI_clamp (show i < 2 ^ 31 by omega)]
    have nx : (bs_tv a5 a6 a7 a8 a9 a10 a11 i 5 ≠ (n : Int) ∨ bs_tv a5 a6 a7 a8 a9 a10 a11 i 6 ≠ 0) → wX_divide_21 post (nI n) (nI w) (nI E) (k + 1) (nI (i + 1)) fc fvx fvy fb (nI P) (nI N) fo fdx fdy fs a1 a2 a3 a4 a5 a6 a7 a8 a9 a10 a11 a12 a13 a14 a15 a16 a17 := fun q => ih (i + 1) (by omega) P N a5 a6 a7 a8 a9 a10 a11 a12 a13 a14 A (bs_DIskip d q)
    refine ⟨iv, br_c (fun z1 => ⟨iv, br_c (fun z2 => ?_) (fun z2 => nm_r (nI_1 i) (nx (Or.inr (fun q => z2 (bs_eq0.mpr q)))))⟩) (fun z1 => nm_r (nI_1 i) (nx (Or.inl (fun q => z1 (bs_eq0.mpr (by rw [tn]; exact q))))))⟩
    have o5 : bs_tv a5 a6 a7 a8 a9 a10 a11 i 5 = (n : Int) := by
      show (a10 i).toInt = n
      rw [z1, tn]
    refine bs_wplace hC hwC (by omega) hg (d.1.2.1 i (by omega)) (fun c => br_t rfl ?_) (fun l1 l2 nz => br_f bs_k12 (br_t rfl ?_)) (fun l1 l2 nz => br_f bs_km2 (br_f bs_km1 (br_t rfl ?_))) (fun l1 l2 => br_f bs_k02 (br_f bs_k01 (br_f bs_k0m ⟨iv, nm_e (nm_r (nI_1 i) ?_)⟩)))
    · exact bs_wsplit hC hg d (by omega) z1 z2 c (fun N' b5 b6 b7 b8 b9 b10 b11 b12 b13 b14 A' d' => nm_r (nI_1 i) (ih (i + 1) (by omega) (P + 1) N' b5 b6 b7 b8 b9 b10 b11 b12 b13 b14 A' d'))
    · refine bs_wfront d.1.1 hn (by omega) (fun N' b12 b13 b14 A' q X => ⟨iv, nm_e (nm_r (nI_1 i) ?_)⟩)
      have q1 : q < N' := X.2.2.2.2.2.2.1
      have q3 : N' ≤ N + 1 := X.2.2.1
      refine ih (i + 1) (by omega) P N' a5 a6 a7 a8 a9 _ a11 b12 b13 b14 A' (bs_DImove d (by omega) o5 X (by omega) (by omega) nz (fun f hf => bs_tve rfl rfl rfl rfl rfl (pk_un hf) rfl) (fun j hj => bs_tvK hj) ?_ ?_)
      · show (upd a10 i (nI q) i).toInt = q
        rw [pk_us, nI_toInt (by omega)]
      · exact congrArg Int32.toInt z2
    · refine bs_wbehind d.1.1 hn (by omega) (fun N' b12 b13 b14 A' q X => ⟨iv, nm_e (nm_r (nI_1 i) ?_)⟩)
      have q1 : q < N' := X.2.2.2.2.2.2.1
      have q3 : N' ≤ N + 1 := X.2.2.1
      refine ih (i + 1) (by omega) P N' a5 a6 a7 a8 a9 _ a11 b12 b13 b14 A' (bs_DImove d (by omega) o5 X (by omega) (by omega) nz (fun f hf => bs_tve rfl rfl rfl rfl rfl (pk_un hf) rfl) (fun j hj => bs_tvK hj) ?_ ?_)
      · show (upd a10 i (nI q) i).toInt = q
        rw [pk_us, nI_toInt (by omega)]
      · exact congrArg Int32.toInt z2
    · refine ih (i + 1) (by omega) P N a5 a6 a7 a8 a9 a10 _ a12 a13 a14 A (bs_DIplace d (by omega) o5 l1 l2 (fun f hf => bs_tve rfl rfl rfl rfl rfl rfl (pk_un hf)) (fun j hj => bs_tvK6 hj) ?_)
      · show (upd a11 i 1 i).toInt ≠ 0
        rw [pk_us]
        decide
end
end
section
/-! the walk: divide, build -/
section
variable {fc : Int32} {fvx : Int32} {fvy : Int32} {fb : Int32} {fp : Int32} {fn : Int32} {fo : Int32} {fdx : Int32} {fdy : Int32} {fs : Int32} {a1 : Nat → Int32} {a2 : Nat → Int32} {a3 : Nat → Int32} {a4 : Nat → Int32} {a5 : Nat → Int32} {a6 : Nat → Int64} {a7 : Nat → Int64} {a8 : Nat → Int64} {a9 : Nat → Int64} {a10 : Nat → Int32} {a11 : Nat → Int32} {a12 : Nat → Int32} {a13 : Nat → Int32} {a14 : Nat → Int32} {a15 : Nat → Int32} {a16 : Nat → Int32} {a17 : Nat → Int32}
theorem bs_wdivide {post : St1 → Prop} {C P N n : Nat} {A : Nat → Nat → Int} (hC : C ≤ 10) (hg : bs_gb (bs_gv a1 a2 a3 a4) C) (o : bs_OI (bs_gv a1 a2 a3 a4) C P (bs_tv a5 a6 a7 a8 a9 a10 a11) N (bs_sv a12 a13 a14) A n) (hn : n < N)
    (H : ∀ (P N : Nat) (b5 : Nat → Int32) (b6 b7 b8 b9 : Nat → Int64) (b10 b11 b12 b13 b14 : Nat → Int32) (A : Nat → Nat → Int), bs_OI (bs_gv a1 a2 a3 a4) C P (bs_tv b5 b6 b7 b8 b9 b10 b11) N (bs_sv b12 b13 b14) A (n + 1) → post (fc, fvx, fvy, fb, nI P, nI N, fo, fdx, fdy, fs, a1, a2, a3, a4, b5, b6, b7, b8, b9, b10, b11, b12, b13, b14, a15, a16, a17)) : wpX_divide post (fc, fvx, fvy, fb, nI P, nI N, fo, fdx, fdy, fs, a1, a2, a3, a4, a5, a6, a7, a8, a9, a10, a11, a12, a13, a14, a15, a16, a17) (nI n) := by
  obtain ⟨bP, bN⟩ := bs_TJbound o.1 o.2.1
  obtain ⟨b, b1, b2⟩ := o.2.1 n hn
  have b3 := o.2.2.2.2.2.2 b b1 (by omega)
  have e10 : a10 b = nI n := bs_nIt b2
  have e11 : a11 b = 0 := bs_eq0.mpr b3
  unfold wpX_divide
  rw [nI_clamp (show n < 2 ^ 31 by omega)]
  refine bs_wbest hC (by omega) hg o.1.2.1 b1 e10 e11 (fun f hf ef => ⟨vp_in_nI (by omega) (by omega), ?_⟩)
  have bf := o.1.2.1 f hf
  unfold bs_pb at bf
  have e5 : a5 f = nI ((bs_tv a5 a6 a7 a8 a9 a10 a11) f 0).toNat := (bs_nIof bf.1).1
  have w0 : (bs_tv a5 a6 a7 a8 a9 a10 a11) f 0 = (((bs_tv a5 a6 a7 a8 a9 a10 a11) f 0).toNat : Int) := by omega
  have wC : ((bs_tv a5 a6 a7 a8 a9 a10 a11) f 0).toNat < C := by omega
  generalize hw : ((bs_tv a5 a6 a7 a8 a9 a10 a11) f 0).toNat = w at *
  rw [e5]
  refine nm_e ⟨P + 1, bs_wdiv21 hC hg (fun P N b5 b6 b7 b8 b9 b10 b11 b12 b13 b14 A d => H P N b5 b6 b7 b8 b9 b10 b11 b12 b13 b14 A (bs_DIend d)) P 0 (by omega) P N a5 a6 a7 a8 a9 a10 a11 (upd a12 n (nI w)) a13 a14 A (bs_DI0 o hn hf ?_ w0 (fun k hk => ?_) (fun j hj => bs_svK hj) ?_)⟩
  · show (a10 f).toInt = n
    rw [ef, nI_toInt (by omega)]
  · funext j
    unfold bs_sv
    rw [pk_un hk]
  · show (upd a12 n (nI w) n).toInt = w
    rw [pk_us, nI_toInt (by omega)]
theorem bs_wb100 {post : St1 → Prop} {C : Nat} (hC : C ≤ 10) (hg : bs_gb (bs_gv a1 a2 a3 a4) C)
    (H : ∀ (P N : Nat) (b5 : Nat → Int32) (b6 b7 b8 b9 : Nat → Int64) (b10 b11 b12 b13 b14 : Nat → Int32) (A : Nat → Nat → Int), bs_TF (bs_gv a1 a2 a3 a4) C P (bs_tv b5 b6 b7 b8 b9 b10 b11) N (bs_sv b12 b13 b14) A → post (fc, fvx, fvy, 1, nI P, nI N, fo, fdx, fdy, fs, a1, a2, a3, a4, b5, b6, b7, b8, b9, b10, b11, b12, b13, b14, a15, a16, a17)) :
    ∀ k n : Nat, n + k = 128 → ∀ (P N : Nat) (a5 : Nat → Int32) (a6 a7 a8 a9 : Nat → Int64) (a10 a11 a12 a13 a14 : Nat → Int32) (A : Nat → Nat → Int), bs_OI (bs_gv a1 a2 a3 a4) C P (bs_tv a5 a6 a7 a8 a9 a10 a11) N (bs_sv a12 a13 a14) A n → wX_build_100 post (k + 1) (nI n) fc fvx fvy fb (nI P) (nI N) fo fdx fdy fs a1 a2 a3 a4 a5 a6 a7 a8 a9 a10 a11 a12 a13 a14 a15 a16 a17 := by
  intro k
  induction k with
  | zero =>
    intro n e P N a5 a6 a7 a8 a9 a10 a11 a12 a13 a14 A o
    obtain ⟨bP, bN⟩ := bs_TJbound o.1 o.2.1
    have := o.2.2.1
    omega
  | succ k ih =>
    intro n e P N a5 a6 a7 a8 a9 a10 a11 a12 a13 a14 A o
    obtain ⟨bP, bN⟩ := bs_TJbound o.1 o.2.1
    refine pk_le 128 n (fun z => absurd z (by omega)) (fun z => pk_le N n (fun z2 => ?_) (fun z2 => ?_))
    · have : n = N := by
        have := o.2.2.1
        omega
      rw [this] at o
      exact H P N a5 a6 a7 a8 a9 a10 a11 a12 a13 a14 A (bs_OIend o)
    · exact bs_wdivide hC hg o z2 (fun P N b5 b6 b7 b8 b9 b10 b11 b12 b13 b14 A o' => nm_r (nI_1 n) (ih (n + 1) (by omega) P N b5 b6 b7 b8 b9 b10 b11 b12 b13 b14 A o'))
/-- the pieces at the start of a build -/
def bs_t0 (t : Nat → Nat → Int) (i : Nat) : Prop := ∀ f, f < i → t f 0 = (f : Int) ∧ t f 1 = 0 ∧ t f 2 = 1 ∧ t f 3 = 1 ∧ t f 4 = 1 ∧ t f 5 = 0 ∧ t f 6 = 0
theorem bs_OIini {g : Nat → Nat → Int} {C N : Nat} {t s : Nat → Nat → Int} (hC : C ≤ 10) (h : bs_t0 t C) (hN : N = 0 ∧ C = 0 ∨ N = 1 ∧ 0 < C ∧ s 0 1 = -1 ∧ s 0 2 = -1) : bs_OI g C C t N s (fun _ _ => 0) 0 := by
  refine ⟨⟨⟨fun k a _ z => absurd rfl z, fun k a _ => Or.inl rfl, fun n e hn he => ?_, fun k n e _ he z => ?_, fun k m a _ z => absurd rfl z, fun k hk => Or.inl (by omega)⟩, fun f hf => ?_, fun f hf => ?_, fun f a hf => ?_, fun f hf z => ?_, fun p hp a d h1 h2 h3 => ?_, ?_⟩, fun k hk => ?_, by omega, fun k hk => absurd hk (by omega), fun k _ hk => ?_, fun f hf z => ?_, fun f hf z => (h f hf).2.2.2.2.2.2⟩
  · left
    rcases hN with hN | hN
    · omega
    · rw [show n = 0 by omega]
      rcases he with q | q
      · rw [q]; exact hN.2.2.1
      · rw [q]; exact hN.2.2.2
  · have z' : (0 : Int) = 3 - 2 * (e : Int) := z
    omega
  · have := h f hf
    unfold bs_pb
    omega
  · have := h f hf
    omega
  · show 0 ≤ (0 : Int) * _ ∧ 0 ≤ (0 : Int) * _
    rw [Int.zero_mul, Int.zero_mul]
    omega
  · exact absurd (h f hf).2.2.2.2.2.2 z
  · have q := h p hp
    refine ⟨p, hp, q.1, ?_⟩
    rw [q.2.1, q.2.2.1, q.2.2.2.1, q.2.2.2.2.1]
    omega
  · have l := bs_Sb (h := bs_cr g C t) (b := C) (n := C) (fun i _ => by
      unfold bs_cr
      have := bs_Sb (h := fun w => if bs_lo g t w i * bs_hi g t w i < 0 then 1 else 0) (b := 1) (n := C) (fun w _ => by
        show (if bs_lo g t w i * bs_hi g t w i < 0 then 1 else 0) ≤ 1
        split <;> omega)
      omega)
    have := Nat.mul_le_mul hC hC
    omega
  · refine ⟨0, by omega, ?_⟩
    have := h 0 (by omega)
    omega
  · rcases hN with hN | hN
    · omega
    · rw [show k = 0 by omega]
      exact hN.2.2
  · have := h f hf
    omega
theorem bs_wb23 {post : St1 → Prop} {C : Nat} (hC : C ≤ 10) (hg : bs_gb (bs_gv a1 a2 a3 a4) C)
    (H : ∀ (P N : Nat) (b5 : Nat → Int32) (b6 b7 b8 b9 : Nat → Int64) (b10 b11 b12 b13 b14 : Nat → Int32) (A : Nat → Nat → Int), bs_TF (bs_gv a1 a2 a3 a4) C P (bs_tv b5 b6 b7 b8 b9 b10 b11) N (bs_sv b12 b13 b14) A → post (nI C, fvx, fvy, 1, nI P, nI N, fo, fdx, fdy, fs, a1, a2, a3, a4, b5, b6, b7, b8, b9, b10, b11, b12, b13, b14, a15, a16, a17)) :
    ∀ k i : Nat, i + k = C → ∀ (a5 : Nat → Int32) (a6 a7 a8 a9 : Nat → Int64) (a10 a11 : Nat → Int32), bs_t0 (bs_tv a5 a6 a7 a8 a9 a10 a11) i → wX_build_23 post (nI C) fvx fvy fb (nI C) (nI 0) fo fdx fdy fs (k + 1) (nI i) a1 a2 a3 a4 a5 a6 a7 a8 a9 a10 a11 a12 a13 a14 a15 a16 a17 := by
  intro k
  induction k with
  | zero =>
    intro i e a5 a6 a7 a8 a9 a10 a11 h
    have ei : i = C := by omega
    rw [ei] at h
    refine pk_le C i (fun z => pk_le C 0 (fun z2 => ?_) (fun z2 => ?_)) (fun z => absurd z (by omega))
    · exact ⟨129, bs_wb100 hC hg H 128 0 (by omega) C 0 a5 a6 a7 a8 a9 a10 a11 a12 a13 a14 _ (bs_OIini hC h (Or.inl ⟨rfl, by omega⟩))⟩
    · refine bs_wnew3 (by omega) ⟨129, bs_wb100 hC hg H 128 0 (by omega) C 1 a5 a6 a7 a8 a9 a10 a11 _ _ _ _ (bs_OIini hC h (Or.inr ⟨rfl, z2, ?_, ?_⟩))⟩
      · show (upd a13 0 (-1) 0).toInt = -1
        rw [pk_us]
        rfl
      · show (upd a14 0 (-1) 0).toInt = -1
        rw [pk_us]
        rfl
  | succ k ih =>
    intro i e a5 a6 a7 a8 a9 a10 a11 h
    have iv : vp_in (nI i) 128 := vp_in_nI (by omega) (by omega)
    refine pk_le C i (fun z => absurd z (by omega)) (fun z => ?_)
    rw [nI_clamp (show i < 2 ^ 31 by omega)]
    refine ⟨iv, nm_e ⟨iv, nm_e ⟨iv, nm_e ⟨iv, nm_e ⟨iv, nm_e ⟨iv, nm_e ⟨iv, nm_e (nm_r (nI_1 i) (ih (i + 1) (by omega) _ _ _ _ _ _ _ (fun f hf => ?_)))⟩⟩⟩⟩⟩⟩⟩
    by_cases q : f = i
    · rw [q]
      refine ⟨?_, congrArg Int64.toInt pk_uLs, congrArg Int64.toInt pk_uLs, congrArg Int64.toInt pk_uLs, congrArg Int64.toInt pk_uLs, congrArg Int32.toInt pk_us, congrArg Int32.toInt pk_us⟩
      show (upd a5 i (nI i) i).toInt = i
      rw [pk_us, nI_toInt (by omega)]
    · rw [bs_tve (a5 := a5) (a6 := a6) (a7 := a7) (a8 := a8) (a9 := a9) (a10 := a10) (a11 := a11) (pk_un q) (pk_uLn q) (pk_uLn q) (pk_uLn q) (pk_uLn q) (pk_un q) (pk_un q)]
      exact h f (by omega)
/-- ready to render: not built, or built well -/
def bs_rdy (g : Nat → Nat → Int) (C : Nat) (fb fp fn : Int32) (t s : Nat → Nat → Int) : Prop := fb = 0 ∨ (fb = 1 ∧ ∃ (P N : Nat) (A : Nat → Nat → Int), fp = nI P ∧ fn = nI N ∧ bs_TF g C P t N s A)
theorem bs_wbuild {post : St1 → Prop} {C : Nat} (hC : C ≤ 10) (hg : bs_gb (bs_gv a1 a2 a3 a4) C) (hr : bs_rdy (bs_gv a1 a2 a3 a4) C fb fp fn (bs_tv a5 a6 a7 a8 a9 a10 a11) (bs_sv a12 a13 a14))
    (H : ∀ (P N : Nat) (b5 : Nat → Int32) (b6 b7 b8 b9 : Nat → Int64) (b10 b11 b12 b13 b14 : Nat → Int32) (A : Nat → Nat → Int), bs_TF (bs_gv a1 a2 a3 a4) C P (bs_tv b5 b6 b7 b8 b9 b10 b11) N (bs_sv b12 b13 b14) A → post (nI C, fvx, fvy, 1, nI P, nI N, fo, fdx, fdy, fs, a1, a2, a3, a4, b5, b6, b7, b8, b9, b10, b11, b12, b13, b14, a15, a16, a17)) : wpX_build post (nI C, fvx, fvy, fb, fp, fn, fo, fdx, fdy, fs, a1, a2, a3, a4, a5, a6, a7, a8, a9, a10, a11, a12, a13, a14, a15, a16, a17) := by
  rcases hr with e | ⟨e, P, N, A, e1, e2, h⟩
  · exact br_t e ⟨C + 1, bs_wb23 hC hg H C 0 (by omega) a5 a6 a7 a8 a9 a10 a11 (fun f hf => absurd hf (by omega))⟩
  · subst e e1 e2
    exact br_f (by decide) (H P N a5 a6 a7 a8 a9 a10 a11 a12 a13 a14 A h)
end
end
section
/-! the stack as a list, the top first -/
def bs_st (a : Nat → Int32) : List Nat → Nat → Prop
  | [], K => K = 0
  | x :: l, K => ∃ K', K = K' + 1 ∧ a K' = nI x ∧ bs_st a l K'
theorem bs_stU {a : Nat → Int32} {j : Nat} {v : Int32} : ∀ {l : List Nat} {K : Nat}, bs_st a l K → K ≤ j → bs_st (upd a j v) l K
  | [], _, h, _ => h
  | x :: l, K, h, hj => by
    obtain ⟨K', k1, k2, k3⟩ := h
    exact ⟨K', k1, by rw [pk_un (by omega)]; exact k2, bs_stU k3 (by omega)⟩
theorem bs_stP {a : Nat → Int32} {l : List Nat} {K x : Nat} (h : bs_st a l K) : bs_st (upd a K (nI x)) (x :: l) (K + 1) := ⟨K, rfl, pk_us, bs_stU h (Nat.le_refl K)⟩
theorem bs_stL {a : Nat → Int32} : ∀ {l : List Nat} {K : Nat}, bs_st a l K → K = l.length
  | [], _, h => h
  | x :: l, K, h => by
    obtain ⟨K', k1, k2, k3⟩ := h
    have := bs_stL k3
    show K = l.length + 1
    omega
section
variable {fc : Int32} {fvx : Int32} {fvy : Int32} {fb : Int32} {fp : Int32} {fn : Int32} {fo : Int32} {fdx : Int32} {fdy : Int32} {fs : Int32} {a1 : Nat → Int32} {a2 : Nat → Int32} {a3 : Nat → Int32} {a4 : Nat → Int32} {a5 : Nat → Int32} {a6 : Nat → Int64} {a7 : Nat → Int64} {a8 : Nat → Int64} {a9 : Nat → Int64} {a10 : Nat → Int32} {a11 : Nat → Int32} {a12 : Nat → Int32} {a13 : Nat → Int32} {a14 : Nat → Int32} {a15 : Nat → Int32} {a16 : Nat → Int32} {a17 : Nat → Int32}
theorem bs_wpush {post : St1 → Prop} {K : Nat} {x : Int32} (hK : K < 384) (H : post (fc, fvx, fvy, fb, fp, fn, fo, fdx, fdy, nI (K + 1), a1, a2, a3, a4, a5, a6, a7, a8, a9, a10, a11, a12, a13, a14, a15, a16, upd a17 K x)) : wpX_push post (fc, fvx, fvy, fb, fp, fn, fo, fdx, fdy, nI K, a1, a2, a3, a4, a5, a6, a7, a8, a9, a10, a11, a12, a13, a14, a15, a16, a17) x := by
  have i : vp_in (nI K) 384 := vp_in_nI hK (by omega)
  have c := nI_clamp (show K < 2 ^ 31 by omega)
  unfold wpX_push
  exact ⟨i, nm_r (congrArg (fun k => upd a17 k x) c) (nm_r (nI_1 K) H)⟩
theorem bs_x2 {x : Int32} (h : 0 ≤ x.toInt) : x * 2 = nI (2 * x.toInt.toNat) := by
  have e := (bs_nIof h).1
  have m := pk_mul x.toInt.toNat 2
  rw [← e, Nat.mul_comm] at m
  exact m
theorem bs_wv73 {post : St1 → Prop} {n K : Nat} {x : Int32} {l : List Nat} (hK : K + 2 ≤ 384) (h : bs_st a17 l K)
    (H : ∀ (K' : Nat) (b17 : Nat → Int32), bs_st b17 (bs_op x.toInt ((2 * n + 1) :: l)) K' → post (fc, fvx, fvy, fb, fp, fn, fo, fdx, fdy, nI K', a1, a2, a3, a4, a5, a6, a7, a8, a9, a10, a11, a12, a13, a14, a15, a16, b17)) : wX_visit_73 post (nI n) x fc fvx fvy fb fp fn fo fdx fdy (nI K) a1 a2 a3 a4 a5 a6 a7 a8 a9 a10 a11 a12 a13 a14 a15 a16 a17 := by
  have e : nI n * 2 + 1 = nI (2 * n + 1) := by
    have m := pk_mul n 2
    rw [← nI_1, Nat.mul_comm, ← m]
    rfl
  unfold wX_visit_73
  rw [e]
  refine bs_wpush (by omega) (br_c (fun z => ?_) (fun z => ?_))
  · refine H (K + 1) _ ?_
    rw [bs_lt0, bs_z0] at z
    unfold bs_op
    rw [if_pos z]
    exact bs_stP h
  · rw [bs_lt0, bs_z0] at z
    rw [bs_x2 (by omega)]
    refine bs_wpush (by omega) (H (K + 1 + 1) _ ?_)
    unfold bs_op
    rw [if_neg z]
    exact bs_stP (bs_stP h)
theorem bs_wv58 {post : St1 → Prop} {n K : Nat} {x y : Int32} {l : List Nat} (hK : K + 3 ≤ 384) (h : bs_st a17 l K)
    (H : ∀ (K' : Nat) (b17 : Nat → Int32), bs_st b17 (bs_op x.toInt ((2 * n + 1) :: bs_op y.toInt l)) K' → post (fc, fvx, fvy, fb, fp, fn, fo, fdx, fdy, nI K', a1, a2, a3, a4, a5, a6, a7, a8, a9, a10, a11, a12, a13, a14, a15, a16, b17)) : wX_visit_58 post (nI n) x y fc fvx fvy fb fp fn fo fdx fdy (nI K) a1 a2 a3 a4 a5 a6 a7 a8 a9 a10 a11 a12 a13 a14 a15 a16 a17 := by
  unfold wX_visit_58
  refine br_c (fun z => ?_) (fun z => ?_)
  · refine bs_wv73 (by omega) h ?_
    rw [bs_lt0, bs_z0] at z
    have e : bs_op y.toInt l = l := by
      unfold bs_op
      rw [if_pos z]
    rw [e] at H
    exact H
  · rw [bs_lt0, bs_z0] at z
    rw [bs_x2 (by omega)]
    have e : bs_op y.toInt l = (2 * y.toInt.toNat) :: l := by
      unfold bs_op
      rw [if_neg z]
    rw [e] at H
    exact bs_wpush (by omega) (bs_wv73 (by omega) (bs_stP h) H)
theorem bs_wvisit {post : St1 → Prop} {C n K w : Nat} {l : List Nat} (hC : C ≤ 10) (hg : bs_gb (bs_gv a1 a2 a3 a4) C) (hx : bs_b 14 fvx.toInt) (hy : bs_b 14 fvy.toInt) (hn : n < 128) (hw : a12 n = nI w) (hwC : w < C) (hK : K + 3 ≤ 384) (h : bs_st a17 l K)
    (H : ∀ (e K' : Nat) (b17 : Nat → Int32), e = 1 ∧ 0 ≤ bs_sd (bs_gv a1 a2 a3 a4) w fvx.toInt fvy.toInt ∨ e = 2 ∧ bs_sd (bs_gv a1 a2 a3 a4) w fvx.toInt fvy.toInt < 0 → bs_st b17 (bs_vl (bs_sv a12 a13 a14) n e l) K' → post (fc, fvx, fvy, fb, fp, fn, fo, fdx, fdy, nI K', a1, a2, a3, a4, a5, a6, a7, a8, a9, a10, a11, a12, a13, a14, a15, a16, b17)) : wpX_visit post (fc, fvx, fvy, fb, fp, fn, fo, fdx, fdy, nI K, a1, a2, a3, a4, a5, a6, a7, a8, a9, a10, a11, a12, a13, a14, a15, a16, a17) (nI n) := by
  have i : vp_in (nI n) 128 := vp_in_nI hn (by omega)
  unfold wpX_visit
  rw [nI_clamp (by omega)]
  refine ⟨i, ?_⟩
  rw [hw]
  refine bs_wside (by omega) (fun k hk => hg w k hwC hk) hx hy (fun v e b => br_c (fun z => ⟨i, ?_⟩) (fun z => ⟨i, ?_⟩))
  · have z' := z
    rw [bs_lt0, bs_z0, e] at z'
    unfold wX_visit_38
    rw [nI_clamp (by omega)]
    exact br_t z ⟨i, bs_wv58 (by omega) h (fun K' b17 q => H 2 K' b17 (Or.inr ⟨rfl, z'⟩) q)⟩
  · have z' := z
    rw [bs_lt0, bs_z0, e] at z'
    unfold wX_visit_38
    rw [nI_clamp (by omega)]
    exact br_f z ⟨i, bs_wv58 (by omega) h (fun K' b17 q => H 1 K' b17 (Or.inl ⟨rfl, by omega⟩) q)⟩
/-! the walk: a ray -/
theorem bs_waim {post : St1 → Prop} {look c : Nat} {vx vy : Int} (hl : look < 4) (hc : c < 16)
    (H : ∀ dx dy : Int32, dx.toInt = bs_ray vx vy look c 2 → dy.toInt = bs_ray vx vy look c 3 → bs_b 16 dx.toInt → bs_b 16 dy.toInt → post (fc, fvx, fvy, fb, fp, fn, fo, dx, dy, fs, a1, a2, a3, a4, a5, a6, a7, a8, a9, a10, a11, a12, a13, a14, a15, a16, a17)) : wpX_aim post (fc, fvx, fvy, fb, fp, fn, fo, fdx, fdy, fs, a1, a2, a3, a4, a5, a6, a7, a8, a9, a10, a11, a12, a13, a14, a15, a16, a17) (nI look) (nI c) := by
  have tc : (nI c).toInt = (c : Int) := nI_toInt (by omega)
  have m : ((2 : Int32) * nI c).toInt = 2 * (c : Int) := by
    rw [bs_im (by rw [tc, bs_z2]; omega) (by rw [tc, bs_z2]; omega), tc, bs_z2]
  have k15 : (15 : Int32).toInt = 15 := rfl
  have s : ((2 : Int32) * nI c - 15).toInt = 2 * (c : Int) - 15 := by
    rw [bs_is (by rw [m, k15]; omega) (by rw [m, k15]; omega), m, k15]
  have sn : (-((2 : Int32) * nI c - 15)).toInt = -(2 * (c : Int) - 15) := by
    rw [bs_ine (by rw [s]; omega) (by rw [s]; omega), s]
  have p16 : (16 : Int32).toInt = 16 := rfl
  have n16 : (-16 : Int32).toInt = -16 := rfl
  have r2 : bs_ray vx vy look c 2 = (if look = 0 then 16 else if look = 1 then -(2 * (c : Int) - 15) else if look = 2 then -16 else 2 * (c : Int) - 15) := rfl
  have r3 : bs_ray vx vy look c 3 = (if look = 0 then 2 * (c : Int) - 15 else if look = 1 then 16 else if look = 2 then -(2 * (c : Int) - 15) else -16) := rfl
  unfold bs_b at H
  unfold wpX_aim
  refine nm_e (pk_eq look 0 (fun z => ?_) (fun z => pk_eq look 1 (fun z1 => nm_e ?_) (fun z1 => pk_eq look 2 (fun z2 => nm_e ?_) (fun z2 => ?_))))
  · rw [if_pos z] at r2 r3
    exact H _ _ (by rw [p16, r2]) (by rw [s, r3]) (by rw [p16]; omega) (by rw [s]; omega)
  · rw [if_neg z, if_pos z1] at r2 r3
    exact H _ _ (by rw [sn, r2]) (by rw [p16, r3]) (by rw [sn]; omega) (by rw [p16]; omega)
  · rw [if_neg z, if_neg z1, if_pos z2] at r2 r3
    exact H _ _ (by rw [n16, r2]) (by rw [sn, r3]) (by rw [n16]; omega) (by rw [sn]; omega)
  · rw [if_neg z, if_neg z1, if_neg z2] at r2 r3
    exact H _ _ (by rw [s, r2]) (by rw [n16, r3]) (by rw [s]; omega) (by rw [n16]; omega)
theorem bs_wh142 {post : Int32 → Prop} {C f p : Nat} {x5 x7 x9 : Int64} {r : Nat → Int} (hf : f < 128) (hb : bs_pb C (bs_tv a5 a6 a7 a8 a9 a10 a11) f) (hp : (bs_tv a5 a6 a7 a8 a9 a10 a11 f 0).toNat = p)
    (e5 : x5.toInt = bs_nd (bs_gv a1 a2 a3 a4) r p) (e7 : x7.toInt = bs_na (bs_gv a1 a2 a3 a4) r p) (e9 : x9.toInt = bs_nl (bs_gv a1 a2 a3 a4) r p) (q5 : bs_b 1568 x5.toInt) (q9 : bs_b 1568 x9.toInt)
    (H1 : bs_hp (bs_gv a1 a2 a3 a4) (bs_tv a5 a6 a7 a8 a9 a10 a11) r f → post 1) (H0 : ¬ bs_hp (bs_gv a1 a2 a3 a4) (bs_tv a5 a6 a7 a8 a9 a10 a11) r f → post 0) : wX_hits_142 post (nI f) x5 x7 x9 fc fvx fvy fb fp fn fo fdx fdy fs a1 a2 a3 a4 a5 a6 a7 a8 a9 a10 a11 a12 a13 a14 a15 a16 a17 := by
  have i : vp_in (nI f) 128 := vp_in_nI hf (by omega)
  obtain ⟨b0, b00, b11, b12, b13, b14, b21, b22, b23, b24⟩ := hb
  unfold bs_hp at H1 H0
  rw [hp, ← e5, ← e7, ← e9] at H1 H0
  have nn : 0 ≤ x5.toInt := by rw [e5]; exact bs_nd0 _ _ _
  have c6 : bs_b 3136 (a6 f).toInt := ⟨by show -3136 ≤ (bs_tv a5 a6 a7 a8 a9 a10 a11) f 1; omega, by show (bs_tv a5 a6 a7 a8 a9 a10 a11) f 1 ≤ 3136; omega⟩
  have c7 : bs_b 3136 (a7 f).toInt := ⟨by show -3136 ≤ (bs_tv a5 a6 a7 a8 a9 a10 a11) f 2; omega, b14⟩
  have c8 : bs_b 3136 (a8 f).toInt := ⟨by show -3136 ≤ (bs_tv a5 a6 a7 a8 a9 a10 a11) f 3; omega, by show (bs_tv a5 a6 a7 a8 a9 a10 a11) f 3 ≤ 3136; omega⟩
  have c9 : bs_b 3136 (a9 f).toInt := ⟨by show -3136 ≤ (bs_tv a5 a6 a7 a8 a9 a10 a11) f 4; omega, b24⟩
  have m97 := bs_pbd q9 c7
  have m65 := bs_pbd c6 q5
  have m85 := bs_pbd c8 q5
  have m99 := bs_pbd q9 c9
  have u97 : (x9 * a7 f).toInt = x9.toInt * (a7 f).toInt := bs_lm (by omega) (by omega)
  have u65 : (a6 f * x5).toInt = (a6 f).toInt * x5.toInt := bs_lm (by omega) (by omega)
  have u85 : (a8 f * x5).toInt = (a8 f).toInt * x5.toInt := bs_lm (by omega) (by omega)
  have u99 : (x9 * a9 f).toInt = x9.toInt * (a9 f).toInt := bs_lm (by omega) (by omega)
  unfold wX_hits_142
  rw [nI_clamp (by omega)]
  refine br_c (fun z => H0 (fun h => ?_)) (fun z => br_c (fun z1 => ⟨i, i, br_c (fun z2 => H0 (fun h => ?_)) (fun z2 => ⟨i, i, br_c (fun z3 => H0 (fun h => ?_)) (fun z3 => H1 ⟨?_, ?_, ?_, ?_⟩)⟩)⟩) (fun z1 => H0 (fun h => ?_)))
  · rw [bs_eq1, bs_L0] at z
    have := h.1
    omega
  · rw [bs_lt1, u97, u65] at z2
    exact absurd h.2.2.1 (Int.not_le.mpr z2)
  · rw [bs_lt1, u85, u99] at z3
    exact absurd h.2.2.2 (Int.not_le.mpr z3)
  · rw [bs_eq1, bs_L0] at z
    omega
  · rw [bs_lt1, bs_L0] at z1
    exact z1
  · rw [bs_lt1, u97, u65] at z2
    exact Int.not_lt.mp z2
  · rw [bs_lt1, u85, u99] at z3
    exact Int.not_lt.mp z3
  · rw [bs_lt1, bs_L0] at z1
    exact absurd h.2.1 z1
theorem bs_d32 {b b' : Int} {x y : Int32} (hx : bs_b b x.toInt) (hy : bs_b b' y.toInt) (h : b + b' ≤ 1000000) : (x - y).toInt = x.toInt - y.toInt ∧ bs_b (b + b') (x.toInt - y.toInt) := by
  unfold bs_b at hx hy ⊢
  exact ⟨bs_is (by omega) (by omega), by omega⟩
/-- the three numbers of a ray and a wall, in the machine -/
theorem bs_ray32 {C p : Nat} {r : Nat → Int} (hg : bs_gb (bs_gv a1 a2 a3 a4) C) (hp : p < C) (h0 : r 0 = fvx.toInt) (h1 : r 1 = fvy.toInt) (h2 : r 2 = fdx.toInt) (h3 : r 3 = fdy.toInt) (hx : bs_b 14 fvx.toInt) (hy : bs_b 14 fvy.toInt) (hdx : bs_b 16 fdx.toInt) (hdy : bs_b 16 fdy.toInt) :
    (((a3 p - a1 p) * fdy - (a4 p - a2 p) * fdx).toInt = bs_rd (bs_gv a1 a2 a3 a4) r p ∧ bs_b 1568 (bs_rd (bs_gv a1 a2 a3 a4) r p)) ∧
    (((a3 p - a1 p) * (a2 p - fvy) - (a4 p - a2 p) * (a1 p - fvx)).toInt = bs_ra (bs_gv a1 a2 a3 a4) r p ∧ bs_b 1568 (bs_ra (bs_gv a1 a2 a3 a4) r p)) ∧
    (((fvx - a1 p) * fdy - (fvy - a2 p) * fdx).toInt = bs_rl (bs_gv a1 a2 a3 a4) r p ∧ bs_b 1568 (bs_rl (bs_gv a1 a2 a3 a4) r p)) := by
  have g0 : bs_b 14 (a1 p).toInt := hg p 0 hp (by omega)
  have g1 : bs_b 14 (a2 p).toInt := hg p 1 hp (by omega)
  have g2 : bs_b 14 (a3 p).toInt := hg p 2 hp (by omega)
  have g3 : bs_b 14 (a4 p).toInt := hg p 3 hp (by omega)
  obtain ⟨e1, b1⟩ := bs_d28 g2 g0
  obtain ⟨e2, b2⟩ := bs_d28 g3 g1
  obtain ⟨e3, b3⟩ := bs_d28 g1 hy
  obtain ⟨e4, b4⟩ := bs_d28 g0 hx
  obtain ⟨e5, b5⟩ := bs_d28 hx g0
  obtain ⟨e6, b6⟩ := bs_d28 hy g1
  have k1 := bs_det (e := a3 p - a1 p) (q := fdy) (f := a4 p - a2 p) (p := fdx) (b := 28) (b' := 16) (by rw [e1]; exact b1) (by rw [e2]; exact b2) hdy hdx (by omega)
  have k2 := bs_det (e := a3 p - a1 p) (q := a2 p - fvy) (f := a4 p - a2 p) (p := a1 p - fvx) (b := 28) (b' := 28) (by rw [e1]; exact b1) (by rw [e2]; exact b2) (by rw [e3]; exact b3) (by rw [e4]; exact b4) (by omega)
  have k3 := bs_det (e := fvx - a1 p) (q := fdy) (f := fvy - a2 p) (p := fdx) (b := 28) (b' := 16) (by rw [e5]; exact b5) (by rw [e6]; exact b6) hdy hdx (by omega)
  rw [e1, e2] at k1
  rw [e1, e2, e3, e4] at k2
  rw [e5, e6] at k3
  have d1 : bs_rd (bs_gv a1 a2 a3 a4) r p = ((a3 p).toInt - (a1 p).toInt) * fdy.toInt - ((a4 p).toInt - (a2 p).toInt) * fdx.toInt := by
    unfold bs_rd
    rw [h2, h3]
    rfl
  have d2 : bs_ra (bs_gv a1 a2 a3 a4) r p = ((a3 p).toInt - (a1 p).toInt) * ((a2 p).toInt - fvy.toInt) - ((a4 p).toInt - (a2 p).toInt) * ((a1 p).toInt - fvx.toInt) := by
    unfold bs_ra
    rw [h0, h1]
    rfl
  have d3 : bs_rl (bs_gv a1 a2 a3 a4) r p = (fvx.toInt - (a1 p).toInt) * fdy.toInt - (fvy.toInt - (a2 p).toInt) * fdx.toInt := by
    unfold bs_rl
    rw [h0, h1, h2, h3]
    rfl
  rw [d1, d2, d3]
  have w : ∀ x : Int, bs_b (2 * (28 * 16)) x → bs_b 1568 x := fun x h => by
    unfold bs_b at h ⊢
    omega
  have w2 : ∀ x : Int, bs_b (2 * (28 * 28)) x → bs_b 1568 x := fun x h => by
    unfold bs_b at h ⊢
    omega
  exact ⟨⟨k1.1, w _ k1.2⟩, ⟨k2.1, w2 _ k2.2⟩, ⟨k3.1, w _ k3.2⟩⟩
theorem bs_eP {g : Nat → Nat → Int} {r : Nat → Int} {p : Nat} (h : 0 ≤ bs_rd g r p) : bs_nd g r p = bs_rd g r p ∧ bs_na g r p = bs_ra g r p ∧ bs_nl g r p = bs_rl g r p := by
  unfold bs_nd bs_na bs_nl bs_e
  rw [if_neg (by omega)]
  omega
theorem bs_eN {g : Nat → Nat → Int} {r : Nat → Int} {p : Nat} (h : bs_rd g r p < 0) : bs_nd g r p = -bs_rd g r p ∧ bs_na g r p = -bs_ra g r p ∧ bs_nl g r p = -bs_rl g r p := by
  unfold bs_nd bs_na bs_nl bs_e
  rw [if_pos h]
  omega
theorem bs_whits {post : Int32 → Prop} {C f : Nat} {r : Nat → Int} (hC : C ≤ 10) (hg : bs_gb (bs_gv a1 a2 a3 a4) C) (hf : f < 128) (hb : bs_pb C (bs_tv a5 a6 a7 a8 a9 a10 a11) f)
    (h0 : r 0 = fvx.toInt) (h1 : r 1 = fvy.toInt) (h2 : r 2 = fdx.toInt) (h3 : r 3 = fdy.toInt) (hx : bs_b 14 fvx.toInt) (hy : bs_b 14 fvy.toInt) (hdx : bs_b 16 fdx.toInt) (hdy : bs_b 16 fdy.toInt)
    (H1 : bs_hp (bs_gv a1 a2 a3 a4) (bs_tv a5 a6 a7 a8 a9 a10 a11) r f → post 1) (H0 : ¬ bs_hp (bs_gv a1 a2 a3 a4) (bs_tv a5 a6 a7 a8 a9 a10 a11) r f → post 0) : wpX_hits post (fc, fvx, fvy, fb, fp, fn, fo, fdx, fdy, fs, a1, a2, a3, a4, a5, a6, a7, a8, a9, a10, a11, a12, a13, a14, a15, a16, a17) (nI f) := by
  have i : vp_in (nI f) 128 := vp_in_nI hf (by omega)
  have bb := hb
  unfold bs_pb at bb
  have e5 : a5 f = nI ((bs_tv a5 a6 a7 a8 a9 a10 a11) f 0).toNat := (bs_nIof bb.1).1
  have pC : ((bs_tv a5 a6 a7 a8 a9 a10 a11) f 0).toNat < C := by omega
  clear bb
  generalize hp : ((bs_tv a5 a6 a7 a8 a9 a10 a11) f 0).toNat = p at *
  have vp : vp_in (nI p) 10 := vp_in_nI (by omega) (by omega)
  obtain ⟨⟨d1, c1⟩, ⟨d2, c2⟩, ⟨d3, c3⟩⟩ := bs_ray32 (r := r) hg pC h0 h1 h2 h3 hx hy hdx hdy
  unfold wpX_hits
  rw [nI_clamp (show f < 2 ^ 31 by omega)]
  refine ⟨i, nm_r e5 ?_⟩
  rw [nI_clamp (show p < 2 ^ 31 by omega)]
  refine ⟨vp, vp, nm_e ⟨vp, vp, nm_e (nm_e ⟨vp, vp, nm_e ⟨vp, vp, nm_e (br_c (fun z => ?_) (fun z => nm_e (nm_e (nm_e ?_))))⟩⟩)⟩⟩
  · rw [bs_le1, Int32.toInt_toInt64, d1, bs_L0] at z
    obtain ⟨n1, n2, n3⟩ := bs_eP z
    exact bs_wh142 hf hb hp (by rw [Int32.toInt_toInt64, d1, n1]) (by rw [Int32.toInt_toInt64, d2, n2]) (by rw [Int32.toInt_toInt64, d3, n3]) (by rw [Int32.toInt_toInt64, d1]; exact c1) (by rw [Int32.toInt_toInt64, d3]; exact c3) H1 H0
  · rw [bs_le1, Int32.toInt_toInt64, d1, bs_L0] at z
    obtain ⟨n1, n2, n3⟩ := bs_eN (Int.not_le.mp z)
    have neg : ∀ (x : Int32) (y : Int), x.toInt = y → bs_b 1568 y → (-x.toInt64).toInt = -y ∧ bs_b 1568 (-x.toInt64).toInt := fun x y e b => by
      unfold bs_b at b ⊢
      have : (-x.toInt64).toInt = -y := by
        rw [bs_lne (by rw [Int32.toInt_toInt64]; omega) (by rw [Int32.toInt_toInt64]; omega), Int32.toInt_toInt64, e]
      omega
    exact bs_wh142 hf hb hp (by rw [(neg _ _ d1 c1).1, n1]) (by rw [(neg _ _ d2 c2).1, n2]) (by rw [(neg _ _ d3 c3).1, n3]) (neg _ _ d1 c1).2 (neg _ _ d3 c3).2 H1 H0
theorem bs_wa87 {post : Int32 → Prop} {g : Nat → Nat → Int} {r : Nat → Int} {p : Nat} {x4 x5 : Int32} (e4 : x4.toInt = bs_nd g r p) (e5 : x5.toInt = bs_na g r p) (h4 : 0 < bs_nd g r p) (h5 : 0 < bs_na g r p) (b5 : bs_b 1568 x5.toInt)
    (H : ∀ v : Int32, v.toInt = bs_dist g r p → post v) : wX_away_87 post x4 x5 fc fvx fvy fb fp fn fo fdx fdy fs a1 a2 a3 a4 a5 a6 a7 a8 a9 a10 a11 a12 a13 a14 a15 a16 a17 := by
  have k : (1024 : Int32).toInt = 1024 := rfl
  unfold bs_b at b5
  have m : (x5 * 1024).toInt = x5.toInt * 1024 := by
    rw [bs_im (by rw [k]; omega) (by rw [k]; omega), k]
  unfold wX_away_87
  refine br_f (by rw [bs_le0, bs_z0]; omega) ⟨fun z => ?_, H _ ?_⟩
  · rw [bs_eq0, bs_z0] at z
    omega
  · rw [Int32.toInt_div_of_ne_right _ _ (fun z => by rw [bs_eq0, bs_zm1] at z; omega), m, Int.tdiv_eq_ediv_of_nonneg (by omega), e4, e5]
    rfl
theorem bs_waway {post : Int32 → Prop} {C p : Nat} {r : Nat → Int} (hC : C ≤ 10) (hg : bs_gb (bs_gv a1 a2 a3 a4) C) (pC : p < C)
    (h0 : r 0 = fvx.toInt) (h1 : r 1 = fvy.toInt) (h2 : r 2 = fdx.toInt) (h3 : r 3 = fdy.toInt) (hx : bs_b 14 fvx.toInt) (hy : bs_b 14 fvy.toInt) (hdx : bs_b 16 fdx.toInt) (hdy : bs_b 16 fdy.toInt)
    (h4 : 0 < bs_nd (bs_gv a1 a2 a3 a4) r p) (h5 : 0 < bs_na (bs_gv a1 a2 a3 a4) r p) (H : ∀ v : Int32, v.toInt = bs_dist (bs_gv a1 a2 a3 a4) r p → post v) : wpX_away post (fc, fvx, fvy, fb, fp, fn, fo, fdx, fdy, fs, a1, a2, a3, a4, a5, a6, a7, a8, a9, a10, a11, a12, a13, a14, a15, a16, a17) (nI p) := by
  have vp : vp_in (nI p) 10 := vp_in_nI (by omega) (by omega)
  obtain ⟨⟨d1, c1⟩, ⟨d2, c2⟩, _⟩ := bs_ray32 (r := r) hg pC h0 h1 h2 h3 hx hy hdx hdy
  unfold wpX_away
  rw [nI_clamp (show p < 2 ^ 31 by omega)]
  refine ⟨vp, vp, nm_e ⟨vp, vp, nm_e (nm_e ⟨vp, vp, nm_e (br_c (fun z => ?_) (fun z => nm_e (nm_e ?_)))⟩)⟩⟩
  · rw [bs_le0, d1, bs_z0] at z
    obtain ⟨n1, n2, n3⟩ := bs_eP z
    exact bs_wa87 (by rw [d1, n1]) (by rw [d2, n2]) h4 h5 (by rw [d2]; exact c2) H
  · rw [bs_le0, d1, bs_z0] at z
    obtain ⟨n1, n2, n3⟩ := bs_eN (Int.not_le.mp z)
    have neg : ∀ (x : Int32) (y : Int), x.toInt = y → bs_b 1568 y → (-x).toInt = -y ∧ bs_b 1568 (-x).toInt := fun x y e b => by
      unfold bs_b at b ⊢
      have : (-x).toInt = -y := by
        rw [bs_ine (by omega) (by omega), e]
      omega
    exact bs_wa87 (by rw [(neg _ _ d1 c1).1, n1]) (by rw [(neg _ _ d2 c2).1, n2]) h4 h5 (neg _ _ d2 c2).2 H
end
end
section
/-! the walk: drawing -/
def bs_cnt (a : Nat → Int32) : Nat := bs_S (fun c => if (a c).toInt < 0 then 1 else 0) 16
theorem bs_cntU {a : Nat → Int32} {j : Nat} {v : Int32} (hj : j < 16) (h : (a j).toInt < 0) (hv : 0 ≤ v.toInt) : bs_cnt a = bs_cnt (upd a j v) + 1 := by
  have u := bs_Sup (h := fun c => if (a c).toInt < 0 then 1 else 0) (h' := fun c => if (upd a j v c).toInt < 0 then 1 else 0) hj (fun i _ q => by
    show (if (upd a j v i).toInt < 0 then 1 else 0) = (if (a i).toInt < 0 then 1 else 0)
    rw [pk_un q])
  have e1 : (if (a j).toInt < 0 then 1 else 0) = 1 := if_pos h
  have e2 : (if (upd a j v j).toInt < 0 then 1 else 0) = 0 := by
    rw [pk_us]
    exact if_neg (by omega)
  unfold bs_cnt
  rw [e1, e2] at u
  omega
theorem bs_cntB (a : Nat → Int32) : bs_cnt a ≤ 16 := by
  have := bs_Sb (h := fun c => if (a c).toInt < 0 then 1 else 0) (b := 1) (n := 16) (fun c _ => by
    show (if (a c).toInt < 0 then 1 else 0) ≤ 1
    split <;> omega)
  unfold bs_cnt
  omega
theorem bs_cnt0 {a : Nat → Int32} (h : bs_cnt a = 0) : ∀ c, c < 16 → 0 ≤ (a c).toInt := by
  intro c hc
  have q := bs_Sz h c hc
  rcases bs_lg (a c).toInt 0 with z | z
  · have q' : (if (a c).toInt < 0 then 1 else 0) = 0 := q
    rw [if_pos z] at q'
    omega
  · exact z
theorem bs_cnt16 {a : Nat → Int32} (h : ∀ c, c < 16 → (a c).toInt = -4) : bs_cnt a = 16 := by
  have e : bs_S (fun c => if (a c).toInt < 0 then 1 else 0) 16 = bs_S (fun _ => 1) 16 := bs_Sc (fun c hc => by
    show (if (a c).toInt < 0 then 1 else 0) = 1
    rw [h c hc]
    rfl)
  unfold bs_cnt
  rw [e]
  rfl
def bs_cj (g : Nat → Nat → Int) (C P : Nat) (t A : Nat → Nat → Int) (vx vy : Int) (look : Nat) (l : List Nat) (n i j : Nat) (a15 a16 : Nat → Int32) : Prop :=
  ∀ c, c < 16 → bs_cd g C P t A (bs_ray vx vy look c) l n (if c < j then i + 1 else i) (a15 c).toInt (a16 c).toInt
theorem bs_cjN {g : Nat → Nat → Int} {C P : Nat} {t A : Nat → Nat → Int} {vx vy : Int} {look : Nat} {l : List Nat} {n i j : Nat} {a15 a16 : Nat → Int32} (h : bs_cj g C P t A vx vy look l n i j a15 a16)
    (z : 0 ≤ (a15 j).toInt ∨ ¬ bs_hp g t (bs_ray vx vy look j) i) : bs_cj g C P t A vx vy look l n i (j + 1) a15 a16 := by
  intro c hc
  have q := h c hc
  by_cases e : c = j
  · rw [e] at q ⊢
    rw [if_neg (by omega)] at q
    rw [if_pos (by omega)]
    refine bs_cdN q ?_
    rcases z with z | z
    · exact Or.inl z
    · exact Or.inr (Or.inr z)
  · by_cases e2 : c < j
    · rw [if_pos e2] at q
      rw [if_pos (by omega)]
      exact q
    · rw [if_neg e2] at q
      rw [if_neg (by omega)]
      exact q
theorem bs_cjH {g : Nat → Nat → Int} {C P : Nat} {t : Nat → Nat → Int} {N : Nat} {s A : Nat → Nat → Int} (hF : bs_TF g C P t N s A) {vx vy : Int} {look : Nat} {l : List Nat} {n i j w : Nat} {a15 a16 : Nat → Int32} {x y : Int32} (hw : s n 0 = (w : Int)) (hr : bs_rd g (bs_ray vx vy look j) w ≠ 0)
    (k : ((2 * n + 1) :: l).Pairwise (bs_pw g P t A (bs_ray vx vy look j))) (h : bs_cj g C P t A vx vy look l n i j a15 a16) (hj : j < 16) (hx : (a15 j).toInt < 0) (hi : i < P) (o : t i 5 = (n : Int)) (p : bs_hp g t (bs_ray vx vy look j) i)
    (ex : x.toInt = t i 0) (ey : y.toInt = bs_dist g (bs_ray vx vy look j) (t i 0).toNat) : bs_cj g C P t A vx vy look l n i (j + 1) (upd a15 j x) (upd a16 j y) := by
  intro c hc
  have q := h c hc
  by_cases e : c = j
  · rw [e] at q ⊢
    rw [if_neg (by omega)] at q
    rw [if_pos (by omega), pk_us, pk_us]
    exact bs_cdH hF hw hr k q hx hi o p ex ey
  · rw [pk_un e, pk_un e]
    by_cases e2 : c < j
    · rw [if_pos e2] at q
      rw [if_pos (by omega)]
      exact q
    · rw [if_neg e2] at q
      rw [if_neg (by omega)]
      exact q
section
variable {fc : Int32} {fvx : Int32} {fvy : Int32} {fb : Int32} {fp : Int32} {fn : Int32} {fo : Int32} {fdx : Int32} {fdy : Int32} {fs : Int32} {a1 : Nat → Int32} {a2 : Nat → Int32} {a3 : Nat → Int32} {a4 : Nat → Int32} {a5 : Nat → Int32} {a6 : Nat → Int64} {a7 : Nat → Int64} {a8 : Nat → Int64} {a9 : Nat → Int64} {a10 : Nat → Int32} {a11 : Nat → Int32} {a12 : Nat → Int32} {a13 : Nat → Int32} {a14 : Nat → Int32} {a15 : Nat → Int32} {a16 : Nat → Int32} {a17 : Nat → Int32}
theorem bs_wdp2 {post : St1 → Prop} {C P N n i w look : Nat} {A : Nat → Nat → Int} {l : List Nat} (hC : C ≤ 10) (hok : bs_ok (bs_gv a1 a2 a3 a4) C) (hF : bs_TF (bs_gv a1 a2 a3 a4) C P (bs_tv a5 a6 a7 a8 a9 a10 a11) N (bs_sv a12 a13 a14) A)
    (hx : bs_b 14 fvx.toInt) (hy : bs_b 14 fvy.toInt) (hl : look < 4) (hi : i < P) (o : bs_tv a5 a6 a7 a8 a9 a10 a11 i 5 = (n : Int)) (hw : bs_sv a12 a13 a14 n 0 = (w : Int)) (wC : w < C)
    (pw : ∀ c, c < 16 → ((2 * n + 1) :: l).Pairwise (bs_pw (bs_gv a1 a2 a3 a4) P (bs_tv a5 a6 a7 a8 a9 a10 a11) A (bs_ray fvx.toInt fvy.toInt look c)))
    (H : ∀ (dx dy : Int32) (b15 b16 : Nat → Int32), bs_cj (bs_gv a1 a2 a3 a4) C P (bs_tv a5 a6 a7 a8 a9 a10 a11) A fvx.toInt fvy.toInt look l n i 16 b15 b16 → post (fc, fvx, fvy, fb, fp, fn, nI (bs_cnt b15), dx, dy, fs, a1, a2, a3, a4, a5, a6, a7, a8, a9, a10, a11, a12, a13, a14, b15, b16, a17)) :
    ∀ k j : Nat, j + k = 16 → ∀ (fdx fdy : Int32) (a15 a16 : Nat → Int32), bs_cj (bs_gv a1 a2 a3 a4) C P (bs_tv a5 a6 a7 a8 a9 a10 a11) A fvx.toInt fvy.toInt look l n i j a15 a16 → wX_drawPiece_2 post (nI i) (nI look) (k + 1) (nI j) fc fvx fvy fb fp fn (nI (bs_cnt a15)) fdx fdy fs a1 a2 a3 a4 a5 a6 a7 a8 a9 a10 a11 a12 a13 a14 a15 a16 a17 := by
  have hg := bs_okb hok
  obtain ⟨bP, bN⟩ := bs_TJbound hF.1 hF.2.1
  have hb := hF.1.2.1 i hi
  have bb := hb
  unfold bs_pb at bb
  have e5 : a5 i = nI ((bs_tv a5 a6 a7 a8 a9 a10 a11) i 0).toNat := (bs_nIof bb.1).1
  have pC : ((bs_tv a5 a6 a7 a8 a9 a10 a11) i 0).toNat < C := by omega
  have t0 : (bs_tv a5 a6 a7 a8 a9 a10 a11) i 0 = (((bs_tv a5 a6 a7 a8 a9 a10 a11) i 0).toNat : Int) := by omega
  clear bb
  generalize hp : ((bs_tv a5 a6 a7 a8 a9 a10 a11) i 0).toNat = p at *
  have vi : vp_in (nI i) 128 := vp_in_nI (by omega) (by omega)
  intro k
  induction k with
  | zero =>
    intro j e fdx fdy a15 a16 h
    have ej : j = 16 := by omega
    rw [ej] at h
    exact pk_le 16 j (fun _ => H fdx fdy a15 a16 h) (fun z => absurd z (by omega))
  | succ k ih =>
    intro j e fdx fdy a15 a16 h
    have vj : vp_in (nI j) 16 := vp_in_nI (by omega) (by omega)
    refine pk_le 16 j (fun z => absurd z (by omega)) (fun z => ?_)
    rw [nI_clamp (show j < 2 ^ 31 by omega), nI_clamp (show i < 2 ^ 31 by omega)]
    refine ⟨vj, br_c (fun z1 => nm_r (nI_1 j) (ih (j + 1) (by omega) fdx fdy a15 a16 (bs_cjN h (Or.inl (by rw [bs_le0, bs_z0] at z1; exact z1))))) (fun z1 => bs_waim (vx := fvx.toInt) (vy := fvy.toInt) hl (by omega) (fun dx dy e2 e3 b2 b3 => ?_))⟩
    rw [bs_le0, bs_z0] at z1
    refine bs_whits (r := bs_ray fvx.toInt fvy.toInt look j) hC hg (by omega) hb rfl rfl e2.symm e3.symm hx hy b2 b3 (fun q => br_f bs_k10 ⟨vi, vj, ?_⟩) (fun q => br_t rfl (nm_r (nI_1 j) (ih (j + 1) (by omega) dx dy a15 a16 (bs_cjN h (Or.inr q)))))
    rw [e5]
    have q' := q
    unfold bs_hp at q'
    rw [hp] at q'
    have pt : (nI p).toInt = (p : Int) := nI_toInt (by omega)
    refine nm_e ⟨vi, bs_waway (r := bs_ray fvx.toInt fvy.toInt look j) hC hg pC rfl rfl e2.symm e3.symm hx hy b2 b3 q'.1 q'.2.1 (fun v ev => ⟨vj, nm_e (nm_r (e' := nI (bs_cnt (upd a15 j (nI p)))) ?_ (nm_r (nI_1 j) (ih (j + 1) (by omega) dx dy _ _ (bs_cjH hF hw (bs_rdN hok wC (by omega)) (pw j (by omega)) h (by omega) (by omega) hi o q ?_ ?_))))⟩)⟩
    · rw [bs_cntU (a := a15) (v := nI p) (show j < 16 by omega) (by omega) (by omega), nI_pred]
    · rw [pt, t0]
    · rw [hp]
      exact ev
theorem bs_wdr2 {post : St1 → Prop} {C P N n w look : Nat} {A : Nat → Nat → Int} {l : List Nat} (hC : C ≤ 10) (hok : bs_ok (bs_gv a1 a2 a3 a4) C) (hF : bs_TF (bs_gv a1 a2 a3 a4) C P (bs_tv a5 a6 a7 a8 a9 a10 a11) N (bs_sv a12 a13 a14) A)
    (hx : bs_b 14 fvx.toInt) (hy : bs_b 14 fvy.toInt) (hl : look < 4) (hn : n < N) (hw : bs_sv a12 a13 a14 n 0 = (w : Int)) (wC : w < C)
    (pw : ∀ c, c < 16 → ((2 * n + 1) :: l).Pairwise (bs_pw (bs_gv a1 a2 a3 a4) P (bs_tv a5 a6 a7 a8 a9 a10 a11) A (bs_ray fvx.toInt fvy.toInt look c)))
    (H : ∀ (dx dy : Int32) (b15 b16 : Nat → Int32), (∀ c, c < 16 → bs_cd (bs_gv a1 a2 a3 a4) C P (bs_tv a5 a6 a7 a8 a9 a10 a11) A (bs_ray fvx.toInt fvy.toInt look c) l n P (b15 c).toInt (b16 c).toInt) → post (fc, fvx, fvy, fb, nI P, fn, nI (bs_cnt b15), dx, dy, fs, a1, a2, a3, a4, a5, a6, a7, a8, a9, a10, a11, a12, a13, a14, b15, b16, a17)) :
    ∀ k i : Nat, i + k = P → ∀ (fdx fdy : Int32) (a15 a16 : Nat → Int32), (∀ c, c < 16 → bs_cd (bs_gv a1 a2 a3 a4) C P (bs_tv a5 a6 a7 a8 a9 a10 a11) A (bs_ray fvx.toInt fvy.toInt look c) l n i (a15 c).toInt (a16 c).toInt) → wX_draw_2 post (nI n) (nI look) (k + 1) (nI i) fc fvx fvy fb (nI P) fn (nI (bs_cnt a15)) fdx fdy fs a1 a2 a3 a4 a5 a6 a7 a8 a9 a10 a11 a12 a13 a14 a15 a16 a17 := by
  obtain ⟨bP, bN⟩ := bs_TJbound hF.1 hF.2.1
  have tn : (nI n).toInt = (n : Int) := nI_toInt (by omega)
  intro k
  induction k with
  | zero =>
    intro i e fdx fdy a15 a16 h
    have ei : i = P := by omega
    rw [ei] at h
    exact pk_le P i (fun _ => H fdx fdy a15 a16 h) (fun z => absurd z (by omega))
  | succ k ih =>
    intro i e fdx fdy a15 a16 h
    have vi : vp_in (nI i) 128 := vp_in_nI (by omega) (by omega)
    refine pk_le P i (fun z => absurd z (by omega)) (fun z => ?_)
    rw [nI_clamp (show i < 2 ^ 31 by omega)]
    refine ⟨vi, br_c (fun z1 => ⟨vi, br_c (fun z2 => ?_) (fun z2 => ?_)⟩) (fun z1 => nm_r (nI_1 i) (ih (i + 1) (by omega) fdx fdy a15 a16 (fun c hc => bs_cdN (h c hc) (Or.inr (Or.inl (fun q => z1 (bs_eq0.mpr (by rw [tn]; exact q))))))))⟩
    · exact absurd (congrArg Int32.toInt z2) (hF.2.2.2 i (by omega))
    · have o : bs_tv a5 a6 a7 a8 a9 a10 a11 i 5 = (n : Int) := by
        show (a10 i).toInt = n
        rw [z1, tn]
      refine ⟨17, bs_wdp2 hC hok hF hx hy hl (by omega) o hw wC pw (fun dx dy b15 b16 q => nm_r (nI_1 i) (ih (i + 1) (by omega) dx dy b15 b16 (fun c hc => ?_))) 16 0 (by omega) fdx fdy a15 a16 (fun c hc => ?_)⟩
      · have := q c hc
        rw [if_pos hc] at this
        exact this
      · rw [if_neg (by omega)]
        exact h c hc
end
end
section
/-! the walk: render -/
def bs_RI (g : Nat → Nat → Int) (C P : Nat) (t A : Nat → Nat → Int) (N : Nat) (vx vy : Int) (look : Nat) (l : List Nat) (a15 a16 : Nat → Int32) : Prop :=
  (∀ x, x ∈ l → x / 2 < N) ∧ ∀ c, c < 16 → l.Pairwise (bs_pw g P t A (bs_ray vx vy look c)) ∧ bs_cl g C P t A (bs_ray vx vy look c) l (a15 c).toInt (a16 c).toInt
theorem bs_odd {x : Nat} (h : x < 65536) : nI x &&& 1 = nI (x % 2) := by
  have := pk_andN (n := x) (by omega) (m := 1) 1 (by decide)
  exact this
theorem bs_half {x : Nat} (h : x < 65536) : nI x >>> ((1 : Int32) &&& 31) = nI (x / 2) := by
  have := pk_shrN (n := x) (by omega) ((1 : Int32) &&& 31) 1 (by decide)
  exact this
section
variable {fc : Int32} {fvx : Int32} {fvy : Int32} {fb : Int32} {fp : Int32} {fn : Int32} {fo : Int32} {fdx : Int32} {fdy : Int32} {fs : Int32} {a1 : Nat → Int32} {a2 : Nat → Int32} {a3 : Nat → Int32} {a4 : Nat → Int32} {a5 : Nat → Int32} {a6 : Nat → Int64} {a7 : Nat → Int64} {a8 : Nat → Int64} {a9 : Nat → Int64} {a10 : Nat → Int32} {a11 : Nat → Int32} {a12 : Nat → Int32} {a13 : Nat → Int32} {a14 : Nat → Int32} {a15 : Nat → Int32} {a16 : Nat → Int32} {a17 : Nat → Int32}
theorem bs_wr59 {post : St1 → Prop} {C P N look : Nat} {A : Nat → Nat → Int} (hC : C ≤ 10) (hok : bs_ok (bs_gv a1 a2 a3 a4) C) (hF : bs_TF (bs_gv a1 a2 a3 a4) C P (bs_tv a5 a6 a7 a8 a9 a10 a11) N (bs_sv a12 a13 a14) A)
    (hx : bs_b 14 fvx.toInt) (hy : bs_b 14 fvy.toInt) (hl : look < 4)
    (H : ∀ (o dx dy s : Int32) (b15 b16 b17 : Nat → Int32), (∀ c, c < 16 → bs_see (bs_gv a1 a2 a3 a4) C (bs_ray fvx.toInt fvy.toInt look c) (b15 c).toInt (b16 c).toInt) → post (fc, fvx, fvy, fb, nI P, nI N, o, dx, dy, s, a1, a2, a3, a4, a5, a6, a7, a8, a9, a10, a11, a12, a13, a14, b15, b16, b17)) :
    ∀ (k j : Nat) (l : List Nat) (K : Nat) (fdx fdy : Int32) (a15 a16 a17 : Nat → Int32), bs_ws N A l ≤ k → j + bs_ws N A l ≤ 220 → bs_st a17 l K → bs_RI (bs_gv a1 a2 a3 a4) C P (bs_tv a5 a6 a7 a8 a9 a10 a11) A N fvx.toInt fvy.toInt look l a15 a16 →
      wX_render_59 post (nI look) (k + 1) (nI j) fc fvx fvy fb (nI P) (nI N) (nI (bs_cnt a15)) fdx fdy (nI K) a1 a2 a3 a4 a5 a6 a7 a8 a9 a10 a11 a12 a13 a14 a15 a16 a17 := by
  have hg := bs_okb hok
  have hcov := hF.1.2.2.2.2.2.1
  obtain ⟨bP, bN⟩ := bs_TJbound hF.1 hF.2.1
  have stop : ∀ (j : Nat) (l : List Nat) (a15 a16 : Nat → Int32), bs_RI (bs_gv a1 a2 a3 a4) C P (bs_tv a5 a6 a7 a8 a9 a10 a11) A N fvx.toInt fvy.toInt look l a15 a16 → (l = [] ∨ bs_cnt a15 = 0) → ∀ c, c < 16 → bs_see (bs_gv a1 a2 a3 a4) C (bs_ray fvx.toInt fvy.toInt look c) (a15 c).toInt (a16 c).toInt := fun j l a15 a16 h e c hc => by
    refine bs_fin (h.2 c hc).2 ?_ hcov
    rcases e with e | e
    · exact Or.inl e
    · exact Or.inr (bs_cnt0 e c hc)
  intro k
  induction k with
  | zero =>
    intro j l K fdx fdy a15 a16 a17 w1 w2 hs h
    have ll := bs_wl (A := A) h.1
    have lz : l = [] := List.eq_nil_of_length_eq_zero (by omega)
    have hK := bs_stL hs
    have K0 : K ≤ 0 := by
      rw [hK, lz]
      exact Nat.le_refl 0
    exact pk_le 400 j (fun z => absurd z (by omega)) (fun _ => pk_le K 0 (fun _ => H _ _ _ _ _ _ _ (stop j l a15 a16 h (Or.inl lz))) (fun z => absurd z (by omega)))
  | succ k ih =>
    intro j l K fdx fdy a15 a16 a17 w1 w2 hs h
    have ll := bs_wl (A := A) h.1
    have hK := bs_stL hs
    have cb := bs_cntB a15
    refine pk_le 400 j (fun z => absurd z (by omega)) (fun _ => pk_le K 0 (fun z => ?_) (fun z => pk_le (bs_cnt a15) 0 (fun z2 => ?_) (fun z2 => ?_)))
    · exact H _ _ _ _ _ _ _ (stop j l a15 a16 h (Or.inl (List.eq_nil_of_length_eq_zero (by omega))))
    · exact H _ _ _ _ _ _ _ (stop j l a15 a16 h (Or.inr (by omega)))
    · match l, hs, h, w1, w2, hK, ll with
      | [], hs, h, w1, w2, hK, ll => exact absurd hK (by show ¬ K = 0; omega)
      | x :: l, hs, h, w1, w2, hK, ll =>
        obtain ⟨K', k1, k2, k3⟩ := hs
        have xN := h.1 x List.mem_cons_self
        have K4 : K' + 1 ≤ 220 := by omega
        have n0 := hF.2.2.1 (x / 2) xN
        have e12 : a12 (x / 2) = nI (bs_sv a12 a13 a14 (x / 2) 0).toNat := (bs_nIof n0.1).1
        have wC : (bs_sv a12 a13 a14 (x / 2) 0).toNat < C := by omega
        have s0 : bs_sv a12 a13 a14 (x / 2) 0 = ((bs_sv a12 a13 a14 (x / 2) 0).toNat : Int) := by omega
        generalize hw : (bs_sv a12 a13 a14 (x / 2) 0).toNat = w at *
        rw [k1]
        refine nm_r (nI_pred K') ⟨vp_in_nI (by omega) (by omega), nm_r (by rw [nI_clamp (by omega)]; exact k2) (nm_r (bs_half (by omega)) (pk_eq (x % 2) 1 (fun z3 => ?_) (fun z3 => ?_) (bs_odd (by omega))))⟩
        · have ex : x = 2 * (x / 2) + 1 := by omega
          generalize hn : x / 2 = n at *
          rw [ex] at h w1 w2
          have ws1 : bs_ws N A ((2 * n + 1) :: l) = 1 + bs_ws N A l := by
            show bs_wt N A (2 * n + 1) + bs_ws N A l = _
            rw [bs_wtO]
          refine ⟨P + 1, bs_wdr2 hC hok hF hx hy hl xN s0 wC (fun c hc => (h.2 c hc).1) (fun dx dy b15 b16 q => nm_r (nI_1 j) (ih (j + 1) l K' dx dy b15 b16 a17 (by omega) (by omega) k3 ⟨fun y hy => h.1 y (List.mem_cons_of_mem _ hy), fun c hc => ⟨(List.pairwise_cons.mp (h.2 c hc).1).2, bs_cdE (q c hc)⟩⟩)) P 0 (by omega) fdx fdy a15 a16 (fun c hc => bs_cd0 (fun f hf => (hF.1.2.2.1 f hf).1) (h.2 c hc).2)⟩
        · have ex : x = 2 * (x / 2) := by omega
          generalize hn : x / 2 = n at *
          rw [ex] at h w1 w2
          refine bs_wvisit hC hg hx hy (by omega) e12 wC (by omega) k3 (fun e K2 b17 he q => nm_r (nI_1 j) ?_)
          have he' : e = 1 ∨ e = 2 := by omega
          have wv := bs_wv (l := l) hF.1.1 xN he'
          refine ih (j + 1) _ K2 fdx fdy a15 a16 b17 (by omega) (by omega) q ⟨bs_vN hF.1.1 xN he' (fun y hy => h.1 y (List.mem_cons_of_mem _ hy)), fun c hc => ⟨bs_vpw hF xN s0 he' ?_ (bs_rdN hok wC hc) (h.2 c hc).1, bs_vcl hF he' (h.2 c hc).2⟩⟩
          rcases he with ⟨he, q1⟩ | ⟨he, q1⟩
          · exact Or.inl ⟨by rw [he]; rfl, q1⟩
          · exact Or.inr ⟨by rw [he]; rfl, q1⟩
theorem bs_wr12 {post : St1 → Prop} {C P N look : Nat} {A : Nat → Nat → Int} (hC : C ≤ 10) (hok : bs_ok (bs_gv a1 a2 a3 a4) C) (hF : bs_TF (bs_gv a1 a2 a3 a4) C P (bs_tv a5 a6 a7 a8 a9 a10 a11) N (bs_sv a12 a13 a14) A)
    (hx : bs_b 14 fvx.toInt) (hy : bs_b 14 fvy.toInt) (hl : look < 4)
    (H : ∀ (o dx dy s : Int32) (b15 b16 b17 : Nat → Int32), (∀ c, c < 16 → bs_see (bs_gv a1 a2 a3 a4) C (bs_ray fvx.toInt fvy.toInt look c) (b15 c).toInt (b16 c).toInt) → post (fc, fvx, fvy, fb, nI P, nI N, o, dx, dy, s, a1, a2, a3, a4, a5, a6, a7, a8, a9, a10, a11, a12, a13, a14, b15, b16, b17)) :
    ∀ (k j : Nat), j + k = 16 → ∀ (a15 a16 : Nat → Int32), (∀ c, c < j → (a15 c).toInt = -4 ∧ (a16 c).toInt = -4) → wX_render_12 post (nI look) fc fvx fvy fb (nI P) (nI N) (nI 16) fdx fdy fs (k + 1) (nI j) a1 a2 a3 a4 a5 a6 a7 a8 a9 a10 a11 a12 a13 a14 a15 a16 a17 := by
  obtain ⟨bP, bN⟩ := bs_TJbound hF.1 hF.2.1
  intro k
  induction k with
  | zero =>
    intro j e a15 a16 h
    have ej : j = 16 := by omega
    rw [ej] at h
    have c16 := bs_cnt16 (fun c hc => (h c hc).1)
    have go := bs_wr59 (fc := fc) (fb := fb) hC hok hF hx hy hl H 220 0
    refine pk_le 16 j (fun _ => pk_le N 0 (fun z => ?_) (fun z => ?_)) (fun z => absurd z (by omega))
    · have g2 := go [] 0 fdx fdy a15 a16 a17 (by show 0 ≤ 220; omega) (by show 0 + 0 ≤ 220; omega) rfl ⟨fun x hx => absurd hx List.not_mem_nil, fun c hc => ⟨List.Pairwise.nil, Or.inl ⟨(h c hc).1, (h c hc).2, fun f hf _ => ?_⟩⟩⟩
      · rw [c16] at g2
        exact ⟨221, g2⟩
      · have := hF.1.2.2.1 f hf
        omega
    · have wn := bs_wnN N A 0
      have w0 : bs_ws N A [0] = 2 * bs_wn N A 0 := by
        show bs_wt N A (2 * 0) + 0 = _
        rw [bs_wtE]
        omega
      have g2 := go [0] 1 fdx fdy a15 a16 (upd a17 0 (nI 0)) (by omega) (by omega) ⟨0, rfl, pk_us, rfl⟩ ⟨fun x hx => by rw [List.mem_singleton.mp hx]; exact z, fun c hc => ⟨List.pairwise_singleton _ _, Or.inl ⟨(h c hc).1, (h c hc).2, fun f hf _ => ⟨0, List.mem_singleton.mpr rfl, ?_⟩⟩⟩⟩
      · rw [c16] at g2
        exact bs_wpush (K := 0) (by omega) ⟨221, g2⟩
      · have o := hF.1.2.2.1 f hf
        rcases hF.1.1.2.2.2.2.2 (bs_tv a5 a6 a7 a8 a9 a10 a11 f 5).toNat (by omega) with q | q
        · exact Or.inl q
        · exact Or.inr ⟨rfl, q⟩
  | succ k ih =>
    intro j e a15 a16 h
    have vj : vp_in (nI j) 16 := vp_in_nI (by omega) (by omega)
    refine pk_le 16 j (fun z => absurd z (by omega)) (fun z => ?_)
    rw [nI_clamp (show j < 2 ^ 31 by omega)]
    refine ⟨vj, nm_e ⟨vj, nm_e (nm_r (nI_1 j) (ih (j + 1) (by omega) _ _ (fun c hc => ?_)))⟩⟩
    by_cases q : c = j
    · rw [q, pk_us, pk_us]
      exact ⟨rfl, rfl⟩
    · rw [pk_un q, pk_un q]
      exact h c (by omega)
theorem bs_wrender {post : St1 → Prop} {C look : Nat} (hC : C ≤ 10) (hok : bs_ok (bs_gv a1 a2 a3 a4) C) (hr : bs_rdy (bs_gv a1 a2 a3 a4) C fb fp fn (bs_tv a5 a6 a7 a8 a9 a10 a11) (bs_sv a12 a13 a14)) (hx : bs_b 14 fvx.toInt) (hy : bs_b 14 fvy.toInt) (hl : look < 4)
    (H : ∀ (p n o dx dy s : Int32) (b5 : Nat → Int32) (b6 b7 b8 b9 : Nat → Int64) (b10 b11 b12 b13 b14 b15 b16 b17 : Nat → Int32), bs_rdy (bs_gv a1 a2 a3 a4) C 1 p n (bs_tv b5 b6 b7 b8 b9 b10 b11) (bs_sv b12 b13 b14) → (∀ c, c < 16 → bs_see (bs_gv a1 a2 a3 a4) C (bs_ray fvx.toInt fvy.toInt look c) (b15 c).toInt (b16 c).toInt) →
      post (nI C, fvx, fvy, 1, p, n, o, dx, dy, s, a1, a2, a3, a4, b5, b6, b7, b8, b9, b10, b11, b12, b13, b14, b15, b16, b17)) : wpX_render post (nI C, fvx, fvy, fb, fp, fn, fo, fdx, fdy, fs, a1, a2, a3, a4, a5, a6, a7, a8, a9, a10, a11, a12, a13, a14, a15, a16, a17) (nI look) := by
  unfold wpX_render
  exact bs_wbuild hC (bs_okb hok) hr (fun P N b5 b6 b7 b8 b9 b10 b11 b12 b13 b14 A hF => ⟨17, bs_wr12 hC hok hF hx hy hl (fun o dx dy s b15 b16 b17 q => H _ _ o dx dy s b5 b6 b7 b8 b9 b10 b11 b12 b13 b14 b15 b16 b17 (Or.inr ⟨rfl, P, N, A, rfl, rfl, hF⟩) q) 16 0 (by omega) a15 a16 (fun c hc => absurd hc (by omega))⟩)
end
end
section
/-! the walk: walls -/
section
variable {fc : Int32} {fvx : Int32} {fvy : Int32} {fb : Int32} {fp : Int32} {fn : Int32} {fo : Int32} {fdx : Int32} {fdy : Int32} {fs : Int32} {a1 : Nat → Int32} {a2 : Nat → Int32} {a3 : Nat → Int32} {a4 : Nat → Int32} {a5 : Nat → Int32} {a6 : Nat → Int64} {a7 : Nat → Int64} {a8 : Nat → Int64} {a9 : Nat → Int64} {a10 : Nat → Int32} {a11 : Nat → Int32} {a12 : Nat → Int32} {a13 : Nat → Int32} {a14 : Nat → Int32} {a15 : Nat → Int32} {a16 : Nat → Int32} {a17 : Nat → Int32}
theorem bs_wbtw {post : Int32 → Prop} {x y z : Int32} (H1 : bs_bt x.toInt y.toInt z.toInt → post 1) (H0 : ¬ bs_bt x.toInt y.toInt z.toInt → post 0) : wpX_between post (fc, fvx, fvy, fb, fp, fn, fo, fdx, fdy, fs, a1, a2, a3, a4, a5, a6, a7, a8, a9, a10, a11, a12, a13, a14, a15, a16, a17) x y z := by
  unfold bs_bt at H1 H0
  have snd : ¬ (x.toInt ≤ z.toInt ∧ z.toInt ≤ y.toInt) → wX_between_10 post x y z fc fvx fvy fb fp fn fo fdx fdy fs a1 a2 a3 a4 a5 a6 a7 a8 a9 a10 a11 a12 a13 a14 a15 a16 a17 := fun n => by
    unfold wX_between_10
    refine br_c (fun q => H0 ?_) (fun q => br_c (fun q2 => H0 ?_) (fun q2 => H1 ?_))
    · rw [bs_lt0] at q
      omega
    · rw [bs_lt0] at q q2
      omega
    · rw [bs_lt0] at q q2
      omega
  unfold wpX_between
  refine br_c (fun q => snd ?_) (fun q => br_c (fun q2 => H1 ?_) (fun q2 => snd ?_))
  · rw [bs_lt0] at q
    omega
  · rw [bs_lt0] at q
    rw [bs_le0] at q2
    omega
  · rw [bs_le0] at q2
    omega
theorem bs_wtch {post : Int32 → Prop} {w : Nat} {x y : Int32} (hw : w < 10) (hg : ∀ k, k < 4 → bs_b 14 (bs_gv a1 a2 a3 a4 w k)) (hx : bs_b 14 x.toInt) (hy : bs_b 14 y.toInt)
    (H1 : bs_tc (bs_gv a1 a2 a3 a4) w x.toInt y.toInt → post 1) (H0 : ¬ bs_tc (bs_gv a1 a2 a3 a4) w x.toInt y.toInt → post 0) : wpX_touches post (fc, fvx, fvy, fb, fp, fn, fo, fdx, fdy, fs, a1, a2, a3, a4, a5, a6, a7, a8, a9, a10, a11, a12, a13, a14, a15, a16, a17) (nI w) x y := by
  have i : vp_in (nI w) 10 := vp_in_nI hw (by omega)
  unfold wpX_touches
  rw [nI_clamp (by omega)]
  refine bs_wside hw hg hx hy (fun v e b => br_c (fun z => ⟨i, i, bs_wbtw (fun q => br_f bs_k10 ⟨i, i, bs_wbtw (fun q2 => br_f bs_k10 (H1 ⟨?_, q, q2⟩)) (fun q2 => br_t rfl (H0 (fun h => q2 h.2.2)))⟩) (fun q => br_t rfl (H0 (fun h => q h.2.1)))⟩) (fun z => H0 (fun h => z ?_)))
  · rw [bs_eq0, bs_z0, e] at z
    exact z
  · rw [bs_eq0, bs_z0, e]
    exact h.1
theorem bs_snM {x y v u : Int} (h : bs_sn x v) (k : bs_sn y u) : v * u < 0 ↔ x * y < 0 := by
  rw [bs_ng, bs_ng, (bs_snP h).1, (bs_snP h).2, (bs_snP k).1, (bs_snP k).2]
theorem bs_snB {x y : Int} {v u : Int32} (h : bs_sn x v.toInt) (k : bs_sn y u.toInt) : 0 ≤ v * u ↔ ¬ x * y < 0 := by
  have mm := bs_pbd (bs_sn3 h) (bs_sn3 k)
  have em : (v * u).toInt = v.toInt * u.toInt := bs_im (by omega) (by omega)
  rw [← bs_snM h k, bs_le0, em, bs_z0]
  omega
theorem bs_wmeet {post : Int32 → Prop} {C a b : Nat} (hC : C ≤ 10) (ha : a < C) (hb : b < C) (hg : bs_gb (bs_gv a1 a2 a3 a4) C)
    (H0 : bs_nm (bs_gv a1 a2 a3 a4) a b → post 0) (H1 : ¬ bs_nm (bs_gv a1 a2 a3 a4) a b → post 1) : wpX_meet post (fc, fvx, fvy, fb, fp, fn, fo, fdx, fdy, fs, a1, a2, a3, a4, a5, a6, a7, a8, a9, a10, a11, a12, a13, a14, a15, a16, a17) (nI a) (nI b) := by
  have ia : vp_in (nI a) 10 := vp_in_nI (by omega) (by omega)
  have ib : vp_in (nI b) 10 := vp_in_nI (by omega) (by omega)
  have ga := fun k hk => hg a k ha hk
  have gb := fun k hk => hg b k hb hk
  have a10 : a < 10 := by omega
  have b10 : b < 10 := by omega
  have A0 : bs_b 14 (a1 a).toInt := ga 0 (by omega)
  have A1 : bs_b 14 (a2 a).toInt := ga 1 (by omega)
  have A2 : bs_b 14 (a3 a).toInt := ga 2 (by omega)
  have A3 : bs_b 14 (a4 a).toInt := ga 3 (by omega)
  have B0 : bs_b 14 (a1 b).toInt := gb 0 (by omega)
  have B1 : bs_b 14 (a2 b).toInt := gb 1 (by omega)
  have B2 : bs_b 14 (a3 b).toInt := gb 2 (by omega)
  have B3 : bs_b 14 (a4 b).toInt := gb 3 (by omega)
  unfold wpX_meet
  rw [nI_clamp (show a < 2 ^ 31 by omega), nI_clamp (show b < 2 ^ 31 by omega)]
  refine ⟨ib, ib, bs_wtch a10 ga B0 B1 (fun q => br_f bs_k10 (H1 (fun h => h.1 q))) (fun q1 => br_t rfl ⟨ib, ib, bs_wtch a10 ga B2 B3 (fun q => br_f bs_k10 (H1 (fun h => h.2.1 q))) (fun q2 => br_t rfl ⟨ia, ia, bs_wtch b10 gb A0 A1 (fun q => br_f bs_k10 (H1 (fun h => h.2.2.1 q))) (fun q3 => br_t rfl ⟨ia, ia, bs_wtch b10 gb A2 A3 (fun q => br_f bs_k10 (H1 (fun h => h.2.2.2.1 q))) (fun q4 => br_t rfl ⟨ib, ib, ?_⟩)⟩)⟩)⟩)⟩
  refine bs_wside a10 ga B0 B1 (fun v1 e1 _ => bs_wsign (fun s1 n1 => ⟨ib, ib, bs_wside a10 ga B2 B3 (fun v2 e2 _ => bs_wsign (fun s2 n2 => ⟨ia, ia, bs_wside b10 gb A0 A1 (fun v3 e3 _ => bs_wsign (fun s3 n3 => ⟨ia, ia, bs_wside b10 gb A2 A3 (fun v4 e4 _ => bs_wsign (fun s4 n4 => ?_))⟩))⟩))⟩))
  rw [Int32.toInt_toInt64, e1] at n1
  rw [Int32.toInt_toInt64, e2] at n2
  rw [Int32.toInt_toInt64, e3] at n3
  rw [Int32.toInt_toInt64, e4] at n4
  have k1 := bs_snB n1 n2
  have k2 := bs_snB n3 n4
  refine br_c (fun z => H0 ⟨q1, q2, q3, q4, fun h => k1.mp z h.1⟩) (fun z => br_c (fun z2 => H0 ⟨q1, q2, q3, q4, fun h => k2.mp z2 h.2⟩) (fun z2 => H1 (fun h => h.2.2.2.2 ⟨?_, ?_⟩)))
  · exact Classical.byContradiction (fun q => z (k1.mpr q))
  · exact Classical.byContradiction (fun q => z2 (k2.mpr q))
def bs_ev (x : Int) : Prop := -14 ≤ x ∧ x ≤ 14 ∧ x % 2 = 0
theorem bs_bit (x : Int32) : x &&& 1 = 0 ↔ x.toInt % 2 = 0 := by
  have e := pk_and x (m := 1) 1 (by decide)
  have c := BitVec.toInt_eq_toNat_cond x.toBitVec
  have c' : x.toInt = if 2 * x.toBitVec.toNat < 2 ^ 32 then (x.toBitVec.toNat : Int) else (x.toBitVec.toNat : Int) - ((2 ^ 32 : Nat) : Int) := c
  rw [e, ← nI_0, nI_eq (by omega) (by omega)]
  split at c' <;> omega
theorem bs_k14 : (14 : Int32).toInt = 14 := rfl
theorem bs_km14 : (-14 : Int32).toInt = -14 := rfl
theorem bs_wE0 {post : Int32 → Prop} {x : Int32} (h : bs_ev x.toInt) (H : post 0) : wpX_badEven post (fc, fvx, fvy, fb, fp, fn, fo, fdx, fdy, fs, a1, a2, a3, a4, a5, a6, a7, a8, a9, a10, a11, a12, a13, a14, a15, a16, a17) x := by
  unfold bs_ev at h
  unfold wpX_badEven
  exact br_f (by rw [bs_lt0, bs_km14]; omega) (br_f (by rw [bs_lt0, bs_k14]; omega) (br_t ((bs_bit x).mpr h.2.2) H))
theorem bs_wE1 {post : Int32 → Prop} {x : Int32} (h : ¬ bs_ev x.toInt) (H : post 1) : wpX_badEven post (fc, fvx, fvy, fb, fp, fn, fo, fdx, fdy, fs, a1, a2, a3, a4, a5, a6, a7, a8, a9, a10, a11, a12, a13, a14, a15, a16, a17) x := by
  unfold wpX_badEven
  refine br_c (fun _ => H) (fun z => br_c (fun _ => H) (fun z2 => br_f (fun q => h ?_) H))
  rw [bs_lt0, bs_km14] at z
  rw [bs_lt0, bs_k14] at z2
  exact ⟨by omega, by omega, (bs_bit x).mp q⟩
theorem bs_nmC {g g' : Nat → Nat → Int} {a b : Nat} (ha : g' a = g a) (hb : g' b = g b) (h : bs_nm g a b) : bs_nm g' a b := by
  unfold bs_nm bs_tc bs_f1 bs_f2 bs_sd
  rw [ha, hb]
  exact h
theorem bs_okC {g g' : Nat → Nat → Int} {C : Nat} (h : bs_ok g C) (e : ∀ w, w < C → g' w = g w) : bs_ok g' C := by
  refine ⟨fun w k hw hk => ?_, fun w hw => ?_, fun a b hab hb => ?_⟩
  · rw [e w hw]
    exact h.1 w k hw hk
  · rw [e w hw]
    exact h.2.1 w hw
  · exact bs_nmC (e a (by omega)) (e b hb) (h.2.2 a b hab hb)
theorem bs_okA {g g' : Nat → Nat → Int} {C : Nat} (h : bs_ok g C) (e : ∀ w, w < C → g' w = g w) (h1 : ∀ k, k < 4 → bs_ev (g' C k)) (h2 : ¬ (g' C 0 = g' C 2 ∧ g' C 1 = g' C 3)) (h3 : ∀ w, w < C → bs_nm g' w C) : bs_ok g' (C + 1) := by
  have h' := bs_okC h e
  refine ⟨fun w k hw hk => ?_, fun w hw => ?_, fun a b hab hb => ?_⟩
  · by_cases q : w = C
    · rw [q]
      exact h1 k hk
    · exact h'.1 w k (by omega) hk
  · by_cases q : w = C
    · rw [q]
      exact h2
    · exact h'.2.1 w (by omega)
  · by_cases q : b = C
    · rw [q] at hab ⊢
      exact h3 a hab
    · exact h'.2.2 a b hab (by omega)
theorem bs_okM {g : Nat → Nat → Int} {C D : Nat} (h : bs_ok g C) (l : D ≤ C) : bs_ok g D :=
  ⟨fun w k hw hk => h.1 w k (by omega) hk, fun w hw => h.2.1 w (by omega), fun a b hab hb => h.2.2 a b hab (by omega)⟩
theorem bs_w104A {post : Int32 → St1 → Prop} {C : Nat} (hC : C < 10) (hg : bs_gb (bs_gv a1 a2 a3 a4) (C + 1)) (hn : ∀ w, w < C → bs_nm (bs_gv a1 a2 a3 a4) w C) (H : post (nI C) (nI (C + 1), fvx, fvy, 0, fp, fn, fo, fdx, fdy, fs, a1, a2, a3, a4, a5, a6, a7, a8, a9, a10, a11, a12, a13, a14, a15, a16, a17)) :
    ∀ k i : Nat, i + k = C → wX_wall_104 post (nI C) fvx fvy fb fp fn fo fdx fdy fs a1 a2 a3 a4 a5 a6 a7 a8 a9 a10 a11 a12 a13 a14 a15 a16 a17 (k + 1) (nI i) := by
  intro k
  induction k with
  | zero =>
    intro i e
    exact pk_le C i (fun _ => nm_r (nI_1 C) (by rw [nI_pred]; exact H)) (fun z => absurd z (by omega))
  | succ k ih =>
    intro i e
    exact pk_le C i (fun z => absurd z (by omega)) (fun z => bs_wmeet (C := C + 1) (by omega) (by omega) (by omega) hg (fun _ => br_t rfl (nm_r (nI_1 i) (ih (i + 1) (by omega)))) (fun q => absurd (hn i (by omega)) q))
theorem bs_w104B {post : Int32 → St1 → Prop} {C w : Nat} (hC : C < 10) (hg : bs_gb (bs_gv a1 a2 a3 a4) (C + 1)) (hw : w < C) (hn : ¬ bs_nm (bs_gv a1 a2 a3 a4) w C) (H : post (-3) (nI C, fvx, fvy, fb, fp, fn, fo, fdx, fdy, fs, a1, a2, a3, a4, a5, a6, a7, a8, a9, a10, a11, a12, a13, a14, a15, a16, a17)) :
    ∀ k i : Nat, i + k = C → i ≤ w → wX_wall_104 post (nI C) fvx fvy fb fp fn fo fdx fdy fs a1 a2 a3 a4 a5 a6 a7 a8 a9 a10 a11 a12 a13 a14 a15 a16 a17 (k + 1) (nI i) := by
  intro k
  induction k with
  | zero =>
    intro i e hi
    omega
  | succ k ih =>
    intro i e hi
    exact pk_le C i (fun z => absurd z (by omega)) (fun z => bs_wmeet (C := C + 1) (by omega) (by omega) (by omega) hg (fun q => br_t rfl (nm_r (nI_1 i) (ih (i + 1) (by omega) (by
      rcases Nat.lt_or_ge i w with y | y
      · omega
      · have : i = w := by omega
        rw [this] at q
        exact absurd q hn)))) (fun _ => br_f bs_k10 H))
/-- what a call of wall may do -/
def bs_wr (C : Nat) (g : Nat → Nat → Int) (fb r c b : Int32) (g' : Nat → Nat → Int) : Prop :=
  (r.toInt < 0 ∧ c = nI C ∧ b = fb ∧ ∀ w, w < C → g' w = g w) ∨ (r = nI C ∧ C < 10 ∧ c = nI (C + 1) ∧ b = 0 ∧ bs_ok g' (C + 1) ∧ ∀ w, w < C → g' w = g w)
theorem bs_wwall {C : Nat} (hC : C ≤ 10) (hok : bs_ok (bs_gv a1 a2 a3 a4) C) (x y u v : Int32) : ∃ (r c b : Int32) (b1 b2 b3 b4 : Nat → Int32), bs_wr C (bs_gv a1 a2 a3 a4) fb r c b (bs_gv b1 b2 b3 b4) ∧
    ∀ post : Int32 → St1 → Prop, post r (c, fvx, fvy, b, fp, fn, fo, fdx, fdy, fs, b1, b2, b3, b4, a5, a6, a7, a8, a9, a10, a11, a12, a13, a14, a15, a16, a17) → wpX_wall post (nI C, fvx, fvy, fb, fp, fn, fo, fdx, fdy, fs, a1, a2, a3, a4, a5, a6, a7, a8, a9, a10, a11, a12, a13, a14, a15, a16, a17) x y u v := by
  have bad : ∀ r : Int32, r.toInt < 0 → (∀ post : Int32 → St1 → Prop, post r (nI C, fvx, fvy, fb, fp, fn, fo, fdx, fdy, fs, a1, a2, a3, a4, a5, a6, a7, a8, a9, a10, a11, a12, a13, a14, a15, a16, a17) → wpX_wall post (nI C, fvx, fvy, fb, fp, fn, fo, fdx, fdy, fs, a1, a2, a3, a4, a5, a6, a7, a8, a9, a10, a11, a12, a13, a14, a15, a16, a17) x y u v) → ∃ (r c b : Int32) (b1 b2 b3 b4 : Nat → Int32), bs_wr C (bs_gv a1 a2 a3 a4) fb r c b (bs_gv b1 b2 b3 b4) ∧
    ∀ post : Int32 → St1 → Prop, post r (c, fvx, fvy, b, fp, fn, fo, fdx, fdy, fs, b1, b2, b3, b4, a5, a6, a7, a8, a9, a10, a11, a12, a13, a14, a15, a16, a17) → wpX_wall post (nI C, fvx, fvy, fb, fp, fn, fo, fdx, fdy, fs, a1, a2, a3, a4, a5, a6, a7, a8, a9, a10, a11, a12, a13, a14, a15, a16, a17) x y u v := fun r hr h => ⟨r, nI C, fb, a1, a2, a3, a4, Or.inl ⟨hr, rfl, rfl, fun _ _ => rfl⟩, h⟩
  have m1 : (-1 : Int32).toInt < 0 := by rw [bs_zm1]; omega
  by_cases h1 : bs_ev x.toInt
  · by_cases h2 : bs_ev y.toInt
    · by_cases h3 : bs_ev u.toInt
      · by_cases h4 : bs_ev v.toInt
        · have inn : ∀ post : Int32 → St1 → Prop, ((x = u → ((y = v → post (-1) (nI C, fvx, fvy, fb, fp, fn, fo, fdx, fdy, fs, a1, a2, a3, a4, a5, a6, a7, a8, a9, a10, a11, a12, a13, a14, a15, a16, a17)) ∧ (¬ y = v → wX_wall_48 post x y u v (nI C) fvx fvy fb fp fn fo fdx fdy fs a1 a2 a3 a4 a5 a6 a7 a8 a9 a10 a11 a12 a13 a14 a15 a16 a17))) ∧ (¬ x = u → wX_wall_48 post x y u v (nI C) fvx fvy fb fp fn fo fdx fdy fs a1 a2 a3 a4 a5 a6 a7 a8 a9 a10 a11 a12 a13 a14 a15 a16 a17)) → wpX_wall post (nI C, fvx, fvy, fb, fp, fn, fo, fdx, fdy, fs, a1, a2, a3, a4, a5, a6, a7, a8, a9, a10, a11, a12, a13, a14, a15, a16, a17) x y u v := fun post q => by
            unfold wpX_wall
            exact bs_wE0 h1 (br_t rfl (bs_wE0 h2 (br_t rfl (bs_wE0 h3 (br_t rfl (bs_wE0 h4 (br_t rfl q)))))))
          by_cases d : x = u ∧ y = v
          · exact bad (-1) m1 (fun post q => inn post (br_t d.1 (br_t d.2 q)))
          · have inn2 : ∀ post : Int32 → St1 → Prop, wX_wall_48 post x y u v (nI C) fvx fvy fb fp fn fo fdx fdy fs a1 a2 a3 a4 a5 a6 a7 a8 a9 a10 a11 a12 a13 a14 a15 a16 a17 → wpX_wall post (nI C, fvx, fvy, fb, fp, fn, fo, fdx, fdy, fs, a1, a2, a3, a4, a5, a6, a7, a8, a9, a10, a11, a12, a13, a14, a15, a16, a17) x y u v := fun post q => inn post (br_c (fun z => br_f (fun z2 => d ⟨z, z2⟩) q) (fun _ => q))
            by_cases c10 : C = 10
            · refine bad (-2) (by decide) (fun post q => inn2 post ?_)
              unfold wX_wall_48
              exact pk_eq C 10 (fun _ => q) (fun z => absurd c10 z)
            · have iv : vp_in (nI C) 10 := vp_in_nI (by omega) (by omega)
              have inn3 : ∀ post : Int32 → St1 → Prop, (∃ n, wX_wall_104 post (nI C) fvx fvy fb fp fn fo fdx fdy fs (upd a1 C x) (upd a2 C y) (upd a3 C u) (upd a4 C v) a5 a6 a7 a8 a9 a10 a11 a12 a13 a14 a15 a16 a17 n (nI 0)) → wpX_wall post (nI C, fvx, fvy, fb, fp, fn, fo, fdx, fdy, fs, a1, a2, a3, a4, a5, a6, a7, a8, a9, a10, a11, a12, a13, a14, a15, a16, a17) x y u v := fun post q => inn2 post (by
                unfold wX_wall_48
                rw [nI_clamp (by omega)]
                exact pk_eq C 10 (fun z => absurd z c10) (fun _ => ⟨iv, nm_e ⟨iv, nm_e ⟨iv, nm_e ⟨iv, nm_e q⟩⟩⟩⟩))
              have eq : ∀ w, w < C → bs_gv (upd a1 C x) (upd a2 C y) (upd a3 C u) (upd a4 C v) w = bs_gv a1 a2 a3 a4 w := fun w hw => by
                funext k
                unfold bs_gv
                rw [pk_un (by omega), pk_un (by omega), pk_un (by omega), pk_un (by omega)]
              have n0 : bs_gv (upd a1 C x) (upd a2 C y) (upd a3 C u) (upd a4 C v) C 0 = x.toInt := congrArg Int32.toInt pk_us
              have n1 : bs_gv (upd a1 C x) (upd a2 C y) (upd a3 C u) (upd a4 C v) C 1 = y.toInt := congrArg Int32.toInt pk_us
              have n2 : bs_gv (upd a1 C x) (upd a2 C y) (upd a3 C u) (upd a4 C v) C 2 = u.toInt := congrArg Int32.toInt pk_us
              have n3 : bs_gv (upd a1 C x) (upd a2 C y) (upd a3 C u) (upd a4 C v) C 3 = v.toInt := congrArg Int32.toInt pk_us
              have ne : ∀ k, k < 4 → bs_ev (bs_gv (upd a1 C x) (upd a2 C y) (upd a3 C u) (upd a4 C v) C k) := fun k hk => by
                have hk' : k = 0 ∨ k = 1 ∨ k = 2 ∨ k = 3 := by omega
                rcases hk' with q | q | q | q
                · rw [q, n0]; exact h1
                · rw [q, n1]; exact h2
                · rw [q, n2]; exact h3
                · rw [q, n3]; exact h4
              have gb : bs_gb (bs_gv (upd a1 C x) (upd a2 C y) (upd a3 C u) (upd a4 C v)) (C + 1) := fun w k hw hk => by
                by_cases q : w = C
                · rw [q]
                  have := ne k hk
                  exact ⟨this.1, this.2.1⟩
                · rw [eq w (by omega)]
                  exact bs_okb hok w k (by omega) hk
              by_cases mt : ∀ w, w < C → bs_nm (bs_gv (upd a1 C x) (upd a2 C y) (upd a3 C u) (upd a4 C v)) w C
              · refine ⟨nI C, nI (C + 1), 0, _, _, _, _, Or.inr ⟨rfl, by omega, rfl, rfl, bs_okA hok eq ne ?_ mt, eq⟩, fun post q => inn3 post ⟨C + 1, bs_w104A (by omega) gb mt q C 0 (by omega)⟩⟩
                rw [n0, n1, n2, n3]
                exact fun z => d ⟨bs_eq0.mpr z.1, bs_eq0.mpr z.2⟩
              · have mt' : ∃ w, w < C ∧ ¬ bs_nm (bs_gv (upd a1 C x) (upd a2 C y) (upd a3 C u) (upd a4 C v)) w C := Classical.byContradiction (fun q => mt (fun w hw => Classical.byContradiction (fun q2 => q ⟨w, hw, q2⟩)))
                obtain ⟨w, hw, nw⟩ := mt'
                exact ⟨-3, nI C, fb, _, _, _, _, Or.inl ⟨by decide, rfl, rfl, eq⟩, fun post q => inn3 post ⟨C + 1, bs_w104B (by omega) gb hw nw q C 0 (by omega) (by omega)⟩⟩
        · exact bad (-1) m1 (fun post q => by
            unfold wpX_wall
            exact bs_wE0 h1 (br_t rfl (bs_wE0 h2 (br_t rfl (bs_wE0 h3 (br_t rfl (bs_wE1 h4 (br_f bs_k10 q))))))))
      · exact bad (-1) m1 (fun post q => by
          unfold wpX_wall
          exact bs_wE0 h1 (br_t rfl (bs_wE0 h2 (br_t rfl (bs_wE1 h3 (br_f bs_k10 q))))))
    · exact bad (-1) m1 (fun post q => by
        unfold wpX_wall
        exact bs_wE0 h1 (br_t rfl (bs_wE1 h2 (br_f bs_k10 q))))
  · exact bad (-1) m1 (fun post q => by
      unfold wpX_wall
      exact bs_wE1 h1 (br_f bs_k10 q))
end
end
section
/-! the walk: look, unbuild, turn -/
section
variable {fc : Int32} {fvx : Int32} {fvy : Int32} {fb : Int32} {fp : Int32} {fn : Int32} {fo : Int32} {fdx : Int32} {fdy : Int32} {fs : Int32} {a1 : Nat → Int32} {a2 : Nat → Int32} {a3 : Nat → Int32} {a4 : Nat → Int32} {a5 : Nat → Int32} {a6 : Nat → Int64} {a7 : Nat → Int64} {a8 : Nat → Int64} {a9 : Nat → Int64} {a10 : Nat → Int32} {a11 : Nat → Int32} {a12 : Nat → Int32} {a13 : Nat → Int32} {a14 : Nat → Int32} {a15 : Nat → Int32} {a16 : Nat → Int32} {a17 : Nat → Int32}
def bs_od (x : Int) : Prop := -14 ≤ x ∧ x ≤ 14 ∧ ¬ x % 2 = 0
theorem bs_wO0 {post : Int32 → Prop} {x : Int32} (h : bs_od x.toInt) (H : post 0) : wpX_badOdd post (fc, fvx, fvy, fb, fp, fn, fo, fdx, fdy, fs, a1, a2, a3, a4, a5, a6, a7, a8, a9, a10, a11, a12, a13, a14, a15, a16, a17) x := by
  unfold bs_od at h
  unfold wpX_badOdd
  exact br_f (by rw [bs_lt0, bs_km14]; omega) (br_f (by rw [bs_lt0, bs_k14]; omega) (br_f (fun q => h.2.2 ((bs_bit x).mp q)) H))
theorem bs_wO1 {post : Int32 → Prop} {x : Int32} (h : ¬ bs_od x.toInt) (H : post 1) : wpX_badOdd post (fc, fvx, fvy, fb, fp, fn, fo, fdx, fdy, fs, a1, a2, a3, a4, a5, a6, a7, a8, a9, a10, a11, a12, a13, a14, a15, a16, a17) x := by
  unfold wpX_badOdd
  refine br_c (fun _ => H) (fun z => br_c (fun _ => H) (fun z2 => br_t ?_ H))
  rw [bs_lt0, bs_km14] at z
  rw [bs_lt0, bs_k14] at z2
  exact Classical.byContradiction (fun q => h ⟨by omega, by omega, fun e => q ((bs_bit x).mpr e)⟩)
theorem bs_wlook (hx : bs_b 14 fvx.toInt) (hy : bs_b 14 fvy.toInt) (x y : Int32) : ∃ (r vx vy : Int32), bs_b 14 vx.toInt ∧ bs_b 14 vy.toInt ∧ ∀ post : Int32 → St1 → Prop, post r (fc, vx, vy, fb, fp, fn, fo, fdx, fdy, fs, a1, a2, a3, a4, a5, a6, a7, a8, a9, a10, a11, a12, a13, a14, a15, a16, a17) → wpX_look post (fc, fvx, fvy, fb, fp, fn, fo, fdx, fdy, fs, a1, a2, a3, a4, a5, a6, a7, a8, a9, a10, a11, a12, a13, a14, a15, a16, a17) x y := by
  by_cases h1 : bs_od x.toInt
  · by_cases h2 : bs_od y.toInt
    · refine ⟨0, x, y, ⟨h1.1, h1.2.1⟩, ⟨h2.1, h2.2.1⟩, fun post q => ?_⟩
      unfold wpX_look
      exact bs_wO0 h1 (br_t rfl (bs_wO0 h2 (br_t rfl q)))
    · refine ⟨-1, fvx, fvy, hx, hy, fun post q => ?_⟩
      unfold wpX_look
      exact bs_wO0 h1 (br_t rfl (bs_wO1 h2 (br_f bs_k10 q)))
  · refine ⟨-1, fvx, fvy, hx, hy, fun post q => ?_⟩
    unfold wpX_look
    exact bs_wO1 h1 (br_f bs_k10 q)
theorem bs_wunb {C : Nat} (hC : C ≤ 10) : ∃ (r : Int32) (D : Nat), D ≤ C ∧ ∀ post : Int32 → St1 → Prop, post r (nI D, fvx, fvy, 0, fp, fn, fo, fdx, fdy, fs, a1, a2, a3, a4, a5, a6, a7, a8, a9, a10, a11, a12, a13, a14, a15, a16, a17) → wpX_unbuild post (nI C, fvx, fvy, 0, fp, fn, fo, fdx, fdy, fs, a1, a2, a3, a4, a5, a6, a7, a8, a9, a10, a11, a12, a13, a14, a15, a16, a17) := by
  by_cases h : C = 0
  · refine ⟨-4, C, Nat.le_refl C, fun post q => ?_⟩
    unfold wpX_unbuild
    exact pk_eq C 0 (fun _ => q) (fun z => absurd h z)
  · refine ⟨nI (C - 1), C - 1, by omega, fun post q => ?_⟩
    have e : nI C - 1 = nI (C - 1) := by
      have := nI_pred (C - 1)
      rw [show C - 1 + 1 = C by omega] at this
      exact this
    unfold wpX_unbuild
    exact pk_eq C 0 (fun z => absurd z h) (fun _ => nm_r e q)
theorem bs_k15 : ¬ (15 : Int32) = 0 := by decide
theorem bs_wturn {C : Nat} (hC : C ≤ 10) (hok : bs_ok (bs_gv a1 a2 a3 a4) C) (hx : bs_b 14 fvx.toInt) (hy : bs_b 14 fvy.toInt) (p1 p2 p3 : Int32) :
    ∃ (r vx vy : Int32) (D : Nat) (b1 b2 b3 b4 : Nat → Int32), D ≤ 10 ∧ bs_ok (bs_gv b1 b2 b3 b4) D ∧ bs_b 14 vx.toInt ∧ bs_b 14 vy.toInt ∧ ∀ post : Int32 → St1 → Prop, post r (nI D, vx, vy, 0, fp, fn, fo, fdx, fdy, fs, b1, b2, b3, b4, a5, a6, a7, a8, a9, a10, a11, a12, a13, a14, a15, a16, a17) → wpL_turn post (nI C, fvx, fvy, 0, fp, fn, fo, fdx, fdy, fs, a1, a2, a3, a4, a5, a6, a7, a8, a9, a10, a11, a12, a13, a14, a15, a16, a17) p1 p2 p3 := by
  by_cases h3 : 3 ≤ p1 &&& 7
  · by_cases h5 : 5 ≤ p1 &&& 7
    · by_cases h7 : 7 ≤ p1 &&& 7
      · obtain ⟨r, D, hD, h⟩ := bs_wunb (fvx := fvx) (fvy := fvy) (fp := fp) (fn := fn) (fo := fo) (fdx := fdx) (fdy := fdy) (fs := fs) (a1 := a1) (a2 := a2) (a3 := a3) (a4 := a4) (a5 := a5) (a6 := a6) (a7 := a7) (a8 := a8) (a9 := a9) (a10 := a10) (a11 := a11) (a12 := a12) (a13 := a13) (a14 := a14) (a15 := a15) (a16 := a16) (a17 := a17) hC
        refine ⟨r, fvx, fvy, D, a1, a2, a3, a4, by omega, bs_okM hok hD, hx, hy, fun post q => ?_⟩
        unfold wpL_turn
        exact nm_e ⟨bs_k15, nm_e ⟨bs_k15, nm_e ⟨bs_k15, nm_e ⟨bs_k15, nm_e (br_t h3 (br_t h5 (br_t h7 (h _ q))))⟩⟩⟩⟩
      · obtain ⟨r, vx, vy, b1, b2, h⟩ := bs_wlook (fc := nI C) (fvx := fvx) (fvy := fvy) (fb := 0) (fp := fp) (fn := fn) (fo := fo) (fdx := fdx) (fdy := fdy) (fs := fs) (a1 := a1) (a2 := a2) (a3 := a3) (a4 := a4) (a5 := a5) (a6 := a6) (a7 := a7) (a8 := a8) (a9 := a9) (a10 := a10) (a11 := a11) (a12 := a12) (a13 := a13) (a14 := a14) (a15 := a15) (a16 := a16) (a17 := a17) hx hy ((((p2 &&& 31) - (p2 &&& 31) / 15 * 15) - 7) * 2 + 1) (((((p2 >>> ((5 : Int32) &&& 31)) &&& 31) - ((p2 >>> ((5 : Int32) &&& 31)) &&& 31) / 15 * 15) - 7) * 2 + 1)
        refine ⟨r, vx, vy, C, a1, a2, a3, a4, hC, hok, b1, b2, fun post q => ?_⟩
        unfold wpL_turn
        exact nm_e ⟨bs_k15, nm_e ⟨bs_k15, nm_e ⟨bs_k15, nm_e ⟨bs_k15, nm_e (br_t h3 (br_t h5 (br_f h7 (h _ q))))⟩⟩⟩⟩
    · obtain ⟨r, c, b, b1, b2, b3, b4, hr, h⟩ := bs_wwall (fvx := fvx) (fvy := fvy) (fb := 0) (fp := fp) (fn := fn) (fo := fo) (fdx := fdx) (fdy := fdy) (fs := fs) (a1 := a1) (a2 := a2) (a3 := a3) (a4 := a4) (a5 := a5) (a6 := a6) (a7 := a7) (a8 := a8) (a9 := a9) (a10 := a10) (a11 := a11) (a12 := a12) (a13 := a13) (a14 := a14) (a15 := a15) (a16 := a16) (a17 := a17) hC hok ((((p2 &&& 31) - (p2 &&& 31) / 15 * 15) - 7) * 2) (((((p2 >>> ((5 : Int32) &&& 31)) &&& 31) - ((p2 >>> ((5 : Int32) &&& 31)) &&& 31) / 15 * 15) - 7) * 2)
        ((((p2 &&& 31) - (p2 &&& 31) / 15 * 15) - 7) * 2 + (((p3 &&& 7) - 3) * 2)) (((((p2 >>> ((5 : Int32) &&& 31)) &&& 31) - ((p2 >>> ((5 : Int32) &&& 31)) &&& 31) / 15 * 15) - 7) * 2 + ((((p3 >>> ((3 : Int32) &&& 31)) &&& 7) - 3) * 2))
      rcases hr with ⟨_, e1, e2, e3⟩ | ⟨_, e0, e1, e2, e3, _⟩
      · subst e1 e2
        refine ⟨r, fvx, fvy, C, b1, b2, b3, b4, hC, bs_okC hok e3, hx, hy, fun post q => ?_⟩
        unfold wpL_turn
        exact nm_e ⟨bs_k15, nm_e ⟨bs_k15, nm_e ⟨bs_k15, nm_e ⟨bs_k15, nm_e (br_t h3 (br_f h5 (h _ q)))⟩⟩⟩⟩
      · subst e1 e2
        refine ⟨r, fvx, fvy, C + 1, b1, b2, b3, b4, by omega, e3, hx, hy, fun post q => ?_⟩
        unfold wpL_turn
        exact nm_e ⟨bs_k15, nm_e ⟨bs_k15, nm_e ⟨bs_k15, nm_e ⟨bs_k15, nm_e (br_t h3 (br_f h5 (h _ q)))⟩⟩⟩⟩
  · obtain ⟨r, c, b, b1, b2, b3, b4, hr, h⟩ := bs_wwall (fvx := fvx) (fvy := fvy) (fb := 0) (fp := fp) (fn := fn) (fo := fo) (fdx := fdx) (fdy := fdy) (fs := fs) (a1 := a1) (a2 := a2) (a3 := a3) (a4 := a4) (a5 := a5) (a6 := a6) (a7 := a7) (a8 := a8) (a9 := a9) (a10 := a10) (a11 := a11) (a12 := a12) (a13 := a13) (a14 := a14) (a15 := a15) (a16 := a16) (a17 := a17) hC hok ((((p2 &&& 31) - (p2 &&& 31) / 15 * 15) - 7) * 2) (((((p2 >>> ((5 : Int32) &&& 31)) &&& 31) - ((p2 >>> ((5 : Int32) &&& 31)) &&& 31) / 15 * 15) - 7) * 2)
      ((((p3 &&& 31) - (p3 &&& 31) / 15 * 15) - 7) * 2) (((((p3 >>> ((5 : Int32) &&& 31)) &&& 31) - ((p3 >>> ((5 : Int32) &&& 31)) &&& 31) / 15 * 15) - 7) * 2)
    rcases hr with ⟨_, e1, e2, e3⟩ | ⟨_, e0, e1, e2, e3, _⟩
    · subst e1 e2
      refine ⟨r, fvx, fvy, C, b1, b2, b3, b4, hC, bs_okC hok e3, hx, hy, fun post q => ?_⟩
      unfold wpL_turn
      exact nm_e ⟨bs_k15, nm_e ⟨bs_k15, nm_e ⟨bs_k15, nm_e ⟨bs_k15, nm_e (br_f h3 (h _ q))⟩⟩⟩⟩
    · subst e1 e2
      refine ⟨r, fvx, fvy, C + 1, b1, b2, b3, b4, by omega, e3, hx, hy, fun post q => ?_⟩
      unfold wpL_turn
      exact nm_e ⟨bs_k15, nm_e ⟨bs_k15, nm_e ⟨bs_k15, nm_e ⟨bs_k15, nm_e (br_f h3 (h _ q))⟩⟩⟩⟩
theorem bs_k3 : ¬ (3 : Int32) ≤ (0 : Int32) &&& 7 := by decide
/-- the last turn: a wall, of the second object -/
theorem bs_wturn0 {C : Nat} (hC : C ≤ 10) (hok : bs_ok (bs_gv a1 a2 a3 a4) C) (p2 p3 : Int32) :
    ∃ (r : Int32) (D : Nat) (b1 b2 b3 b4 : Nat → Int32), D ≤ 10 ∧ bs_ok (bs_gv b1 b2 b3 b4) D ∧ (∀ w, w < C → bs_gv b1 b2 b3 b4 w = bs_gv a1 a2 a3 a4 w) ∧ (r.toInt < 0 ∧ D = C ∨ r = nI C ∧ D = C + 1) ∧ ∀ post : Int32 → St1 → Prop, post r (nI D, fvx, fvy, 0, fp, fn, fo, fdx, fdy, fs, b1, b2, b3, b4, a5, a6, a7, a8, a9, a10, a11, a12, a13, a14, a15, a16, a17) → wpL_turn post (nI C, fvx, fvy, 0, fp, fn, fo, fdx, fdy, fs, a1, a2, a3, a4, a5, a6, a7, a8, a9, a10, a11, a12, a13, a14, a15, a16, a17) 0 p2 p3 := by
  obtain ⟨r, c, b, b1, b2, b3, b4, hr, h⟩ := bs_wwall (fvx := fvx) (fvy := fvy) (fb := 0) (fp := fp) (fn := fn) (fo := fo) (fdx := fdx) (fdy := fdy) (fs := fs) (a1 := a1) (a2 := a2) (a3 := a3) (a4 := a4) (a5 := a5) (a6 := a6) (a7 := a7) (a8 := a8) (a9 := a9) (a10 := a10) (a11 := a11) (a12 := a12) (a13 := a13) (a14 := a14) (a15 := a15) (a16 := a16) (a17 := a17) hC hok ((((p2 &&& 31) - (p2 &&& 31) / 15 * 15) - 7) * 2) (((((p2 >>> ((5 : Int32) &&& 31)) &&& 31) - ((p2 >>> ((5 : Int32) &&& 31)) &&& 31) / 15 * 15) - 7) * 2)
    ((((p3 &&& 31) - (p3 &&& 31) / 15 * 15) - 7) * 2) (((((p3 >>> ((5 : Int32) &&& 31)) &&& 31) - ((p3 >>> ((5 : Int32) &&& 31)) &&& 31) / 15 * 15) - 7) * 2)
  rcases hr with ⟨e0, e1, e2, e3⟩ | ⟨e4, e0, e1, e2, e3, e5⟩
  · subst e1 e2
    refine ⟨r, C, b1, b2, b3, b4, hC, bs_okC hok e3, e3, Or.inl ⟨e0, rfl⟩, fun post q => ?_⟩
    unfold wpL_turn
    exact nm_e ⟨bs_k15, nm_e ⟨bs_k15, nm_e ⟨bs_k15, nm_e ⟨bs_k15, nm_e (br_f bs_k3 (h _ q))⟩⟩⟩⟩
  · subst e1 e2
    refine ⟨r, C + 1, b1, b2, b3, b4, by omega, e3, e5, Or.inr ⟨e4, rfl⟩, fun post q => ?_⟩
    unfold wpL_turn
    exact nm_e ⟨bs_k15, nm_e ⟨bs_k15, nm_e ⟨bs_k15, nm_e ⟨bs_k15, nm_e (br_f bs_k3 (h _ q))⟩⟩⟩⟩
end
end
section
/-! what is seen, as a function of the walls -/
theorem bs_leT {g : Nat → Nat → Int} {r : Nat → Int} {x p q : Nat} (hp : 0 < bs_nd g r p) (hq : 0 < bs_nd g r q) (hx : 0 < bs_nd g r x) (a : bs_le g r x p) (b : bs_le g r p q) : bs_le g r x q := by
  unfold bs_le at a b ⊢
  have m1 := Int.mul_le_mul_of_nonneg_right a (Int.le_of_lt hq)
  have m2 := Int.mul_le_mul_of_nonneg_right b (Int.le_of_lt hx)
  have e : (bs_na g r q * bs_nd g r x - bs_na g r x * bs_nd g r q) * bs_nd g r p = (bs_na g r q * bs_nd g r p * bs_nd g r x - bs_na g r p * bs_nd g r q * bs_nd g r x) + (bs_na g r p * bs_nd g r x * bs_nd g r q - bs_na g r x * bs_nd g r p * bs_nd g r q) := by grind
  have := bs_pos hp (show 0 ≤ (bs_na g r q * bs_nd g r x - bs_na g r x * bs_nd g r q) * bs_nd g r p by omega)
  omega
theorem bs_ex (g : Nat → Nat → Int) (r : Nat → Int) : ∀ C : Nat, ∃ x y : Int, bs_see g C r x y
  | 0 => ⟨-4, -4, Or.inl ⟨rfl, rfl, fun p hp => absurd hp (by omega)⟩⟩
  | C + 1 => by
    obtain ⟨x, y, h⟩ := bs_ex g r C
    by_cases hC : bs_hit g r C
    · rcases h with ⟨h1, h2, h3⟩ | ⟨p, p1, p2, p3, p4, p5⟩
      · refine ⟨C, bs_dist g r C, Or.inr ⟨C, by omega, rfl, rfl, hC, fun q hq hh => ?_⟩⟩
        by_cases e : q = C
        · rw [e]
          exact Int.le_refl _
        · exact absurd hh (h3 q (by omega))
      · by_cases l : bs_le g r p C
        · refine ⟨x, y, Or.inr ⟨p, by omega, p2, p3, p4, fun q hq hh => ?_⟩⟩
          by_cases e : q = C
          · rw [e]
            exact l
          · exact p5 q (by omega) hh
        · have l2 : bs_le g r C p := by
            unfold bs_le at l ⊢
            omega
          refine ⟨C, bs_dist g r C, Or.inr ⟨C, by omega, rfl, rfl, hC, fun q hq hh => ?_⟩⟩
          by_cases e : q = C
          · rw [e]
            exact Int.le_refl _
          · exact bs_leT p4.1 hh.1 hC.1 l2 (p5 q (by omega) hh)
    · rcases h with ⟨h1, h2, h3⟩ | ⟨p, p1, p2, p3, p4, p5⟩
      · refine ⟨x, y, Or.inl ⟨h1, h2, fun q hq hh => ?_⟩⟩
        by_cases e : q = C
        · rw [e] at hh
          exact hC hh
        · exact h3 q (by omega) hh
      · refine ⟨x, y, Or.inr ⟨p, by omega, p2, p3, p4, fun q hq hh => ?_⟩⟩
        by_cases e : q = C
        · rw [e] at hh
          exact absurd hh hC
        · exact p5 q (by omega) hh
noncomputable def bs_k (g : Nat → Nat → Int) (C : Nat) (vx vy : Int) (look c : Nat) : Int := Classical.choose (bs_ex g (bs_ray vx vy look c) C)
theorem bs_kS (g : Nat → Nat → Int) (C : Nat) (vx vy : Int) (look c : Nat) : ∃ y, bs_see g C (bs_ray vx vy look c) (bs_k g C vx vy look c) y := Classical.choose_spec (bs_ex g (bs_ray vx vy look c) C)
theorem bs_kE {g : Nat → Nat → Int} {C : Nat} {vx vy : Int} {look c : Nat} {x y : Int} (ho : bs_ok g C) (s : bs_see g C (bs_ray vx vy look c) x y) : x = bs_k g C vx vy look c := by
  obtain ⟨y', h⟩ := bs_kS g C vx vy look c
  exact (bs_fun ho h s).1
theorem bs_kR (g : Nat → Nat → Int) (C : Nat) (vx vy : Int) (look c : Nat) : bs_k g C vx vy look c = -4 ∨ ∃ p : Nat, p < C ∧ bs_k g C vx vy look c = (p : Int) := by
  obtain ⟨y, h | ⟨p, h1, h2, _⟩⟩ := bs_kS g C vx vy look c
  · exact Or.inl h.1
  · exact Or.inr ⟨p, h1, h2⟩
def bs_i (x q : Int) : Nat := if x = q then 1 else 0
noncomputable def bs_rc (g : Nat → Nat → Int) (C : Nat) (vx vy q : Int) (look : Nat) : Nat := bs_S (fun c => bs_i (bs_k g C vx vy look c) q) 16
noncomputable def bs_rt (g : Nat → Nat → Int) (C : Nat) (vx vy q : Int) : Nat := bs_S (bs_rc g C vx vy q) 4
theorem bs_SA (a b : Nat → Nat) : ∀ n : Nat, bs_S (fun i => a i + b i) n = bs_S a n + bs_S b n
  | 0 => rfl
  | n + 1 => by
    show bs_S (fun i => a i + b i) n + (a n + b n) = bs_S a n + a n + (bs_S b n + b n)
    rw [bs_SA a b n]
    omega
theorem bs_S0 : ∀ n : Nat, bs_S (fun _ => 0) n = 0
  | 0 => rfl
  | n + 1 => by
    show bs_S (fun _ => 0) n + 0 = 0
    rw [bs_S0 n]
theorem bs_sw (f : Nat → Nat → Nat) (n : Nat) : ∀ m : Nat, bs_S (fun i => bs_S (fun c => f i c) n) m = bs_S (fun c => bs_S (fun i => f i c) m) n
  | 0 => (bs_S0 n).symm
  | m + 1 => by
    show bs_S (fun i => bs_S (fun c => f i c) n) m + bs_S (fun c => f m c) n = bs_S (fun c => bs_S (fun i => f i c) m + f m c) n
    rw [bs_sw f n m, bs_SA]
theorem bs_one (x : Int) : ∀ C : Nat, bs_S (fun i => bs_i x (i : Int)) C = if 0 ≤ x ∧ x < C then 1 else 0
  | 0 => by
    rw [if_neg (by omega)]
    rfl
  | C + 1 => by
    show bs_S (fun i => bs_i x (i : Int)) C + bs_i x (C : Int) = _
    rw [bs_one x C]
    unfold bs_i
    by_cases e : x = (C : Int)
    · rw [if_pos e, if_neg (by omega), if_pos (by omega)]
    · rw [if_neg e]
      by_cases z : 0 ≤ x ∧ x < C
      · rw [if_pos z, if_pos (by omega)]
      · rw [if_neg z, if_neg (by omega)]
theorem bs_all (g : Nat → Nat → Int) (C : Nat) (vx vy : Int) : bs_rt g C vx vy (-4) + bs_S (fun i => bs_rt g C vx vy (i : Int)) C = 64 := by
  have row : ∀ look, bs_rc g C vx vy (-4) look + bs_S (fun i => bs_rc g C vx vy (i : Int) look) C = 16 := fun look => by
    unfold bs_rc
    rw [bs_sw (fun i c => bs_i (bs_k g C vx vy look c) (i : Int)) 16 C, ← bs_SA]
    have e : bs_S (fun c => bs_i (bs_k g C vx vy look c) (-4) + bs_S (fun i => bs_i (bs_k g C vx vy look c) (i : Int)) C) 16 = bs_S (fun _ => 1) 16 := bs_Sc (fun c _ => by
      show bs_i (bs_k g C vx vy look c) (-4) + bs_S (fun i => bs_i (bs_k g C vx vy look c) (i : Int)) C = 1
      rw [bs_one]
      unfold bs_i
      rcases bs_kR g C vx vy look c with z | ⟨p, p1, p2⟩
      · rw [if_pos z, if_neg (by omega)]
      · rw [if_neg (by omega), if_pos (by omega)])
    rw [e]
    rfl
  unfold bs_rt
  rw [bs_sw (fun i look => bs_rc g C vx vy (i : Int) look) 4 C, ← bs_SA]
  have e : bs_S (fun look => bs_rc g C vx vy (-4) look + bs_S (fun i => bs_rc g C vx vy (i : Int) look) C) 4 = bs_S (fun _ => 16) 4 := bs_Sc (fun look _ => row look)
  rw [e]
  rfl
theorem bs_rcB (g : Nat → Nat → Int) (C : Nat) (vx vy q : Int) (look : Nat) : bs_rc g C vx vy q look ≤ 16 := by
  have := bs_Sb (h := fun c => bs_i (bs_k g C vx vy look c) q) (b := 1) (n := 16) (fun c _ => by
    show bs_i _ _ ≤ 1
    unfold bs_i
    split <;> omega)
  unfold bs_rc
  omega
/-! the walk: rays, seen, depth -/
section
variable {fc : Int32} {fvx : Int32} {fvy : Int32} {fb : Int32} {fp : Int32} {fn : Int32} {fo : Int32} {fdx : Int32} {fdy : Int32} {fs : Int32} {a1 : Nat → Int32} {a2 : Nat → Int32} {a3 : Nat → Int32} {a4 : Nat → Int32} {a5 : Nat → Int32} {a6 : Nat → Int64} {a7 : Nat → Int64} {a8 : Nat → Int64} {a9 : Nat → Int64} {a10 : Nat → Int32} {a11 : Nat → Int32} {a12 : Nat → Int32} {a13 : Nat → Int32} {a14 : Nat → Int32} {a15 : Nat → Int32} {a16 : Nat → Int32} {a17 : Nat → Int32}
theorem bs_wr17 {post : Int32 → St1 → Prop} {J : Int32 → Int32 → Int32 → Int32 → Int32 → Int32 → Int32 → Int32 → Int32 → Int32 → Int32 → Int32 → (Nat → Int32) → (Nat → Int32) → (Nat → Int32) → (Nat → Int32) → (Nat → Int32) → (Nat → Int64) → (Nat → Int64) → (Nat → Int64) → (Nat → Int64) → (Nat → Int32) → (Nat → Int32) → (Nat → Int32) → (Nat → Int32) → (Nat → Int32) → (Nat → Int32) → (Nat → Int32) → (Nat → Int32) → Prop} {x1 : Int32} {look m : Nat}
    (H : J (nI (m + bs_S (fun c => bs_i (a15 c).toInt x1.toInt) 16)) (nI (look + 1)) fc fvx fvy fb fp fn fo fdx fdy fs a1 a2 a3 a4 a5 a6 a7 a8 a9 a10 a11 a12 a13 a14 a15 a16 a17) : ∀ k j : Nat, j + k = 16 → wX_rays_17 post J x1 (nI look) fc fvx fvy fb fp fn fo fdx fdy fs a1 a2 a3 a4 a5 a6 a7 a8 a9 a10 a11 a12 a13 a14 a15 a16 a17 (k + 1) (nI (m + bs_S (fun c => bs_i (a15 c).toInt x1.toInt) j)) (nI j) := by
  intro k
  induction k with
  | zero =>
    intro j e
    have ej : j = 16 := by omega
    rw [ej]
    exact pk_le 16 16 (fun _ => nm_r (nI_1 look) H) (fun z => absurd z (by omega))
  | succ k ih =>
    intro j e
    have vj : vp_in (nI j) 16 := vp_in_nI (by omega) (by omega)
    have nx := ih (j + 1) (by omega)
    have es : bs_S (fun c => bs_i (a15 c).toInt x1.toInt) (j + 1) = bs_S (fun c => bs_i (a15 c).toInt x1.toInt) j + bs_i (a15 j).toInt x1.toInt := rfl
    rw [es] at nx
    refine pk_le 16 j (fun z => absurd z (by omega)) (fun z => ?_)
    rw [nI_clamp (show j < 2 ^ 31 by omega)]
    refine ⟨vj, br_c (fun q => nm_r (nI_1 _) (nm_r (nI_1 j) ?_)) (fun q => nm_r (nI_1 j) ?_)⟩
    · unfold bs_i at nx ⊢
      rw [if_pos (congrArg Int32.toInt q)] at nx
      exact nx
    · unfold bs_i at nx ⊢
      rw [if_neg (fun h => q (bs_eq0.mpr h))] at nx
      exact nx
theorem bs_wr4 {post : Int32 → St1 → Prop} {C : Nat} {x1 : Int32} (hC : C ≤ 10) (hok : bs_ok (bs_gv a1 a2 a3 a4) C) (hx : bs_b 14 fvx.toInt) (hy : bs_b 14 fvy.toInt)
    (H : ∀ (fbz : Int32) (fpz : Int32) (fnz : Int32) (foz : Int32) (fdxz : Int32) (fdyz : Int32) (fsz : Int32) (a5z : Nat → Int32) (a6z : Nat → Int64) (a7z : Nat → Int64) (a8z : Nat → Int64) (a9z : Nat → Int64) (a10z : Nat → Int32) (a11z : Nat → Int32) (a12z : Nat → Int32) (a13z : Nat → Int32) (a14z : Nat → Int32) (a15z : Nat → Int32) (a16z : Nat → Int32) (a17z : Nat → Int32), bs_rdy (bs_gv a1 a2 a3 a4) C fbz fpz fnz (bs_tv a5z a6z a7z a8z a9z a10z a11z) (bs_sv a12z a13z a14z) → post (nI (bs_rt (bs_gv a1 a2 a3 a4) C fvx.toInt fvy.toInt x1.toInt)) (nI C, fvx, fvy, fbz, fpz, fnz, foz, fdxz, fdyz, fsz, a1, a2, a3, a4, a5z, a6z, a7z, a8z, a9z, a10z, a11z, a12z, a13z, a14z, a15z, a16z, a17z)) :
    ∀ k j : Nat, j + k = 4 → ∀ (fbz : Int32) (fpz : Int32) (fnz : Int32) (foz : Int32) (fdxz : Int32) (fdyz : Int32) (fsz : Int32) (a5z : Nat → Int32) (a6z : Nat → Int64) (a7z : Nat → Int64) (a8z : Nat → Int64) (a9z : Nat → Int64) (a10z : Nat → Int32) (a11z : Nat → Int32) (a12z : Nat → Int32) (a13z : Nat → Int32) (a14z : Nat → Int32) (a15z : Nat → Int32) (a16z : Nat → Int32) (a17z : Nat → Int32), bs_rdy (bs_gv a1 a2 a3 a4) C fbz fpz fnz (bs_tv a5z a6z a7z a8z a9z a10z a11z) (bs_sv a12z a13z a14z) → wX_rays_4 post x1 (k + 1) (nI (bs_S (bs_rc (bs_gv a1 a2 a3 a4) C fvx.toInt fvy.toInt x1.toInt) j)) (nI j) (nI C) fvx fvy fbz fpz fnz foz fdxz fdyz fsz a1 a2 a3 a4 a5z a6z a7z a8z a9z a10z a11z a12z a13z a14z a15z a16z a17z := by
  intro k
  induction k with
  | zero =>
    intro j e fbz fpz fnz foz fdxz fdyz fsz a5z a6z a7z a8z a9z a10z a11z a12z a13z a14z a15z a16z a17z hr
    have ej : j = 4 := by omega
    rw [ej]
    exact pk_le 4 4 (fun _ => H fbz fpz fnz foz fdxz fdyz fsz a5z a6z a7z a8z a9z a10z a11z a12z a13z a14z a15z a16z a17z hr) (fun z => absurd z (by omega))
  | succ k ih =>
    intro j e fbz fpz fnz foz fdxz fdyz fsz a5z a6z a7z a8z a9z a10z a11z a12z a13z a14z a15z a16z a17z hr
    refine pk_le 4 j (fun z => absurd z (by omega)) (fun z => bs_wrender hC hok hr hx hy (by omega) (fun p n o dx dy s b5 b6 b7 b8 b9 b10 b11 b12 b13 b14 b15 b16 b17 hr' hs => ⟨17, ?_⟩))
    have es : bs_S (fun c => bs_i (b15 c).toInt x1.toInt) 16 = bs_rc (bs_gv a1 a2 a3 a4) C fvx.toInt fvy.toInt x1.toInt j := bs_Sc (fun c hc => by
      show bs_i (b15 c).toInt x1.toInt = bs_i (bs_k (bs_gv a1 a2 a3 a4) C fvx.toInt fvy.toInt j c) x1.toInt
      rw [bs_kE hok (hs c hc)])
    have nx := ih (j + 1) (by omega) 1 p n o dx dy s b5 b6 b7 b8 b9 b10 b11 b12 b13 b14 b15 b16 b17 hr'
    have e2 : bs_S (bs_rc (bs_gv a1 a2 a3 a4) C fvx.toInt fvy.toInt x1.toInt) (j + 1) = bs_S (bs_rc (bs_gv a1 a2 a3 a4) C fvx.toInt fvy.toInt x1.toInt) j + bs_S (fun c => bs_i (b15 c).toInt x1.toInt) 16 := by
      rw [es]
      rfl
    rw [e2] at nx
    exact bs_wr17 (m := bs_S (bs_rc (bs_gv a1 a2 a3 a4) C fvx.toInt fvy.toInt x1.toInt) j) nx 16 0 (by omega)
theorem bs_wrays {post : Int32 → St1 → Prop} {C : Nat} {x1 : Int32} (hC : C ≤ 10) (hok : bs_ok (bs_gv a1 a2 a3 a4) C) (hr : bs_rdy (bs_gv a1 a2 a3 a4) C fb fp fn (bs_tv a5 a6 a7 a8 a9 a10 a11) (bs_sv a12 a13 a14)) (hx : bs_b 14 fvx.toInt) (hy : bs_b 14 fvy.toInt)
    (H : ∀ (fbz : Int32) (fpz : Int32) (fnz : Int32) (foz : Int32) (fdxz : Int32) (fdyz : Int32) (fsz : Int32) (a5z : Nat → Int32) (a6z : Nat → Int64) (a7z : Nat → Int64) (a8z : Nat → Int64) (a9z : Nat → Int64) (a10z : Nat → Int32) (a11z : Nat → Int32) (a12z : Nat → Int32) (a13z : Nat → Int32) (a14z : Nat → Int32) (a15z : Nat → Int32) (a16z : Nat → Int32) (a17z : Nat → Int32), bs_rdy (bs_gv a1 a2 a3 a4) C fbz fpz fnz (bs_tv a5z a6z a7z a8z a9z a10z a11z) (bs_sv a12z a13z a14z) → post (nI (bs_rt (bs_gv a1 a2 a3 a4) C fvx.toInt fvy.toInt x1.toInt)) (nI C, fvx, fvy, fbz, fpz, fnz, foz, fdxz, fdyz, fsz, a1, a2, a3, a4, a5z, a6z, a7z, a8z, a9z, a10z, a11z, a12z, a13z, a14z, a15z, a16z, a17z)) : wpX_rays post (nI C, fvx, fvy, fb, fp, fn, fo, fdx, fdy, fs, a1, a2, a3, a4, a5, a6, a7, a8, a9, a10, a11, a12, a13, a14, a15, a16, a17) x1 :=
  ⟨5, bs_wr4 hC hok hx hy H 4 0 (by omega) fb fp fn fo fdx fdy fs a5 a6 a7 a8 a9 a10 a11 a12 a13 a14 a15 a16 a17 hr⟩
theorem bs_wbray {post : Int32 → Prop} {look c : Nat} (hl : look < 4) (hc : c < 16) (H : post 0) : wpX_badRay post (fc, fvx, fvy, fb, fp, fn, fo, fdx, fdy, fs, a1, a2, a3, a4, a5, a6, a7, a8, a9, a10, a11, a12, a13, a14, a15, a16, a17) (nI look) (nI c) := by
  unfold wpX_badRay
  exact pk_lt look 0 (fun z => absurd z (by omega)) (fun _ => pk_lt 3 look (fun z => absurd z (by omega)) (fun _ => pk_lt c 0 (fun z => absurd z (by omega)) (fun _ => pk_le c 15 (fun _ => H) (fun z => absurd z (by omega)))))
theorem bs_wseen {post : Int32 → St1 → Prop} {C look c : Nat} (hC : C ≤ 10) (hok : bs_ok (bs_gv a1 a2 a3 a4) C) (hr : bs_rdy (bs_gv a1 a2 a3 a4) C fb fp fn (bs_tv a5 a6 a7 a8 a9 a10 a11) (bs_sv a12 a13 a14)) (hx : bs_b 14 fvx.toInt) (hy : bs_b 14 fvy.toInt) (hl : look < 4) (hc : c < 16)
    (H : ∀ (fbz : Int32) (fpz : Int32) (fnz : Int32) (foz : Int32) (fdxz : Int32) (fdyz : Int32) (fsz : Int32) (a5z : Nat → Int32) (a6z : Nat → Int64) (a7z : Nat → Int64) (a8z : Nat → Int64) (a9z : Nat → Int64) (a10z : Nat → Int32) (a11z : Nat → Int32) (a12z : Nat → Int32) (a13z : Nat → Int32) (a14z : Nat → Int32) (a15z : Nat → Int32) (a16z : Nat → Int32) (a17z : Nat → Int32), bs_rdy (bs_gv a1 a2 a3 a4) C fbz fpz fnz (bs_tv a5z a6z a7z a8z a9z a10z a11z) (bs_sv a12z a13z a14z) → ∀ x : Int32, (∃ y, bs_see (bs_gv a1 a2 a3 a4) C (bs_ray fvx.toInt fvy.toInt look c) x.toInt y) → post x (nI C, fvx, fvy, fbz, fpz, fnz, foz, fdxz, fdyz, fsz, a1, a2, a3, a4, a5z, a6z, a7z, a8z, a9z, a10z, a11z, a12z, a13z, a14z, a15z, a16z, a17z)) : wpX_seen post (nI C, fvx, fvy, fb, fp, fn, fo, fdx, fdy, fs, a1, a2, a3, a4, a5, a6, a7, a8, a9, a10, a11, a12, a13, a14, a15, a16, a17) (nI look) (nI c) := by
  unfold wpX_seen
  rw [nI_clamp (by omega)]
  exact bs_wbray hl hc (br_t rfl (bs_wrender hC hok hr hx hy hl (fun p n o dx dy s b5 b6 b7 b8 b9 b10 b11 b12 b13 b14 b15 b16 b17 hr' hs => ⟨vp_in_nI hc (by omega), H 1 p n o dx dy s b5 b6 b7 b8 b9 b10 b11 b12 b13 b14 b15 b16 b17 hr' _ ⟨_, hs c hc⟩⟩)))
theorem bs_wdepth {post : Int32 → St1 → Prop} {C look c : Nat} (hC : C ≤ 10) (hok : bs_ok (bs_gv a1 a2 a3 a4) C) (hr : bs_rdy (bs_gv a1 a2 a3 a4) C fb fp fn (bs_tv a5 a6 a7 a8 a9 a10 a11) (bs_sv a12 a13 a14)) (hx : bs_b 14 fvx.toInt) (hy : bs_b 14 fvy.toInt) (hl : look < 4) (hc : c < 16)
    (H : ∀ (fbz : Int32) (fpz : Int32) (fnz : Int32) (foz : Int32) (fdxz : Int32) (fdyz : Int32) (fsz : Int32) (a5z : Nat → Int32) (a6z : Nat → Int64) (a7z : Nat → Int64) (a8z : Nat → Int64) (a9z : Nat → Int64) (a10z : Nat → Int32) (a11z : Nat → Int32) (a12z : Nat → Int32) (a13z : Nat → Int32) (a14z : Nat → Int32) (a15z : Nat → Int32) (a16z : Nat → Int32) (a17z : Nat → Int32), bs_rdy (bs_gv a1 a2 a3 a4) C fbz fpz fnz (bs_tv a5z a6z a7z a8z a9z a10z a11z) (bs_sv a12z a13z a14z) → ∀ y : Int32, (∃ x, bs_see (bs_gv a1 a2 a3 a4) C (bs_ray fvx.toInt fvy.toInt look c) x y.toInt) → post y (nI C, fvx, fvy, fbz, fpz, fnz, foz, fdxz, fdyz, fsz, a1, a2, a3, a4, a5z, a6z, a7z, a8z, a9z, a10z, a11z, a12z, a13z, a14z, a15z, a16z, a17z)) : wpX_depth post (nI C, fvx, fvy, fb, fp, fn, fo, fdx, fdy, fs, a1, a2, a3, a4, a5, a6, a7, a8, a9, a10, a11, a12, a13, a14, a15, a16, a17) (nI look) (nI c) := by
  unfold wpX_depth
  rw [nI_clamp (by omega)]
  exact bs_wbray hl hc (br_t rfl (bs_wrender hC hok hr hx hy hl (fun p n o dx dy s b5 b6 b7 b8 b9 b10 b11 b12 b13 b14 b15 b16 b17 hr' hs => ⟨vp_in_nI hc (by omega), H 1 p n o dx dy s b5 b6 b7 b8 b9 b10 b11 b12 b13 b14 b15 b16 b17 hr' _ ⟨_, hs c hc⟩⟩)))
theorem bs_wopen {post : Int32 → St1 → Prop} {C : Nat} (hC : C ≤ 10) (hok : bs_ok (bs_gv a1 a2 a3 a4) C) (hr : bs_rdy (bs_gv a1 a2 a3 a4) C fb fp fn (bs_tv a5 a6 a7 a8 a9 a10 a11) (bs_sv a12 a13 a14)) (hx : bs_b 14 fvx.toInt) (hy : bs_b 14 fvy.toInt)
    (H : ∀ (fbz : Int32) (fpz : Int32) (fnz : Int32) (foz : Int32) (fdxz : Int32) (fdyz : Int32) (fsz : Int32) (a5z : Nat → Int32) (a6z : Nat → Int64) (a7z : Nat → Int64) (a8z : Nat → Int64) (a9z : Nat → Int64) (a10z : Nat → Int32) (a11z : Nat → Int32) (a12z : Nat → Int32) (a13z : Nat → Int32) (a14z : Nat → Int32) (a15z : Nat → Int32) (a16z : Nat → Int32) (a17z : Nat → Int32), bs_rdy (bs_gv a1 a2 a3 a4) C fbz fpz fnz (bs_tv a5z a6z a7z a8z a9z a10z a11z) (bs_sv a12z a13z a14z) → post (nI (bs_rt (bs_gv a1 a2 a3 a4) C fvx.toInt fvy.toInt (-4))) (nI C, fvx, fvy, fbz, fpz, fnz, foz, fdxz, fdyz, fsz, a1, a2, a3, a4, a5z, a6z, a7z, a8z, a9z, a10z, a11z, a12z, a13z, a14z, a15z, a16z, a17z)) : wpX_openRays post (nI C, fvx, fvy, fb, fp, fn, fo, fdx, fdy, fs, a1, a2, a3, a4, a5, a6, a7, a8, a9, a10, a11, a12, a13, a14, a15, a16, a17) := by
  unfold wpX_openRays
  exact bs_wrays (x1 := -4) hC hok hr hx hy H
theorem bs_wshare {post : Int32 → St1 → Prop} {C i : Nat} (hC : C ≤ 10) (hi : i < C) (hok : bs_ok (bs_gv a1 a2 a3 a4) C) (hr : bs_rdy (bs_gv a1 a2 a3 a4) C fb fp fn (bs_tv a5 a6 a7 a8 a9 a10 a11) (bs_sv a12 a13 a14)) (hx : bs_b 14 fvx.toInt) (hy : bs_b 14 fvy.toInt)
    (H : ∀ (fbz : Int32) (fpz : Int32) (fnz : Int32) (foz : Int32) (fdxz : Int32) (fdyz : Int32) (fsz : Int32) (a5z : Nat → Int32) (a6z : Nat → Int64) (a7z : Nat → Int64) (a8z : Nat → Int64) (a9z : Nat → Int64) (a10z : Nat → Int32) (a11z : Nat → Int32) (a12z : Nat → Int32) (a13z : Nat → Int32) (a14z : Nat → Int32) (a15z : Nat → Int32) (a16z : Nat → Int32) (a17z : Nat → Int32), bs_rdy (bs_gv a1 a2 a3 a4) C fbz fpz fnz (bs_tv a5z a6z a7z a8z a9z a10z a11z) (bs_sv a12z a13z a14z) → post (nI (bs_rt (bs_gv a1 a2 a3 a4) C fvx.toInt fvy.toInt (i : Int))) (nI C, fvx, fvy, fbz, fpz, fnz, foz, fdxz, fdyz, fsz, a1, a2, a3, a4, a5z, a6z, a7z, a8z, a9z, a10z, a11z, a12z, a13z, a14z, a15z, a16z, a17z)) : wpX_share post (nI C, fvx, fvy, fb, fp, fn, fo, fdx, fdy, fs, a1, a2, a3, a4, a5, a6, a7, a8, a9, a10, a11, a12, a13, a14, a15, a16, a17) (nI i) := by
  unfold wpX_share
  refine pk_lt i 0 (fun z => absurd z (by omega)) (fun _ => pk_lt i C (fun _ => ?_) (fun z => absurd z (by omega)))
  rw [← nI_toInt (show i < 2 ^ 31 by omega)] at H
  exact bs_wrays (x1 := nI i) hC hok hr hx hy H
end
end
section
/-! the law -/
section
variable {fc : Int32} {fvx : Int32} {fvy : Int32} {fb : Int32} {fp : Int32} {fn : Int32} {fo : Int32} {fdx : Int32} {fdy : Int32} {fs : Int32} {a1 : Nat → Int32} {a2 : Nat → Int32} {a3 : Nat → Int32} {a4 : Nat → Int32} {a5 : Nat → Int32} {a6 : Nat → Int64} {a7 : Nat → Int64} {a8 : Nat → Int64} {a9 : Nat → Int64} {a10 : Nat → Int32} {a11 : Nat → Int32} {a12 : Nat → Int32} {a13 : Nat → Int32} {a14 : Nat → Int32} {a15 : Nat → Int32} {a16 : Nat → Int32} {a17 : Nat → Int32}
variable {fcn : Int32} {fvxn : Int32} {fvyn : Int32} {fbn : Int32} {fpn : Int32} {fnn : Int32} {fon : Int32} {fdxn : Int32} {fdyn : Int32} {fsn : Int32} {a1n : Nat → Int32} {a2n : Nat → Int32} {a3n : Nat → Int32} {a4n : Nat → Int32} {a5n : Nat → Int32} {a6n : Nat → Int64} {a7n : Nat → Int64} {a8n : Nat → Int64} {a9n : Nat → Int64} {a10n : Nat → Int32} {a11n : Nat → Int32} {a12n : Nat → Int32} {a13n : Nat → Int32} {a14n : Nat → Int32} {a15n : Nat → Int32} {a16n : Nat → Int32} {a17n : Nat → Int32}
theorem bs_wnear {post : Int32 → St2 → Prop} {C D look c : Nat} {x7 : Int32} (hC : C ≤ 10) (hD : D ≤ 10) (hCD : x7.toInt < 0 ∧ D = C ∨ x7 = nI C ∧ D = C + 1) (hok : bs_ok (bs_gv a1 a2 a3 a4) C) (hokn : bs_ok (bs_gv a1n a2n a3n a4n) D) (hg : ∀ w, w < C → bs_gv a1n a2n a3n a4n w = bs_gv a1 a2 a3 a4 w)
    (hx : bs_b 14 fvx.toInt) (hy : bs_b 14 fvy.toInt) (hl : look < 4) (hc : c < 16) (hr : bs_rdy (bs_gv a1 a2 a3 a4) C fb fp fn (bs_tv a5 a6 a7 a8 a9 a10 a11) (bs_sv a12 a13 a14)) (hrn : bs_rdy (bs_gv a1n a2n a3n a4n) D fbn fpn fnn (bs_tv a5n a6n a7n a8n a9n a10n a11n) (bs_sv a12n a13n a14n))
    (H : ∀ (fbz : Int32) (fpz : Int32) (fnz : Int32) (foz : Int32) (fdxz : Int32) (fdyz : Int32) (fsz : Int32) (a5z : Nat → Int32) (a6z : Nat → Int64) (a7z : Nat → Int64) (a8z : Nat → Int64) (a9z : Nat → Int64) (a10z : Nat → Int32) (a11z : Nat → Int32) (a12z : Nat → Int32) (a13z : Nat → Int32) (a14z : Nat → Int32) (a15z : Nat → Int32) (a16z : Nat → Int32) (a17z : Nat → Int32) (fby : Int32) (fpy : Int32) (fny : Int32) (foy : Int32) (fdxy : Int32) (fdyy : Int32) (fsy : Int32) (a5y : Nat → Int32) (a6y : Nat → Int64) (a7y : Nat → Int64) (a8y : Nat → Int64) (a9y : Nat → Int64) (a10y : Nat → Int32) (a11y : Nat → Int32) (a12y : Nat → Int32) (a13y : Nat → Int32) (a14y : Nat → Int32) (a15y : Nat → Int32) (a16y : Nat → Int32) (a17y : Nat → Int32), bs_rdy (bs_gv a1 a2 a3 a4) C fbz fpz fnz (bs_tv a5z a6z a7z a8z a9z a10z a11z) (bs_sv a12z a13z a14z) → bs_rdy (bs_gv a1n a2n a3n a4n) D fby fpy fny (bs_tv a5y a6y a7y a8y a9y a10y a11y) (bs_sv a12y a13y a14y) →
      post 1 (nI C, fvx, fvy, fbz, fpz, fnz, foz, fdxz, fdyz, fsz, a1, a2, a3, a4, a5z, a6z, a7z, a8z, a9z, a10z, a11z, a12z, a13z, a14z, a15z, a16z, a17z, nI D, fvx, fvy, fby, fpy, fny, foy, fdxy, fdyy, fsy, a1n, a2n, a3n, a4n, a5y, a6y, a7y, a8y, a9y, a10y, a11y, a12y, a13y, a14y, a15y, a16y, a17y)) : wpL_nearer post (nI C, fvx, fvy, fb, fp, fn, fo, fdx, fdy, fs, a1, a2, a3, a4, a5, a6, a7, a8, a9, a10, a11, a12, a13, a14, a15, a16, a17, nI D, fvx, fvy, fbn, fpn, fnn, fon, fdxn, fdyn, fsn, a1n, a2n, a3n, a4n, a5n, a6n, a7n, a8n, a9n, a10n, a11n, a12n, a13n, a14n, a15n, a16n, a17n) x7 (nI look) (nI c) := by
  unfold wpL_nearer
  refine bs_wseen hC hok hr hx hy hl hc (fun fbz fpz fnz foz fdxz fdyz fsz a5z a6z a7z a8z a9z a10z a11z a12z a13z a14z a15z a16z a17z hr1 x sx => ?_)
  refine bs_wseen hD hokn hrn hx hy hl hc (fun fby fpy fny foy fdxy fdyy fsy a5y a6y a7y a8y a9y a10y a11y a12y a13y a14y a15y a16y a17y hr2 x' sx' => ?_)
  refine bs_wdepth hC hok hr1 hx hy hl hc (fun fbw fpw fnw fow fdxw fdyw fsw a5w a6w a7w a8w a9w a10w a11w a12w a13w a14w a15w a16w a17w hr3 y sy => ?_)
  refine bs_wdepth hD hokn hr2 hx hy hl hc (fun fbv fpv fnv fov fdxv fdyv fsv a5v a6v a7v a8v a9v a10v a11v a12v a13v a14v a15v a16v a17v hr4 y' sy' => ?_)
  obtain ⟨q1, s1⟩ := sx
  obtain ⟨q2, s2⟩ := sy
  obtain ⟨q3, s3⟩ := sx'
  obtain ⟨q4, s4⟩ := sy'
  have sm : bs_see (bs_gv a1 a2 a3 a4) C (bs_ray fvx.toInt fvy.toInt look c) x.toInt y.toInt := by
    rw [(bs_fun hok s1 s2).2]
    exact s1
  have sn : bs_see (bs_gv a1n a2n a3n a4n) D (bs_ray fvx.toInt fvy.toInt look c) x'.toInt y'.toInt := by
    rw [(bs_fun hokn s3 s4).2]
    exact s3
  have G := H fbw fpw fnw fow fdxw fdyw fsw a5w a6w a7w a8w a9w a10w a11w a12w a13w a14w a15w a16w a17w fbv fpv fnv fov fdxv fdyv fsv a5v a6v a7v a8v a9v a10v a11v a12v a13v a14v a15v a16v a17v hr3 hr4
  rcases bs_near (by omega) hg hokn sm sn with ⟨e1, e2⟩ | ⟨e1, e2, e3, e4, e5⟩
  · exact br_t (bs_eq0.mpr e1) (br_t (bs_eq0.mpr e2) G)
  · have x7e : x7 = nI C := by
      rcases hCD with h | h
      · omega
      · exact h.1
    refine br_f (fun z => e1 (congrArg Int32.toInt z)) (br_t ?_ (br_f ?_ (br_c (fun _ => G) (fun z => br_f ?_ G))))
    · rw [bs_eq0, x7e, nI_toInt (by omega)]
      exact e3
    · rw [bs_lt0, bs_z0]
      omega
    · rw [bs_eq0, bs_zm4] at z
      rw [bs_lt0]
      omega
theorem bs_sh4 {j : Nat} (h : j < 64) : nI j >>> ((4 : Int32) &&& 31) = nI (j / 16) := pk_shrN (n := j) (by omega) ((4 : Int32) &&& 31) 4 (by decide)
theorem bs_an4 {j : Nat} (h : j < 64) : nI j &&& 15 = nI (j % 16) := pk_andN (n := j) (by omega) (m := 15) 4 (by decide)
theorem bs_l184 {post : Int32 → Prop} {L : Nat} {xs : Nat → Int32} {kc ks C D : Nat} {x7 : Int32} (hC : C ≤ 10) (hD : D ≤ 10) (hCD : x7.toInt < 0 ∧ D = C ∨ x7 = nI C ∧ D = C + 1) (hok : bs_ok (bs_gv a1 a2 a3 a4) C) (hokn : bs_ok (bs_gv a1n a2n a3n a4n) D) (hg : ∀ w, w < C → bs_gv a1n a2n a3n a4n w = bs_gv a1 a2 a3 a4 w)
    (hx : bs_b 14 fvx.toInt) (hy : bs_b 14 fvy.toInt) (H : post 1) : ∀ k j : Nat, j + k = 64 → ∀ (fbz : Int32) (fpz : Int32) (fnz : Int32) (foz : Int32) (fdxz : Int32) (fdyz : Int32) (fsz : Int32) (a5z : Nat → Int32) (a6z : Nat → Int64) (a7z : Nat → Int64) (a8z : Nat → Int64) (a9z : Nat → Int64) (a10z : Nat → Int32) (a11z : Nat → Int32) (a12z : Nat → Int32) (a13z : Nat → Int32) (a14z : Nat → Int32) (a15z : Nat → Int32) (a16z : Nat → Int32) (a17z : Nat → Int32) (fby : Int32) (fpy : Int32) (fny : Int32) (foy : Int32) (fdxy : Int32) (fdyy : Int32) (fsy : Int32) (a5y : Nat → Int32) (a6y : Nat → Int64) (a7y : Nat → Int64) (a8y : Nat → Int64) (a9y : Nat → Int64) (a10y : Nat → Int32) (a11y : Nat → Int32) (a12y : Nat → Int32) (a13y : Nat → Int32) (a14y : Nat → Int32) (a15y : Nat → Int32) (a16y : Nat → Int32) (a17y : Nat → Int32), bs_rdy (bs_gv a1 a2 a3 a4) C fbz fpz fnz (bs_tv a5z a6z a7z a8z a9z a10z a11z) (bs_sv a12z a13z a14z) → bs_rdy (bs_gv a1n a2n a3n a4n) D fby fpy fny (bs_tv a5y a6y a7y a8y a9y a10y a11y) (bs_sv a12y a13y a14y) →
      wL_law_184 post L xs (nI C) x7 kc ks (k + 1) (nI j) (nI C) fvx fvy fbz fpz fnz foz fdxz fdyz fsz a1 a2 a3 a4 a5z a6z a7z a8z a9z a10z a11z a12z a13z a14z a15z a16z a17z (nI D) fvx fvy fby fpy fny foy fdxy fdyy fsy a1n a2n a3n a4n a5y a6y a7y a8y a9y a10y a11y a12y a13y a14y a15y a16y a17y := by
  intro k
  induction k with
  | zero =>
    intro j e fbz fpz fnz foz fdxz fdyz fsz a5z a6z a7z a8z a9z a10z a11z a12z a13z a14z a15z a16z a17z fby fpy fny foy fdxy fdyy fsy a5y a6y a7y a8y a9y a10y a11y a12y a13y a14y a15y a16y a17y hr hrn
    refine pk_le 64 j (fun _ => ?_) (fun z => absurd z (by omega))
    refine br_c (fun z => ?_) (fun z => ?_)
    · rw [bs_lt0, bs_z0] at z
      refine br_t ?_ H
      rcases hCD with h | h
      · rw [h.2]
      · rw [h.1, nI_toInt (by omega)] at z
        omega
    · rw [bs_lt0, bs_z0] at z
      refine br_t ?_ H
      rcases hCD with h | h
      · omega
      · rw [h.2, nI_1]
  | succ k ih =>
    intro j e fbz fpz fnz foz fdxz fdyz fsz a5z a6z a7z a8z a9z a10z a11z a12z a13z a14z a15z a16z a17z fby fpy fny foy fdxy fdyy fsy a5y a6y a7y a8y a9y a10y a11y a12y a13y a14y a15y a16y a17y hr hrn
    refine pk_le 64 j (fun z => absurd z (by omega)) (fun _ => ?_)
    rw [bs_sh4 (by omega), bs_an4 (by omega)]
    exact bs_wnear hC hD hCD hok hokn hg hx hy (by omega) (by omega) hr hrn (fun fbz fpz fnz foz fdxz fdyz fsz a5z a6z a7z a8z a9z a10z a11z a12z a13z a14z a15z a16z a17z fby fpy fny foy fdxy fdyy fsy a5y a6y a7y a8y a9y a10y a11y a12y a13y a14y a15y a16y a17y h1 h2 => br_f bs_k10 (nm_r (nI_1 j) (ih (j + 1) (by omega) fbz fpz fnz foz fdxz fdyz fsz a5z a6z a7z a8z a9z a10z a11z a12z a13z a14z a15z a16z a17z fby fpy fny foy fdxy fdyy fsy a5y a6y a7y a8y a9y a10y a11y a12y a13y a14y a15y a16y a17y h1 h2)))
theorem bs_l150 {post : Int32 → Prop} {L : Nat} {xs : Nat → Int32} {x3 x4 : Int32} {kc ks C : Nat} (hC : C ≤ 10) (hok : bs_ok (bs_gv a1 a2 a3 a4) C) (hx : bs_b 14 fvx.toInt) (hy : bs_b 14 fvy.toInt) (H : post 1)
    (hr : bs_rdy (bs_gv a1 a2 a3 a4) C fb fp fn (bs_tv a5 a6 a7 a8 a9 a10 a11) (bs_sv a12 a13 a14)) :
    wL_law_150 post L xs x3 x4 (nI 64) (nI C) kc ks (nI C) fvx fvy fb fp fn fo fdx fdy fs a1 a2 a3 a4 a5 a6 a7 a8 a9 a10 a11 a12 a13 a14 a15 a16 a17 (nI C) fvx fvy 0 fpn fnn fon fdxn fdyn fsn a1 a2 a3 a4 a5n a6n a7n a8n a9n a10n a11n a12n a13n a14n a15n a16n a17n := by
  obtain ⟨r, D, b1, b2, b3, b4, hD, hokn, hg, hCD, h⟩ := bs_wturn0 (fvx := fvx) (fvy := fvy) (fp := fpn) (fn := fnn) (fo := fon) (fdx := fdxn) (fdy := fdyn) (fs := fsn) (a1 := a1) (a2 := a2) (a3 := a3) (a4 := a4) (a5 := a5n) (a6 := a6n) (a7 := a7n) (a8 := a8n) (a9 := a9n) (a10 := a10n) (a11 := a11n) (a12 := a12n) (a13 := a13n) (a14 := a14n) (a15 := a15n) (a16 := a16n) (a17 := a17n) hC hok x3 x4
  unfold wL_law_150
  refine h _ (br_t rfl ?_)
  have go : ∃ n, wL_law_184 post L xs (nI C) r kc ks n 0 (nI C) fvx fvy fb fp fn fo fdx fdy fs a1 a2 a3 a4 a5 a6 a7 a8 a9 a10 a11 a12 a13 a14 a15 a16 a17 (nI D) fvx fvy 0 fpn fnn fon fdxn fdyn fsn b1 b2 b3 b4 a5n a6n a7n a8n a9n a10n a11n a12n a13n a14n a15n a16n a17n :=
    ⟨65, bs_l184 hC hD hCD hok hokn hg hx hy H 64 0 (by omega) fb fp fn fo fdx fdy fs a5 a6 a7 a8 a9 a10 a11 a12 a13 a14 a15 a16 a17 0 fpn fnn fon fdxn fdyn fsn a5n a6n a7n a8n a9n a10n a11n a12n a13n a14n a15n a16n a17n hr (Or.inl rfl)⟩
  refine br_c (fun _ => go) (fun z => br_t ?_ go)
  rw [bs_lt0, bs_z0] at z
  rcases hCD with q | q
  · omega
  · exact q.1
theorem bs_l119 {post : Int32 → Prop} {L : Nat} {xs : Nat → Int32} {x3 x4 : Int32} {kc ks C : Nat} (hC : C ≤ 10) (hok : bs_ok (bs_gv a1 a2 a3 a4) C) (hx : bs_b 14 fvx.toInt) (hy : bs_b 14 fvy.toInt) (H : post 1) :
    ∀ k i : Nat, i + k = C → ∀ (fbz : Int32) (fpz : Int32) (fnz : Int32) (foz : Int32) (fdxz : Int32) (fdyz : Int32) (fsz : Int32) (a5z : Nat → Int32) (a6z : Nat → Int64) (a7z : Nat → Int64) (a8z : Nat → Int64) (a9z : Nat → Int64) (a10z : Nat → Int32) (a11z : Nat → Int32) (a12z : Nat → Int32) (a13z : Nat → Int32) (a14z : Nat → Int32) (a15z : Nat → Int32) (a16z : Nat → Int32) (a17z : Nat → Int32), bs_rdy (bs_gv a1 a2 a3 a4) C fbz fpz fnz (bs_tv a5z a6z a7z a8z a9z a10z a11z) (bs_sv a12z a13z a14z) →
      wL_law_119 post L xs x3 x4 (nI C) kc ks (k + 1) (nI (bs_rt (bs_gv a1 a2 a3 a4) C fvx.toInt fvy.toInt (-4) + bs_S (fun i => bs_rt (bs_gv a1 a2 a3 a4) C fvx.toInt fvy.toInt (i : Int)) i)) (nI i) (nI C) fvx fvy fbz fpz fnz foz fdxz fdyz fsz a1 a2 a3 a4 a5z a6z a7z a8z a9z a10z a11z a12z a13z a14z a15z a16z a17z (nI C) fvx fvy 0 fpn fnn fon fdxn fdyn fsn a1 a2 a3 a4 a5n a6n a7n a8n a9n a10n a11n a12n a13n a14n a15n a16n a17n := by
  intro k
  induction k with
  | zero =>
    intro i e fbz fpz fnz foz fdxz fdyz fsz a5z a6z a7z a8z a9z a10z a11z a12z a13z a14z a15z a16z a17z hr
    have ei : i = C := by omega
    rw [ei, bs_all]
    have go := bs_l150 (L := L) (xs := xs) (x3 := x3) (x4 := x4) (kc := kc) (ks := ks) (post := post) (fpn := fpn) (fnn := fnn) (fon := fon) (fdxn := fdxn) (fdyn := fdyn) (fsn := fsn) (a5n := a5n) (a6n := a6n) (a7n := a7n) (a8n := a8n) (a9n := a9n) (a10n := a10n) (a11n := a11n) (a12n := a12n) (a13n := a13n) (a14n := a14n) (a15n := a15n) (a16n := a16n) (a17n := a17n) (fo := foz) (fdx := fdxz) (fdy := fdyz) (fs := fsz) (a15 := a15z) (a16 := a16z) (a17 := a17z) hC hok hx hy H hr
    exact pk_le 10 C (fun _ => go) (fun _ => pk_le C C (fun _ => go) (fun z => absurd z (by omega)))
  | succ k ih =>
    intro i e fbz fpz fnz foz fdxz fdyz fsz a5z a6z a7z a8z a9z a10z a11z a12z a13z a14z a15z a16z a17z hr
    exact pk_le 10 i (fun z => absurd z (by omega)) (fun _ => pk_le C i (fun z => absurd z (by omega)) (fun _ => bs_wshare hC (by omega) hok hr hx hy (fun fbz fpz fnz foz fdxz fdyz fsz a5z a6z a7z a8z a9z a10z a11z a12z a13z a14z a15z a16z a17z h1 => nm_r (nI_add _ _) (nm_r (nI_1 i) (by
      have nx := ih (i + 1) (by omega) fbz fpz fnz foz fdxz fdyz fsz a5z a6z a7z a8z a9z a10z a11z a12z a13z a14z a15z a16z a17z h1
      have es : bs_S (fun i => bs_rt (bs_gv a1 a2 a3 a4) C fvx.toInt fvy.toInt (i : Int)) (i + 1) = bs_S (fun i => bs_rt (bs_gv a1 a2 a3 a4) C fvx.toInt fvy.toInt (i : Int)) i + bs_rt (bs_gv a1 a2 a3 a4) C fvx.toInt fvy.toInt (i : Int) := rfl
      rw [es, ← Nat.add_assoc] at nx
      exact nx)))))
theorem bs_l47 {post : Int32 → Prop} {L : Nat} {xs : Nat → Int32} {x3 x4 : Int32} {kc ks : Nat} (hL : L ≤ 260) (H : post 1) :
    ∀ (k i : Nat), L ≤ i + k → i ≤ 300 → ∀ (C : Nat) (fvx fvy : Int32) (a1 a2 a3 a4 : Nat → Int32), C ≤ 10 → bs_ok (bs_gv a1 a2 a3 a4) C → bs_b 14 fvx.toInt → bs_b 14 fvy.toInt →
      wL_law_47 post L xs x3 x4 kc ks (k + 1) (nI i) (nI C) fvx fvy 0 fp fn fo fdx fdy fs a1 a2 a3 a4 a5 a6 a7 a8 a9 a10 a11 a12 a13 a14 a15 a16 a17 (nI C) fvx fvy 0 fp fn fo fdx fdy fs a1 a2 a3 a4 a5 a6 a7 a8 a9 a10 a11 a12 a13 a14 a15 a16 a17 := by
  intro k
  induction k with
  | zero =>
    intro i e hi C fvx fvy a1 a2 a3 a4 hC hok hx hy
    refine pk_le L (i + 2) (fun _ => ?_) (fun z => absurd z (by omega)) rfl (by rw [← nI_add]; rfl)
    refine bs_wopen hC hok (Or.inl rfl) hx hy (fun fbz fpz fnz foz fdxz fdyz fsz a5z a6z a7z a8z a9z a10z a11z a12z a13z a14z a15z a16z a17z hr => ⟨C + 1, ?_⟩)
    exact bs_l119 hC hok hx hy H C 0 (by omega) fbz fpz fnz foz fdxz fdyz fsz a5z a6z a7z a8z a9z a10z a11z a12z a13z a14z a15z a16z a17z hr
  | succ k ih =>
    intro i e hi C fvx fvy a1 a2 a3 a4 hC hok hx hy
    have e1 : nI i + 1 = nI (i + 1) := nI_1 i
    have e2 : nI i + 2 = nI (i + 2) := by
      rw [← nI_add]
      rfl
    have e3 : nI i + 3 = nI (i + 3) := by
      rw [← nI_add]
      rfl
    refine pk_le L (i + 2) (fun _ => ?_) (fun z => ?_) rfl e2
    · refine bs_wopen hC hok (Or.inl rfl) hx hy (fun fbz fpz fnz foz fdxz fdyz fsz a5z a6z a7z a8z a9z a10z a11z a12z a13z a14z a15z a16z a17z hr => ⟨C + 1, ?_⟩)
      exact bs_l119 hC hok hx hy H C 0 (by omega) fbz fpz fnz foz fdxz fdyz fsz a5z a6z a7z a8z a9z a10z a11z a12z a13z a14z a15z a16z a17z hr
    · have v0 : vp_in (nI i) L := vp_in_nI (by omega) (by omega)
      have v1 : vp_in (nI i + 1) L := by
        rw [e1]
        exact vp_in_nI (by omega) (by omega)
      have v2 : vp_in (nI i + 2) L := by
        rw [e2]
        exact vp_in_nI (by omega) (by omega)
      obtain ⟨r, vx, vy, D, b1, b2, b3, b4, hD, hokD, hvx, hvy, h⟩ := bs_wturn (fvx := fvx) (fvy := fvy) (fp := fp) (fn := fn) (fo := fo) (fdx := fdx) (fdy := fdy) (fs := fs) (a1 := a1) (a2 := a2) (a3 := a3) (a4 := a4) (a5 := a5) (a6 := a6) (a7 := a7) (a8 := a8) (a9 := a9) (a10 := a10) (a11 := a11) (a12 := a12) (a13 := a13) (a14 := a14) (a15 := a15) (a16 := a16) (a17 := a17) hC hok hx hy (xs (nI i).toNatClampNeg) (xs (nI i + 1).toNatClampNeg) (xs (nI i + 2).toNatClampNeg)
      exact ⟨v0, v1, v2, h _ ⟨v0, v1, v2, h _ (nm_r e3 (ih (i + 3) (by omega) (by omega) D vx vy b1 b2 b3 b4 hD hokD hvx hvy))⟩⟩
end
theorem bs_ok0 (g : Nat → Nat → Int) : bs_ok g 0 := ⟨fun w k hw => absurd hw (by omega), fun w hw => absurd hw (by omega), fun a b _ hb => absurd hb (by omega)⟩
theorem i_vc (xs : Nat → Int32) (L : Nat) (hL : L ≤ 260) : wpL_law (fun r => r = 1) L xs := by
  have b1 : bs_b 14 (1 : Int32).toInt := by
    rw [bs_z1]
    unfold bs_b
    omega
  have run : ∀ (z0 z1 : Int32) (kc ks : Nat), ∃ n, wL_law_47 (fun r => r = 1) L xs z0 z1 kc ks n 2 0 1 1 0 0 0 0 0 0 0 (fun _ => 0) (fun _ => 0) (fun _ => 0) (fun _ => 0) (fun _ => 0) (fun _ => 0) (fun _ => 0) (fun _ => 0) (fun _ => 0) (fun _ => 0) (fun _ => 0) (fun _ => 0) (fun _ => 0) (fun _ => 0) (fun _ => 0) (fun _ => 0) (fun _ => 0) 0 1 1 0 0 0 0 0 0 0 (fun _ => 0) (fun _ => 0) (fun _ => 0) (fun _ => 0) (fun _ => 0) (fun _ => 0) (fun _ => 0) (fun _ => 0) (fun _ => 0) (fun _ => 0) (fun _ => 0) (fun _ => 0) (fun _ => 0) (fun _ => 0) (fun _ => 0) (fun _ => 0) (fun _ => 0) :=
    fun z0 z1 kc ks => ⟨L + 1, bs_l47 (post := fun r => r = 1) hL rfl L 2 (by omega) (by omega) 0 1 1 (fun _ => 0) (fun _ => 0) (fun _ => 0) (fun _ => 0) (by omega) (bs_ok0 _) b1 b1⟩
  have l28 : ∀ (z0 : Int32) (kc ks : Nat), wL_law_28 (fun r => r = 1) L xs z0 kc ks 0 1 1 0 0 0 0 0 0 0 (fun _ => 0) (fun _ => 0) (fun _ => 0) (fun _ => 0) (fun _ => 0) (fun _ => 0) (fun _ => 0) (fun _ => 0) (fun _ => 0) (fun _ => 0) (fun _ => 0) (fun _ => 0) (fun _ => 0) (fun _ => 0) (fun _ => 0) (fun _ => 0) (fun _ => 0) 0 1 1 0 0 0 0 0 0 0 (fun _ => 0) (fun _ => 0) (fun _ => 0) (fun _ => 0) (fun _ => 0) (fun _ => 0) (fun _ => 0) (fun _ => 0) (fun _ => 0) (fun _ => 0) (fun _ => 0) (fun _ => 0) (fun _ => 0) (fun _ => 0) (fun _ => 0) (fun _ => 0) (fun _ => 0) := fun z0 kc ks => by
    unfold wL_law_28
    exact pk_le L 1 (fun _ => run z0 0 kc ks) (fun z => ⟨pk_in 1 L (by omega), nm_e (run z0 _ kc ks)⟩)
  refine ⟨17, 1736, by omega, by omega, ?_⟩
  unfold wpX_init
  refine ⟨by omega, by omega, by omega, by omega, by omega, by omega, by omega, by omega, by omega, by omega, by omega, by omega, by omega, by omega, by omega, by omega, by omega, by omega, by omega, by omega, by omega, by omega, by omega, by omega, by omega, by omega, by omega, by omega, by omega, by omega, by omega, by omega, by omega, by omega, ?_⟩
  refine ⟨by omega, by omega, 17, 1736, by omega, by omega, ?_⟩
  refine ⟨by omega, by omega, by omega, by omega, by omega, by omega, by omega, by omega, by omega, by omega, by omega, by omega, by omega, by omega, by omega, by omega, by omega, by omega, by omega, by omega, by omega, by omega, by omega, by omega, by omega, by omega, by omega, by omega, by omega, by omega, by omega, by omega, by omega, by omega, ?_⟩
  exact pk_le L 0 (fun _ => l28 0 _ _) (fun z => ⟨pk_in 0 L (by omega), l28 _ _ _⟩)
end
