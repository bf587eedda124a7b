/-! PURE: determinants and trees; fractions in lowest terms -/
def ent (M : Int → Int → Int) (S p q : Int) : Int := if p = q then S - M p p else -(M p q)
def mnA (w : Int) : Int := if w = 0 then 1 else 0
def mnB (w : Int) : Int := if w < 2 then 2 else 1
def mnC (w : Int) : Int := if w < 3 then 3 else 2
def mnr (n : Int) (M : Int → Int → Int) (S w : Int) : Int :=
  if n = 2 then ent M S (mnA w) (mnA w)
  else if n = 3 then ent M S (mnA w) (mnA w) * ent M S (mnB w) (mnB w) - ent M S (mnA w) (mnB w) * ent M S (mnB w) (mnA w)
  else ent M S (mnA w) (mnA w) * (ent M S (mnB w) (mnB w) * ent M S (mnC w) (mnC w) - ent M S (mnB w) (mnC w) * ent M S (mnC w) (mnB w))
    - ent M S (mnA w) (mnB w) * (ent M S (mnB w) (mnA w) * ent M S (mnC w) (mnC w) - ent M S (mnB w) (mnC w) * ent M S (mnC w) (mnA w))
    + ent M S (mnA w) (mnC w) * (ent M S (mnB w) (mnA w) * ent M S (mnC w) (mnB w) - ent M S (mnB w) (mnB w) * ent M S (mnC w) (mnA w))
def tr3 (M : Int → Int → Int) (r a b : Int) : Int := M a r * M b r + M a r * M b a + M a b * M b r
def tr4 (M : Int → Int → Int) (r a b c : Int) : Int :=
  M a r * M b r * M c r + M a r * M b r * M c a + M a r * M b r * M c b + M a r * M b a * M c r + M a r * M b a * M c a + M a r * M b a * M c b + M a r * M b c * M c r + M a r * M b c * M c a + M a b * M b r * M c r + M a b * M b r * M c a + M a b * M b r * M c b + M a b * M b c * M c r + M a c * M b r * M c r + M a c * M b r * M c b + M a c * M b a * M c r + M a c * M b c * M c r
/-- all trees to a root -/
def trN (n : Int) (M : Int → Int → Int) (r : Int) : Int := if n = 2 then M (mnA r) r else if n = 3 then tr3 M r (mnA r) (mnB r) else tr4 M r (mnA r) (mnB r) (mnC r)
theorem sumF_2 (f : Int → Int) : sumF f 2 = f 0 + f 1 := by
  show 0 + f 0 + f 1 = _
  omega
theorem sumF_3 (f : Int → Int) : sumF f 3 = f 0 + f 1 + f 2 := by
  show 0 + f 0 + f 1 + f 2 = _
  omega
theorem sumF_4' (f : Int → Int) : sumF f 4 = f 0 + f 1 + f 2 + f 3 := by
  show 0 + f 0 + f 1 + f 2 + f 3 = _
  omega
theorem mnr_tr {n S w : Int} {M : Int → Int → Int} (hn : 2 ≤ n ∧ n ≤ 4) (hw : 0 ≤ w ∧ w < n) (h : ∀ p, 0 ≤ p → p < n → sumF (M p) n.toNat = S) : mnr n M S w = trN n M w := by
  rcases (show n = 2 ∨ n = 3 ∨ n = 4 by omega) with rfl | rfl | rfl
  · have h0 := h 0 (by omega) (by omega)
    have h1 := h 1 (by omega) (by omega)
    rw [show (2 : Int).toNat = 2 from rfl, sumF_2] at h0 h1
    rcases (show w = 0 ∨ w = 1 by omega) with rfl | rfl <;> simp [mnr, trN, ent, mnA] <;> omega
  · have h0 := h 0 (by omega) (by omega)
    have h1 := h 1 (by omega) (by omega)
    have h2 := h 2 (by omega) (by omega)
    rw [show (3 : Int).toNat = 3 from rfl, sumF_3] at h0 h1 h2
    rcases (show w = 0 ∨ w = 1 ∨ w = 2 by omega) with rfl | rfl | rfl <;> simp [mnr, trN, tr3, ent, mnA, mnB] <;> grind
  · have h0 := h 0 (by omega) (by omega)
    have h1 := h 1 (by omega) (by omega)
    have h2 := h 2 (by omega) (by omega)
    have h3 := h 3 (by omega) (by omega)
    rw [show (4 : Int).toNat = 4 from rfl, sumF_4'] at h0 h1 h2 h3
    rcases (show w = 0 ∨ w = 1 ∨ w = 2 ∨ w = 3 by omega) with rfl | rfl | rfl | rfl <;> simp [mnr, trN, tr4, ent, mnA, mnB, mnC] <;> grind
theorem mnABC {n w : Int} (hn : 2 ≤ n ∧ n ≤ 4) (hw : 0 ≤ w ∧ w < n) : (0 ≤ mnA w ∧ mnA w < n) ∧ (3 ≤ n → 0 ≤ mnB w ∧ mnB w < n) ∧ (n = 4 → 0 ≤ mnC w ∧ mnC w < n) := by
  unfold mnA mnB mnC
  refine ⟨?_, fun _ => ?_, fun _ => ?_⟩ <;> split <;> omega
theorem mul_le3 {x y z S : Int} (hx : 0 ≤ x ∧ x ≤ S) (hy : 0 ≤ y ∧ y ≤ S) (hz : 0 ≤ z ∧ z ≤ S) : x * y * z ≤ S * S * S := by
  have a := Int.mul_le_mul hx.2 hy.2 hy.1 (Int.le_trans hx.1 hx.2)
  exact Int.mul_le_mul a hz.2 hz.1 (Int.mul_nonneg (Int.le_trans hx.1 hx.2) (Int.le_trans hx.1 hx.2))
theorem tr3_R {M : Int → Int → Int} {r a b S : Int} (h : ∀ p q, p = a ∨ p = b → 0 ≤ M p q) (ha : M a r + M a b ≤ S) (hb : M b r + M b a ≤ S) : 0 ≤ tr3 M r a b ∧ tr3 M r a b ≤ S * S := by
  have n1 := fun q => h a q (Or.inl rfl)
  have n2 := fun q => h b q (Or.inr rfl)
  have e : tr3 M r a b + M a b * M b a = (M a r + M a b) * (M b r + M b a) := by unfold tr3; grind
  have p1 := Int.mul_nonneg (n1 b) (n2 a)
  have p2 := Int.mul_nonneg (n1 r) (n2 r)
  have p3 := Int.mul_nonneg (n1 r) (n2 a)
  have p4 := Int.mul_nonneg (n1 b) (n2 r)
  have b1 := n1 r
  have b2 := n1 b
  have b3 := n2 r
  have b4 := n2 a
  have q : (M a r + M a b) * (M b r + M b a) ≤ S * S := Int.mul_le_mul ha hb (by omega) (by omega)
  constructor
  · unfold tr3; omega
  · omega
theorem tr4_R {M : Int → Int → Int} {r a b c S : Int} (h : ∀ p q, p = a ∨ p = b ∨ p = c → 0 ≤ M p q) (ha : M a r + M a b + M a c ≤ S) (hb : M b r + M b a + M b c ≤ S) (hc : M c r + M c a + M c b ≤ S) : 0 ≤ tr4 M r a b c ∧ tr4 M r a b c ≤ S * S * S := by
  have n1 := fun q => h a q (Or.inl rfl)
  have n2 := fun q => h b q (Or.inr (Or.inl rfl))
  have n3 := fun q => h c q (Or.inr (Or.inr rfl))
  have m := fun x y z => Int.mul_nonneg (Int.mul_nonneg (n1 x) (n2 y)) (n3 z)
  have e : tr4 M r a b c + (M a b * M b a * M c r + M a b * M b a * M c a + M a b * M b a * M c b + M a c * M b r * M c a + M a c * M b a * M c a + M a c * M b c * M c a + M a r * M b c * M c b + M a b * M b c * M c b + M a c * M b c * M c b + M a b * M b c * M c a + M a c * M b a * M c b) = (M a r + M a b + M a c) * (M b r + M b a + M b c) * (M c r + M c a + M c b) := by unfold tr4; grind
  have a1 := n1 r
  have a2 := n1 b
  have a3 := n1 c
  have b1 := n2 r
  have b2 := n2 a
  have b3 := n2 c
  have c1 := n3 r
  have c2 := n3 a
  have c3 := n3 b
  have q := mul_le3 (x := M a r + M a b + M a c) (y := M b r + M b a + M b c) (z := M c r + M c a + M c b) (S := S) (by omega) (by omega) (by omega)
  have z1 := m b a r
  have z2 := m b a a
  have z3 := m b a b
  have z4 := m c r a
  have z5 := m c a a
  have z6 := m c c a
  have z7 := m r c b
  have z8 := m b c b
  have z9 := m c c b
  have z10 := m b c a
  have z11 := m c a b
  constructor
  · have y1 := m r r r
    have y2 := m r r a
    have y3 := m r r b
    have y4 := m r a r
    have y5 := m r a a
    have y6 := m r a b
    have y7 := m r c r
    have y8 := m r c a
    have y9 := m b r r
    have y10 := m b r a
    have y11 := m b r b
    have y12 := m b c r
    have y13 := m c r r
    have y14 := m c r b
    have y15 := m c a r
    have y16 := m c c r
    unfold tr4
    omega
  · omega
theorem trN_R {n S w : Int} {M : Int → Int → Int} (hn : 2 ≤ n ∧ n ≤ 4) (hw : 0 ≤ w ∧ w < n) (hS : 1 ≤ S ∧ S ≤ 10000) (h0 : ∀ p, 0 ≤ p → p < n → ∀ q, 0 ≤ M p q) (h : ∀ p, 0 ≤ p → p < n → sumF (M p) n.toNat = S) : 0 ≤ trN n M w ∧ trN n M w ≤ 1000000000000 := by
  have s2 : S * S ≤ 10000 * 10000 := Int.mul_le_mul hS.2 hS.2 (by omega) (by omega)
  have s3 : S * S * S ≤ 10000 * 10000 * 10000 := mul_le3 ⟨by omega, hS.2⟩ ⟨by omega, hS.2⟩ ⟨by omega, hS.2⟩
  rcases (show n = 2 ∨ n = 3 ∨ n = 4 by omega) with rfl | rfl | rfl
  · have k : ∀ p q : Int, 0 ≤ p → p < 2 → 0 ≤ q → q < 2 → M p q ≤ S := by
      intro p q a b c d
      have e := sumF_le (f := M p) (h0 p a b) (i := q) (m := (2 : Int).toNat) c (by omega)
      rw [h p a b] at e
      exact e
    have hm := (mnABC hn hw).1
    have e := k (mnA w) w hm.1 hm.2 hw.1 hw.2
    have e2 := h0 (mnA w) hm.1 hm.2 w
    unfold trN
    rw [if_pos rfl]
    omega
  · have g0 := h 0 (by omega) (by omega)
    have g1 := h 1 (by omega) (by omega)
    have g2 := h 2 (by omega) (by omega)
    rw [show (3 : Int).toNat = 3 from rfl, sumF_3] at g0 g1 g2
    have z0 := h0 0 (by omega) (by omega)
    have z1 := h0 1 (by omega) (by omega)
    have z2 := h0 2 (by omega) (by omega)
    have a0 := z0 0
    have a1 := z0 1
    have a2 := z0 2
    have b0 := z1 0
    have b1 := z1 1
    have b2 := z1 2
    have c0 := z2 0
    have c1 := z2 1
    have c2 := z2 2
    rcases (show w = 0 ∨ w = 1 ∨ w = 2 by omega) with rfl | rfl | rfl
    · have := tr3_R (M := M) (r := 0) (a := 1) (b := 2) (S := S) (by rintro p q (rfl | rfl) <;> first | exact z1 q | exact z2 q) (by omega) (by omega)
      simp [trN, mnA, mnB]; omega
    · have := tr3_R (M := M) (r := 1) (a := 0) (b := 2) (S := S) (by rintro p q (rfl | rfl) <;> first | exact z0 q | exact z2 q) (by omega) (by omega)
      simp [trN, mnA, mnB]; omega
    · have := tr3_R (M := M) (r := 2) (a := 0) (b := 1) (S := S) (by rintro p q (rfl | rfl) <;> first | exact z0 q | exact z1 q) (by omega) (by omega)
      simp [trN, mnA, mnB]; omega
  · have g0 := h 0 (by omega) (by omega)
    have g1 := h 1 (by omega) (by omega)
    have g2 := h 2 (by omega) (by omega)
    have g3 := h 3 (by omega) (by omega)
    rw [show (4 : Int).toNat = 4 from rfl, sumF_4'] at g0 g1 g2 g3
    have z0 := h0 0 (by omega) (by omega)
    have z1 := h0 1 (by omega) (by omega)
    have z2 := h0 2 (by omega) (by omega)
    have z3 := h0 3 (by omega) (by omega)
    have a0 := z0 0
    have a1 := z0 1
    have a2 := z0 2
    have a3 := z0 3
    have b0 := z1 0
    have b1 := z1 1
    have b2 := z1 2
    have b3 := z1 3
    have c0 := z2 0
    have c1 := z2 1
    have c2 := z2 2
    have c3 := z2 3
    have d0 := z3 0
    have d1 := z3 1
    have d2 := z3 2
    have d3 := z3 3
    rcases (show w = 0 ∨ w = 1 ∨ w = 2 ∨ w = 3 by omega) with rfl | rfl | rfl | rfl
    · have := tr4_R (M := M) (r := 0) (a := 1) (b := 2) (c := 3) (S := S) (by rintro p q (rfl | rfl | rfl) <;> first | exact z1 q | exact z2 q | exact z3 q) (by omega) (by omega) (by omega)
      simp [trN, mnA, mnB, mnC]; omega
    · have := tr4_R (M := M) (r := 1) (a := 0) (b := 2) (c := 3) (S := S) (by rintro p q (rfl | rfl | rfl) <;> first | exact z0 q | exact z2 q | exact z3 q) (by omega) (by omega) (by omega)
      simp [trN, mnA, mnB, mnC]; omega
    · have := tr4_R (M := M) (r := 2) (a := 0) (b := 1) (c := 3) (S := S) (by rintro p q (rfl | rfl | rfl) <;> first | exact z0 q | exact z1 q | exact z3 q) (by omega) (by omega) (by omega)
      simp [trN, mnA, mnB, mnC]; omega
    · have := tr4_R (M := M) (r := 3) (a := 0) (b := 1) (c := 2) (S := S) (by rintro p q (rfl | rfl | rfl) <;> first | exact z0 q | exact z1 q | exact z2 q) (by omega) (by omega) (by omega)
      simp [trN, mnA, mnB, mnC]; omega
/-! fractions -/
def gcI (a b : Int) : Int := ((Int.gcd a b : Nat) : Int)
/-- above and below, in lowest terms -/
def fr (a b : Int) : Int × Int := (a.tdiv (gcI a b), b.tdiv (gcI a b))
theorem gcI_pos {a b : Int} (hb : 0 < b) : 0 < gcI a b := by
  unfold gcI
  have : Int.gcd a b ≠ 0 := fun h => by have := (Int.gcd_eq_zero_iff.mp h).2; omega
  omega
theorem gcI_le {a b : Int} (hb : 0 < b) : gcI a b ≤ b := by
  unfold gcI
  exact Int.le_of_dvd hb (Int.gcd_dvd_right a b)
theorem fr_mul {a b k : Int} (hk : 0 < k) : fr (k * a) (k * b) = fr a b := by
  have e : gcI (k * a) (k * b) = k * gcI a b := by
    unfold gcI
    rw [Int.gcd_mul_left]
    push_cast
    rw [show ((k.natAbs : Nat) : Int) = k by omega]
  unfold fr
  rw [e, Int.mul_tdiv_mul_of_pos _ _ hk, Int.mul_tdiv_mul_of_pos _ _ hk]
theorem gcd_step {x y : Nat} (hy : 0 < y) : Nat.gcd y (x % y) = Nat.gcd x y := by
  rw [Nat.gcd_comm x y, Nat.gcd_rec y x, Nat.gcd_comm]
theorem rwK_s {n gr pw pr : Int} {B F : Int → Int} {a lv : Int} {k : Nat} {h h' : Int → Int} (hn : 2 ≤ n ∧ n ≤ 4) (e : eqN 4 h (rwK (n, gr, pw, pr, B, F) a k)) (hl : lv = sLev pr k) (g : eqN 4 h' (rwT n (sDraw gr pw B F lv) h)) : eqN 4 h' (rwK (n, gr, pw, pr, B, F) a (k + 1)) := by
  intro q h0 h1
  rw [g q h0 h1, hl]
  unfold rwT
  rw [rwF_c (g := rwK (n, gr, pw, pr, B, F) a k) (fun q a b => e q a (by omega)) n.toNat (by omega)]
  rfl
theorem rwH_s {n gr pw pr : Int} {B F : Int → Int} {a lv : Int} {k : Nat} {h : Int → Int} (hn : 2 ≤ n ∧ n ≤ 4) (e : eqN 4 h (rwK (n, gr, pw, pr, B, F) a k)) (hl : lv = sLev pr k) : rwH (n, gr, pw, pr, B, F) a (k + 1) = 10 * rwH (n, gr, pw, pr, B, F) a k + rwG (sDraw gr pw B F lv) h n.toNat := by
  rw [hl, rwG_c (g := rwK (n, gr, pw, pr, B, F) a k) (fun q a b => e q a (by omega)) n.toNat (by omega)]
  rfl
