/-! PURE: fractions compared -/
def cmpQ (a b c d : Int) : Int := if a * d < c * b then -1 else if a * d = c * b then 0 else 1
theorem floor_neg {a b : Int} (hb : 0 < b) : (-a + b - 1) / b = -(a / b) := by
  have h1 := Int.emod_nonneg a (b := b) (by omega)
  have h2 := Int.emod_lt_of_pos a hb
  have h3 := Int.mul_ediv_add_emod a b
  have e : -a + b - 1 = (b - 1 - a % b) + b * -(a / b) := by rw [Int.mul_neg]; omega
  rw [e, Int.add_mul_ediv_left _ _ (by omega), Int.ediv_eq_zero_of_lt (by omega) (by omega)]
  omega
theorem cmp_lt {p q r s : Int} (hq : 0 < q) (hs : 0 < s) (h : p / q < r / s) : cmpQ p q r s = -1 := by
  have h1 := Int.emod_nonneg r (b := s) (by omega)
  have h2 := Int.emod_lt_of_pos p hq
  have h3 := Int.mul_ediv_add_emod p q
  have h4 := Int.mul_ediv_add_emod r s
  have k1 : p < q * (r / s) := by
    have : q * (p / q + 1) ≤ q * (r / s) := Int.mul_le_mul_of_nonneg_left (by omega) (by omega)
    rw [Int.mul_add] at this
    omega
  have k2 : p * s < q * (r / s) * s := Int.mul_lt_mul_of_pos_right k1 hs
  have k3 : s * (r / s) * q ≤ r * q := Int.mul_le_mul_of_nonneg_right (by omega) (by omega)
  have e : q * (r / s) * s = s * (r / s) * q := by grind
  unfold cmpQ
  rw [if_pos (by omega)]
theorem cmp_gt {p q r s : Int} (hq : 0 < q) (hs : 0 < s) (h : r / s < p / q) : cmpQ p q r s = 1 := by
  have h1 := cmp_lt hs hq h
  unfold cmpQ at h1 ⊢
  split at h1
  · rw [if_neg (by omega), if_neg (by omega)]
  · split at h1 <;> omega
theorem cmp_eq {p q r s : Int} (h : p / q = r / s) : p * s - r * q = (p - p / q * q) * s - (r - r / s * s) * q := by
  rw [h]
  grind
theorem rem_eq (p q : Int) : p - p / q * q = p % q := by
  have := Int.mul_ediv_add_emod p q
  rw [Int.mul_comm (p / q) q]
  omega
theorem cmp_z {p q r s : Int} (hq : 0 < q) (hs : 0 < s) (h : p / q = r / s) (hz : p - p / q * q = 0 ∨ r - r / s * s = 0) : cmpQ p q r s = if p - p / q * q = r - r / s * s then 0 else if p - p / q * q = 0 then -1 else 1 := by
  have e := cmp_eq h
  have a1 := Int.emod_nonneg p (b := q) (by omega)
  have a2 := Int.emod_nonneg r (b := s) (by omega)
  rw [← rem_eq] at a1 a2
  generalize p - p / q * q = x at *
  generalize r - r / s * s = y at *
  unfold cmpQ
  by_cases hx : x = 0
  · subst hx
    by_cases hy : y = 0
    · subst hy
      rw [if_pos rfl, if_neg (by omega), if_pos (by omega)]
    · have := Int.mul_pos (show 0 < y by omega) hq
      rw [if_pos (by omega), if_neg (by omega), if_pos rfl]
  · have hy : y = 0 := by omega
    subst hy
    have := Int.mul_pos (show 0 < x by omega) hs
    rw [if_neg hx, if_neg hx, if_neg (by omega), if_neg (by omega)]
theorem cmp_s {p q r s : Int} (hq : 0 < q) (hs : 0 < s) (h : p / q = r / s) (hx : ¬ p - p / q * q = 0) (hy : ¬ r - r / s * s = 0) : cmpQ p q r s = -cmpQ q (p - p / q * q) s (r - r / s * s) := by
  have e := cmp_eq h
  generalize p - p / q * q = x at *
  generalize r - r / s * s = y at *
  have c1 := Int.mul_comm q y
  have c2 := Int.mul_comm s x
  unfold cmpQ
  by_cases h1 : q * y < s * x
  · rw [if_neg (by omega), if_neg (by omega), if_pos h1]
    rfl
  · by_cases h2 : q * y = s * x
    · rw [if_neg (by omega), if_pos (by omega), if_neg h1, if_pos h2]
      rfl
    · rw [if_pos (by omega), if_neg h1, if_neg h2]
theorem rem_R {p q : Int} (hq : 0 < q) : 0 ≤ p - p / q * q ∧ p - p / q * q < q := by
  rw [rem_eq]
  exact ⟨Int.emod_nonneg _ (by omega), Int.emod_lt_of_pos _ hq⟩
theorem cmp_R (a b c d : Int) : cmpQ a b c d = -1 ∨ cmpQ a b c d = 0 ∨ cmpQ a b c d = 1 := by
  unfold cmpQ
  split
  · exact Or.inl rfl
  · split
    · exact Or.inr (Or.inl rfl)
    · exact Or.inr (Or.inr rfl)
theorem quo_R {p q : Int} (hp : -1000000000000000000 ≤ p ∧ p ≤ 1000000000000000000) (hq : 0 < q) : -1000000000000000000 ≤ p / q ∧ p / q ≤ 1000000000000000000 := by
  have h1 := Int.mul_ediv_add_emod p q
  have h2 := Int.emod_nonneg p (b := q) (by omega)
  have h3 := Int.emod_lt_of_pos p hq
  by_cases h : 0 ≤ p / q
  · have : 1 * (p / q) ≤ q * (p / q) := Int.mul_le_mul_of_nonneg_right (by omega) h
    omega
  · have e : q * (p / q + 1) = q * (p / q) + q := by rw [Int.mul_add, Int.mul_one]
    have : q * (p / q + 1) ≤ 1 * (p / q + 1) := Int.mul_le_mul_of_nonpos_right (by omega) (by omega)
    omega
theorem fr_R {a b m : Int} (ha : -m ≤ a ∧ a ≤ m) (hb : 0 < b ∧ b ≤ m) : -m ≤ (fr a b).1 ∧ (fr a b).1 ≤ m ∧ 0 < (fr a b).2 ∧ (fr a b).2 ≤ m := by
  have hg := gcI_pos (a := a) hb.1
  have h2 : gcI a b * (b.tdiv (gcI a b)) = b := Int.mul_tdiv_cancel' (Int.gcd_dvd_right _ _)
  have h1 : gcI a b * (a.tdiv (gcI a b)) = a := Int.mul_tdiv_cancel' (Int.gcd_dvd_left _ _)
  have hp := fr_pos (a := a) hb.1
  show -m ≤ a.tdiv (gcI a b) ∧ a.tdiv (gcI a b) ≤ m ∧ 0 < (fr a b).2 ∧ (fr a b).2 ≤ m
  have hp' : 0 < b.tdiv (gcI a b) := hp
  have k2 : 1 * (b.tdiv (gcI a b)) ≤ gcI a b * (b.tdiv (gcI a b)) := Int.mul_le_mul_of_nonneg_right (by omega) (by omega)
  refine ⟨?_, ?_, hp, by show b.tdiv (gcI a b) ≤ m; omega⟩
  · by_cases h : 0 ≤ a.tdiv (gcI a b)
    · omega
    · have : gcI a b * (a.tdiv (gcI a b)) ≤ 1 * (a.tdiv (gcI a b)) := Int.mul_le_mul_of_nonpos_right (by omega) (by omega)
      omega
  · by_cases h : 0 ≤ a.tdiv (gcI a b)
    · have : 1 * (a.tdiv (gcI a b)) ≤ gcI a b * (a.tdiv (gcI a b)) := Int.mul_le_mul_of_nonneg_right (by omega) h
      omega
    · omega
/-! the best program -/
def cP (c : tC) (p : Int) : tC := (c.1, c.2.1, c.2.2.1, p, c.2.2.2.2.1, c.2.2.2.2.2)
def cand (c : tC) (most p : Int) : Prop := sProg p = 1 ∧ sLen p ≤ most ∧ sUses c.2.1 p = 1 ∧ clC (cP c p) ≤ 1
abbrev tBest : Type := Int × Int × Int
def bstS (c : tC) (most p : Int) (st : tBest) : tBest := if (sProg p = 1 ∧ sLen p ≤ most ∧ sUses c.2.1 p = 1 ∧ clC (cP c p) ≤ 1) ∧ (st.1 = -1 ∨ 0 < cmpQ (avF (cP c p)).1 (avF (cP c p)).2 st.2.1 st.2.2) then (p, (avF (cP c p)).1, (avF (cP c p)).2) else st
/-- the best one of the programs 1 .. k -/
def bst (c : tC) (most : Int) : Nat → tBest
  | 0 => (-1, -1, -1)
  | k + 1 => bstS c most ((k : Int) + 1) (bst c most k)
def bstOk (st : tBest) : Prop := (st = (-1, -1, -1)) ∨ (1 ≤ st.1 ∧ st.1 ≤ 255 ∧ (-1000000000000000000 ≤ st.2.1 ∧ st.2.1 ≤ 1000000000000000000) ∧ 0 < st.2.2 ∧ st.2.2 ≤ 1000000000000000000)
theorem avF_R {c : tC} (hc : wC c) (h : clC c ≤ 1) : -160000000000000000 ≤ (avF c).1 ∧ (avF c).1 ≤ 160000000000000000 ∧ 0 < (avF c).2 ∧ (avF c).2 ≤ 160000000000000000 := by
  have e := vN_av hc h
  have hn : 2 ≤ c.1 ∧ c.1 ≤ 4 := by obtain ⟨n, gr, pw, pr, B, F⟩ := c; exact hc.1
  rw [← e]
  exact fr_R (m := 160000000000000000) (vN_sR hc h c.1.toNat (by omega)) (vN_den hc h)
theorem wC_P {c : tC} {p : Int} (hc : wC c) (hp : sProg p = 1) : wC (cP c p) := by
  obtain ⟨n, gr, pw, pr, B, F⟩ := c
  exact ⟨hc.1, hc.2.1, hc.2.2.1, hp, hc.2.2.2.2⟩
theorem bst_ok {c : tC} (hc : wC c) (most : Int) : ∀ k : Nat, bstOk (bst c most k)
  | 0 => Or.inl rfl
  | k + 1 => by
    have ih := bst_ok hc most k
    show bstOk (bstS c most ((k : Int) + 1) (bst c most k))
    unfold bstS
    split
    · rename_i h
      have hp := sProg_in h.1.1
      have hr := avF_R (wC_P hc h.1.1) h.1.2.2.2
      exact Or.inr ⟨by show 1 ≤ (k : Int) + 1; omega, by show (k : Int) + 1 ≤ 255; omega, ⟨by show -1000000000000000000 ≤ (avF (cP c ((k : Int) + 1))).1; omega, by show (avF (cP c ((k : Int) + 1))).1 ≤ 1000000000000000000; omega⟩, hr.2.2.1, by show (avF (cP c ((k : Int) + 1))).2 ≤ 1000000000000000000; omega⟩
    · exact ih
/-- a device that loses with each lever alone, and wins with some program -/
def parF (c : tC) : Nat → Int
  | 0 => if c.2.1 = 0 then 0 else 1
  | k + 1 => if sBit c.2.1 (k : Int) = 1 then (if parF c k = 1 ∧ clC (cP c ((k : Int) + 1)) ≤ 1 ∧ (avF (cP c ((k : Int) + 1))).1 < 0 then 1 else 0) else parF c k
def parN (c : tC) : Int := if parF c 3 = 1 ∧ (bst c 3 63).1 ≠ -1 ∧ 0 < (bst c 3 63).2.1 then 1 else 0
theorem parF_01 (c : tC) : ∀ k, parF c k = 0 ∨ parF c k = 1
  | 0 => by
    unfold parF
    split <;> omega
  | k + 1 => by
    have := parF_01 c k
    unfold parF
    (repeat' split) <;> omega
theorem sProg_13 : sProg 1 = 1 ∧ sProg 2 = 1 ∧ sProg 3 = 1 := by decide
theorem bst_R {c : tC} (hc : wC c) {most x y z : Int} {k : Nat} (h : (x, y, z) = bst c most k) : (x = -1 ∧ y = -1 ∧ z = -1) ∨ (1 ≤ x ∧ x ≤ 255 ∧ (-1000000000000000000 ≤ y ∧ y ≤ 1000000000000000000) ∧ 0 < z ∧ z ≤ 1000000000000000000) := by
  have hk := bst_ok hc most k
  rw [← h] at hk
  rcases hk with hk | hk
  · injection hk with h1 h2
    injection h2 with h2 h3
    exact Or.inl ⟨h1, h2, h3⟩
  · exact Or.inr hk
