/-! PURE: rounds of a program -/
def eqN (m : Int) (f g : Int → Int) : Prop := ∀ q, 0 ≤ q → q < m → f q = g q
theorem eqN_A {m : Int} {f g : Int → Int} (h : eqN m f g) {i w : Int} (h0 : 0 ≤ i) (h1 : i < m) : eqN m (uZ f i (f i + w)) (cA g i w) := by
  intro q a b
  unfold cA uZ
  split
  · rw [h i h0 h1]
  · exact h q a b
def rwF (n : Int) (dr : Int → Int → Int) (h : Int → Int) : Nat → Int → Int
  | 0 => fun _ => 0
  | p + 1 => cA (cA (cA (rwF n dr h p) (((p : Int) + -1 + n) % n) (h (p : Int) * dr (p : Int) (-1))) (p : Int) (h (p : Int) * dr (p : Int) 0)) (((p : Int) + 1 + n) % n) (h (p : Int) * dr (p : Int) 1)
def rwG (dr : Int → Int → Int) (h : Int → Int) : Nat → Int
  | 0 => 0
  | p + 1 => rwG dr h p + h (p : Int) * (dr (p : Int) 1 - dr (p : Int) (-1))
def rwT (n : Int) (dr : Int → Int → Int) (h : Int → Int) : Int → Int := rwF n dr h n.toNat
theorem rwF_c {n : Int} {dr : Int → Int → Int} {h g : Int → Int} (e : ∀ q, 0 ≤ q → q < n → h q = g q) : ∀ p : Nat, (p : Int) ≤ n → rwF n dr h p = rwF n dr g p
  | 0, _ => rfl
  | p + 1, hp => by
    unfold rwF
    rw [rwF_c e p (by omega), e p (by omega) (by omega)]
theorem rwG_c {n : Int} {dr : Int → Int → Int} {h g : Int → Int} (e : ∀ q, 0 ≤ q → q < n → h q = g q) : ∀ p : Nat, (p : Int) ≤ n → rwG dr h p = rwG dr g p
  | 0, _ => rfl
  | p + 1, hp => by
    unfold rwG
    rw [rwG_c e p (by omega), e p (by omega) (by omega)]
def rwK (c : tC) (a : Int) : Nat → Int → Int
  | 0 => fun q => if q = a then 1 else 0
  | k + 1 => rwT c.1 (sDraw c.2.1 c.2.2.1 c.2.2.2.2.1 c.2.2.2.2.2 (sLev c.2.2.2.1 (k : Int))) (rwK c a k)
def rwH (c : tC) (a : Int) : Nat → Int
  | 0 => 0
  | k + 1 => 10 * rwH c a k + rwG (sDraw c.2.1 c.2.2.1 c.2.2.2.2.1 c.2.2.2.2.2 (sLev c.2.2.2.1 (k : Int))) (rwK c a k) c.1.toNat
def rLn (c : tC) : Nat := (sLen c.2.2.2.1).toNat
def rM (c : tC) (a b : Int) : Int := rwK c a (rLn c) b
def rGa (c : tC) (a : Int) : Int := rwH c a (rLn c)
def rSc (c : tC) : Int := 10 ^ rLn c
def rwOk (n : Int) (k : Nat) (h : Int → Int) : Prop := (∀ q, h q ≠ 0 → 0 ≤ q ∧ q < n) ∧ (∀ q, 0 ≤ h q) ∧ sumF h n.toNat = 10 ^ k
theorem rwF_ok {n : Int} {dr : Int → Int → Int} {h : Int → Int} {k : Nat} (hn : 2 ≤ n ∧ n ≤ 4) (hd : cDr n dr) (hh : rwOk n k h) : ∀ p : Nat, (p : Int) ≤ n → (∀ q, rwF n dr h p q ≠ 0 → 0 ≤ q ∧ q < n) ∧ (∀ q, 0 ≤ rwF n dr h p q) ∧ sumF (rwF n dr h p) n.toNat = 10 * sumF h p
  | 0, _ => ⟨fun q hq => absurd rfl hq, fun q => Int.le_refl 0, sumF_0 (fun _ _ _ => rfl)⟩
  | p + 1, hp => by
    obtain ⟨g1, g2, g3⟩ := rwF_ok hn hd hh p (by omega)
    obtain ⟨h1, h2, h3⟩ := hh
    have m1 := mvd_R (p := (p : Int)) (m := -1) hn
    have m2 := mvd_R (p := (p : Int)) (m := 1) hn
    obtain ⟨d1, d2, d3, d4⟩ := hd (p : Int) (by omega) (by omega)
    have w1 := Int.mul_nonneg (h2 p) d1
    have w2 := Int.mul_nonneg (h2 p) d2
    have w3 := Int.mul_nonneg (h2 p) d3
    unfold rwF
    refine ⟨cA_sup (cA_sup (cA_sup g1 (fun _ => m1)) (fun _ => by omega)) (fun _ => m2), cA_nn (cA_nn (cA_nn g2 w1) w2) w3, ?_⟩
    rw [sumF_A (by omega) (by omega), sumF_A (by omega) (by omega), sumF_A (by omega) (by omega), g3]
    have e : h p * dr p (-1) + h p * dr p 0 + h p * dr p 1 = 10 * h p := by rw [← Int.mul_add, ← Int.mul_add, d4, Int.mul_comm]
    show _ = 10 * (sumF h p + h p)
    omega
theorem rwT_ok {n : Int} {dr : Int → Int → Int} {h : Int → Int} {k : Nat} (hn : 2 ≤ n ∧ n ≤ 4) (hd : cDr n dr) (hh : rwOk n k h) : rwOk n (k + 1) (rwT n dr h) := by
  obtain ⟨g1, g2, g3⟩ := rwF_ok hn hd hh n.toNat (by omega)
  refine ⟨g1, g2, ?_⟩
  show sumF (rwF n dr h n.toNat) n.toNat = _
  rw [g3, hh.2.2, Int.pow_succ]
  omega
theorem rwOk_R {n : Int} {k : Nat} {h : Int → Int} (hh : rwOk n k h) (hk : k ≤ 4) (q : Int) : 0 ≤ h q ∧ h q ≤ 10000 := by
  refine ⟨hh.2.1 q, ?_⟩
  by_cases hz : h q = 0
  · omega
  · have hs := hh.1 q hz
    have h1 := sumF_le hh.2.1 (i := q) (m := n.toNat) (by omega) (by omega)
    rw [hh.2.2] at h1
    have h2 : (10 : Int) ^ k ≤ 10 ^ 4 := by exact_mod_cast Nat.pow_le_pow_right (by omega) hk
    have h3 : (10 : Int) ^ 4 = 10000 := by decide
    omega
theorem rwK_ok {c : tC} {a : Int} (hc : wC c) (ha : 0 ≤ a ∧ a < c.1) : ∀ k : Nat, k ≤ rLn c → rwOk c.1 k (rwK c a k)
  | 0, _ => by
    refine ⟨fun q hq => ?_, fun q => ?_, ?_⟩
    · unfold rwK at hq
      split at hq
      · omega
      · exact absurd rfl hq
    · unfold rwK
      split <;> omega
    · have e : rwK c a 0 = uZ (fun _ => 0) a 1 := rfl
      rw [e, sumF_uZ, if_pos (by omega), sumF_0 (fun _ _ _ => rfl)]
      rfl
  | k + 1, hk => by
    have ih := rwK_ok hc ha k (by omega)
    obtain ⟨n, gr, pw, pr, B, F⟩ := c
    obtain ⟨hn, hg, hw, hp, hT⟩ := hc
    have hk : k + 1 ≤ (sLen pr).toNat := hk
    have hr := sLev_R hp (i := k) (by omega) (by omega)
    exact rwT_ok hn (cDr_s hT hr hn.2) ih
theorem rLn_4 {c : tC} (hc : wC c) : 1 ≤ rLn c ∧ rLn c ≤ 4 := by
  obtain ⟨n, gr, pw, pr, B, F⟩ := c
  have := sLen_prog hc.2.2.2.1
  show 1 ≤ (sLen pr).toNat ∧ (sLen pr).toNat ≤ 4
  omega
theorem rSc_R {c : tC} (hc : wC c) : 10 ≤ rSc c ∧ rSc c ≤ 10000 := by
  have h := rLn_4 hc
  unfold rSc
  rcases (show rLn c = 1 ∨ rLn c = 2 ∨ rLn c = 3 ∨ rLn c = 4 by omega) with e | e | e | e <;> rw [e] <;> decide
theorem rM_R {c : tC} (hc : wC c) {a : Int} (ha : 0 ≤ a ∧ a < c.1) (b : Int) : 0 ≤ rM c a b ∧ rM c a b ≤ 10000 := rwOk_R (rwK_ok hc ha _ (Nat.le_refl _)) (rLn_4 hc).2 b
theorem rM_sum {c : tC} (hc : wC c) {a : Int} (ha : 0 ≤ a ∧ a < c.1) : sumF (rM c a) c.1.toNat = rSc c := (rwK_ok hc ha _ (Nat.le_refl _)).2.2
theorem rwG_R {n : Int} {dr : Int → Int → Int} {h : Int → Int} (hd : cDr n dr) (h2 : ∀ q, 0 ≤ h q) : ∀ p : Nat, (p : Int) ≤ n → -(10 * sumF h p) ≤ rwG dr h p ∧ rwG dr h p ≤ 10 * sumF h p
  | 0, _ => ⟨Int.le_refl _, Int.le_refl _⟩
  | p + 1, hp => by
    have ih := rwG_R hd h2 p (by omega)
    obtain ⟨d1, d2, d3, d4⟩ := hd (p : Int) (by omega) (by omega)
    have a1 : h p * (dr p 1 - dr p (-1)) ≤ h p * 10 := Int.mul_le_mul_of_nonneg_left (by omega) (h2 p)
    have a2 : h p * -10 ≤ h p * (dr p 1 - dr p (-1)) := Int.mul_le_mul_of_nonneg_left (by omega) (h2 p)
    unfold rwG sumF
    omega
theorem rwH_R {c : tC} {a : Int} (hc : wC c) (ha : 0 ≤ a ∧ a < c.1) : ∀ k : Nat, k ≤ rLn c → -(k * 10 ^ k) ≤ rwH c a k ∧ rwH c a k ≤ k * 10 ^ k
  | 0, _ => ⟨by show -((0 : Nat) * 10 ^ 0 : Int) ≤ 0; decide, by show (0 : Int) ≤ (0 : Nat) * 10 ^ 0; decide⟩
  | k + 1, hk => by
    have ih := rwH_R hc ha k (by omega)
    have ok := rwK_ok hc ha k (by omega)
    obtain ⟨n, gr, pw, pr, B, F⟩ := c
    obtain ⟨hn, hg, hw, hp, hT⟩ := hc
    have hk : k + 1 ≤ (sLen pr).toNat := hk
    have hr := sLev_R hp (i := k) (by omega) (by omega)
    have hG := rwG_R (n := n) (cDr_s (gr := gr) (pw := pw) hT hr hn.2) ok.2.1 n.toNat (by omega)
    have ok3 : sumF (rwK (n, gr, pw, pr, B, F) a k) n.toNat = 10 ^ k := ok.2.2
    rw [ok3] at hG
    have e : rwH (n, gr, pw, pr, B, F) a (k + 1) = 10 * rwH (n, gr, pw, pr, B, F) a k + rwG (sDraw gr pw B F (sLev pr (k : Int))) (rwK (n, gr, pw, pr, B, F) a k) n.toNat := rfl
    have e2 : ((k + 1 : Nat) : Int) * 10 ^ (k + 1) = 10 * (k * 10 ^ k) + 10 * 10 ^ k := by
      rw [Int.pow_succ]
      push_cast
      grind
    rw [e, e2]
    omega
theorem rGa_R {c : tC} {a : Int} (hc : wC c) (ha : 0 ≤ a ∧ a < c.1) : -40000 ≤ rGa c a ∧ rGa c a ≤ 40000 := by
  have h := rwH_R hc ha _ (Nat.le_refl _)
  have hl := rLn_4 hc
  unfold rGa
  rcases (show rLn c = 1 ∨ rLn c = 2 ∨ rLn c = 3 ∨ rLn c = 4 by omega) with e | e | e | e <;> rw [e] at h ⊢ <;> simp at h <;> omega
/-! who reaches whom -/
def rcS (n : Int) (M : Int → Int → Int) (k s : Int) : Int := if k / 4 % 4 < n ∧ k % 4 < n ∧ sBit s (k / 4 % 4) = 1 ∧ 0 < M (k / 4 % 4) (k % 4) then sWith s (k % 4) 1 else s
def rcF (n : Int) (M : Int → Int → Int) (b : Int) : Nat → Int
  | 0 => p2 b
  | k + 1 => rcS n M (k : Int) (rcF n M b k)
def rcH (n : Int) (M : Int → Int → Int) (b : Int) : Int := rcF n M b 64
theorem p2_R (b : Int) : 1 ≤ p2 b ∧ p2 b ≤ 8 := by
  unfold p2
  (repeat' split) <;> omega
theorem rcF_R {n : Int} {M : Int → Int → Int} {b : Int} : ∀ k : Nat, 0 ≤ rcF n M b k ∧ rcF n M b k < 16
  | 0 => by
    have := p2_R b
    show 0 ≤ p2 b ∧ p2 b < 16
    omega
  | k + 1 => by
    have ih := rcF_R (n := n) (M := M) (b := b) k
    show 0 ≤ rcS n M k (rcF n M b k) ∧ rcS n M k (rcF n M b k) < 16
    unfold rcS
    split
    · exact sWith_R ih (by omega)
    · exact ih
theorem p2_fin : ∀ b : Fin 4, jShl 1 ((b : Nat) : Int) = p2 ((b : Nat) : Int) := by decide +kernel
theorem p2_eq {b : Int} (h : 0 ≤ b ∧ b < 4) : jShl 1 b = p2 b := by
  obtain ⟨x, rfl⟩ := fin_of (n := 4) h.1 h.2
  exact p2_fin x
theorem jOr_0f : ∀ s : Fin 16, jOr ((s : Nat) : Int) 0 = ((s : Nat) : Int) := by decide +kernel
theorem jOr_0 {s : Int} (h : 0 ≤ s ∧ s < 16) : jOr s 0 = s := by
  obtain ⟨x, rfl⟩ := fin_of (n := 16) h.1 h.2
  exact jOr_0f x
theorem low_fin : ∀ s : Fin 16, ∀ b : Fin 4, jAnd ((s : Nat) : Int) (jShl 1 ((b : Nat) : Int) - 1) = ((s : Nat) : Int) % p2 ((b : Nat) : Int) := by decide +kernel
theorem low_eq {s b : Int} (h : 0 ≤ s ∧ s < 16) (hb : 0 ≤ b ∧ b < 4) : jAnd s (jShl 1 b - 1) = s % p2 b := by
  obtain ⟨x, rfl⟩ := fin_of (n := 16) h.1 h.2
  obtain ⟨y, rfl⟩ := fin_of (n := 4) hb.1 hb.2
  exact low_fin x y
/-- classes, each by its lowest position -/
def clB (R : Int → Int) (p : Int) : Nat → Int
  | 0 => 1
  | q + 1 => if clB R p q = 1 ∧ (sBit (R p) (q : Int) = 0 ∨ R (q : Int) = R p) then 1 else 0
def clF (n : Int) (R : Int → Int) : Nat → Int
  | 0 => 0
  | p + 1 => clF n R p + (if clB R (p : Int) n.toNat = 1 ∧ R (p : Int) % p2 (p : Int) = 0 then 1 else 0)
def clN (n : Int) (M : Int → Int → Int) : Int := clF n (rcH n M) n.toNat
theorem clF_R {n : Int} {R : Int → Int} : ∀ p : Nat, 0 ≤ clF n R p ∧ clF n R p ≤ p
  | 0 => ⟨Int.le_refl _, Int.le_refl _⟩
  | p + 1 => by
    have := clF_R (n := n) (R := R) p
    unfold clF
    split <;> omega
