/-! PURE: chances, by 4 times the gain, 15 more, and the position -/
def cA (N : Int → Int) (i w : Int) : Int → Int := uZ N i (N i + w)
abbrev cAb (lo hi i : Int) : Prop := i / 4 - 15 = lo ∨ i / 4 - 15 = hi
def cRow (N : Int → Int) (g : Int) : Int := N (4 * (g + 15)) + N (4 * (g + 15) + 1) + N (4 * (g + 15) + 2) + N (4 * (g + 15) + 3)
def cStep (lo hi n : Int) (dr : Int → Int → Int) (D N : Int → Int) (i : Int) : Int → Int :=
  if cAb lo hi i ∨ D i = 0 then N else cA (cA (cA N (4 * (i / 4 - 1) + (i % 4 + -1 + n) % n) (D i * dr (i % 4) (-1))) (4 * (i / 4) + i % 4) (D i * dr (i % 4) 0)) (4 * (i / 4 + 1) + (i % 4 + 1 + n) % n) (D i * dr (i % 4) 1)
def cF (lo hi n : Int) (dr : Int → Int → Int) (D : Int → Int) : Nat → Int → Int
  | 0 => fun j => if cAb lo hi j then 10 * D j else 0
  | i + 1 => cStep lo hi n dr D (cF lo hi n dr D i) (i : Int)
def cT (lo hi n : Int) (dr : Int → Int → Int) (D : Int → Int) : Int → Int := cF lo hi n dr D 124
def sumF (f : Int → Int) : Nat → Int
  | 0 => 0
  | i + 1 => sumF f i + f (i : Int)
theorem sumF_uZ (f : Int → Int) (i w : Int) : ∀ m : Nat, sumF (uZ f i w) m = sumF f m + (if 0 ≤ i ∧ i < m then w - f i else 0)
  | 0 => by
    rw [if_neg (by omega)]
    rfl
  | m + 1 => by
    unfold sumF
    rw [sumF_uZ f i w m]
    by_cases h : (m : Int) = i
    · subst h
      rw [uZ_s, if_neg (by omega), if_pos (by omega)]
      omega
    · rw [uZ_n _ _ h]
      split <;> split <;> omega
theorem sumF_A {N : Int → Int} {i w : Int} {m : Nat} (h0 : 0 ≤ i) (h1 : i < m) : sumF (cA N i w) m = sumF N m + w := by
  unfold cA
  rw [sumF_uZ, if_pos ⟨h0, h1⟩]
  omega
theorem sumF_c {f g : Int → Int} : ∀ {m : Nat}, (∀ i : Int, 0 ≤ i → i < m → f i = g i) → sumF f m = sumF g m
  | 0, _ => rfl
  | m + 1, h => by
    unfold sumF
    rw [sumF_c (m := m) (fun i h0 h1 => h i h0 (by omega)), h m (by omega) (by omega)]
theorem sumF_mul (a : Int) (f : Int → Int) : ∀ m : Nat, sumF (fun i => a * f i) m = a * sumF f m
  | 0 => (Int.mul_zero a).symm
  | m + 1 => by
    unfold sumF
    rw [sumF_mul a f m, Int.mul_add]
theorem sumF_add (f g : Int → Int) : ∀ m : Nat, sumF (fun i => f i + g i) m = sumF f m + sumF g m
  | 0 => rfl
  | m + 1 => by
    unfold sumF
    rw [sumF_add f g m]
    omega
theorem sumF_0 {f : Int → Int} {m : Nat} (h : ∀ i : Int, 0 ≤ i → i < m → f i = 0) : sumF f m = 0 := by
  rw [sumF_c (g := fun _ => 0) h]
  have := sumF_mul 0 (fun _ => 0) m
  simp at this
  exact this
theorem sumF_nn {f : Int → Int} (h : ∀ i, 0 ≤ f i) : ∀ m : Nat, 0 ≤ sumF f m
  | 0 => Int.le_refl _
  | m + 1 => by
    have h1 := sumF_nn h m
    have h2 := h (m : Int)
    unfold sumF
    omega
theorem sumF_le {f : Int → Int} (h : ∀ i, 0 ≤ f i) {i : Int} : ∀ {m : Nat}, 0 ≤ i → i < m → f i ≤ sumF f m
  | 0, h0, h1 => by omega
  | m + 1, h0, h1 => by
    have h3 := sumF_nn h m
    have h4 := h (m : Int)
    unfold sumF
    by_cases e : i = m
    · subst e; omega
    · have := sumF_le h (m := m) h0 (by omega)
      omega
/-- chances after so many ticks -/
def cOk (n : Int) (t : Nat) (D : Int → Int) : Prop := (∀ i, D i ≠ 0 → 15 - (t : Int) ≤ i / 4 ∧ i / 4 ≤ 15 + (t : Int) ∧ i % 4 < n) ∧ (∀ i, 0 ≤ D i) ∧ sumF D 124 = 10 ^ t
def cDr (n : Int) (dr : Int → Int → Int) : Prop := ∀ p, 0 ≤ p → p < n → 0 ≤ dr p (-1) ∧ 0 ≤ dr p 0 ∧ 0 ≤ dr p 1 ∧ dr p (-1) + dr p 0 + dr p 1 = 10
theorem cA_0 (N : Int → Int) (i : Int) : cA N i 0 = N := by
  funext j
  unfold cA uZ
  split
  · rename_i h
    rw [h]
    omega
  · rfl
theorem cA_sup {P : Int → Prop} {N : Int → Int} {i w : Int} (h : ∀ j, N j ≠ 0 → P j) (hi : w ≠ 0 → P i) : ∀ j, cA N i w j ≠ 0 → P j := by
  intro j hj
  unfold cA uZ at hj
  split at hj
  · rename_i e
    subst e
    by_cases hw : w = 0
    · exact h _ (by omega)
    · exact hi hw
  · exact h j hj
theorem cA_nn {N : Int → Int} {i w : Int} (h : ∀ j, 0 ≤ N j) (hw : 0 ≤ w) : ∀ j, 0 ≤ cA N i w j := by
  intro j
  unfold cA uZ
  split
  · have := h i; omega
  · exact h j
theorem mvd_R {n p m : Int} (hn : 2 ≤ n ∧ n ≤ 4) : 0 ≤ (p + m + n) % n ∧ (p + m + n) % n < n := ⟨Int.emod_nonneg _ (by omega), Int.emod_lt_of_pos _ (by omega)⟩
theorem cF_ok {lo hi n : Int} {dr : Int → Int → Int} {D : Int → Int} {t : Nat} (hn : 2 ≤ n ∧ n ≤ 4) (hd : cDr n dr) (h : cOk n t D) (ht : t < 15) : ∀ i : Nat, i ≤ 124 →
    (∀ j, cF lo hi n dr D i j ≠ 0 → 15 - ((t + 1 : Nat) : Int) ≤ j / 4 ∧ j / 4 ≤ 15 + ((t + 1 : Nat) : Int) ∧ j % 4 < n) ∧ (∀ j, 0 ≤ cF lo hi n dr D i j) ∧ sumF (cF lo hi n dr D i) 124 = 10 * (sumF (fun j => if cAb lo hi j then D j else 0) 124 + sumF (fun j => if cAb lo hi j then 0 else D j) i)
  | 0, _ => by
    obtain ⟨h1, h2, h3⟩ := h
    refine ⟨fun j hj => ?_, fun j => ?_, ?_⟩
    · unfold cF at hj
      split at hj
      · have := h1 j (by omega); omega
      · omega
    · have := h2 j
      unfold cF
      split <;> omega
    · show sumF (fun j => if cAb lo hi j then 10 * D j else 0) 124 = 10 * (sumF (fun j => if cAb lo hi j then D j else 0) 124 + 0)
      rw [Int.add_zero, ← sumF_mul]
      exact sumF_c (fun i _ _ => by split <;> omega)
  | i + 1, hi' => by
    obtain ⟨g1, g2, g3⟩ := cF_ok (lo := lo) (hi := hi) hn hd h ht i (by omega)
    obtain ⟨h1, h2, h3⟩ := h
    show (∀ j, cStep lo hi n dr D (cF lo hi n dr D i) (i : Int) j ≠ 0 → _) ∧ (∀ j, 0 ≤ cStep lo hi n dr D (cF lo hi n dr D i) (i : Int) j) ∧ sumF (cStep lo hi n dr D (cF lo hi n dr D i) (i : Int)) 124 = 10 * (_ + (sumF (fun j => if cAb lo hi j then 0 else D j) i + if cAb lo hi (i : Int) then 0 else D i))
    unfold cStep
    by_cases hz : cAb lo hi (i : Int) ∨ D i = 0
    · rw [if_pos hz]
      refine ⟨g1, g2, ?_⟩
      rw [g3]
      split
      · omega
      · rename_i hh
        have := hz.resolve_left hh
        omega
    · rw [if_neg hz]
      have ha : ¬ cAb lo hi (i : Int) := fun a => hz (Or.inl a)
      have hz2 : D i ≠ 0 := fun a => hz (Or.inr a)
      rw [if_neg ha]
      have hs := h1 _ hz2
      obtain ⟨d1, d2, d3, d4⟩ := hd ((i : Int) % 4) (by omega) hs.2.2
      have m1 := mvd_R (p := (i : Int) % 4) (m := -1) hn
      have m2 := mvd_R (p := (i : Int) % 4) (m := 1) hn
      have hp := h2 (i : Int)
      have w1 := Int.mul_nonneg hp d1
      have w2 := Int.mul_nonneg hp d2
      have w3 := Int.mul_nonneg hp d3
      refine ⟨cA_sup (cA_sup (cA_sup g1 (fun _ => by omega)) (fun _ => by omega)) (fun _ => by omega), cA_nn (cA_nn (cA_nn g2 w1) w2) w3, ?_⟩
      rw [sumF_A (by omega) (by omega), sumF_A (by omega) (by omega), sumF_A (by omega) (by omega), g3]
      have e : D i * dr ((i : Int) % 4) (-1) + D i * dr ((i : Int) % 4) 0 + D i * dr ((i : Int) % 4) 1 = 10 * D i := by rw [← Int.mul_add, ← Int.mul_add, d4, Int.mul_comm]
      omega
theorem cOk_T {lo hi n : Int} {dr : Int → Int → Int} {D : Int → Int} {t : Nat} (hn : 2 ≤ n ∧ n ≤ 4) (hd : cDr n dr) (h : cOk n t D) (ht : t < 15) : cOk n (t + 1) (cT lo hi n dr D) := by
  obtain ⟨g1, g2, g3⟩ := cF_ok (lo := lo) (hi := hi) hn hd h ht 124 (Nat.le_refl _)
  refine ⟨g1, g2, ?_⟩
  show sumF (cF lo hi n dr D 124) 124 = _
  rw [g3, ← sumF_add, sumF_c (g := D) (fun i _ _ => by split <;> omega), h.2.2, Int.pow_succ]
  omega
theorem cOk_R {n : Int} {D : Int → Int} {t : Nat} (h : cOk n t D) (ht : t ≤ 15) (i : Int) : 0 ≤ D i ∧ D i ≤ 1000000000000000 := by
  refine ⟨h.2.1 i, ?_⟩
  by_cases hz : D i = 0
  · omega
  · have hs := h.1 i hz
    have h1 := sumF_le h.2.1 (i := i) (m := 124) (by omega) (by omega)
    rw [h.2.2] at h1
    have h2 : (10 : Int) ^ t ≤ 10 ^ 15 := by exact_mod_cast Nat.pow_le_pow_right (by omega) ht
    have h3 : (10 : Int) ^ 15 = 1000000000000000 := by decide
    omega
def cZ (po : Int) : Int → Int := uZ (fun _ => 0) (60 + po) 1
theorem cOk_0 {n po : Int} (hn : 2 ≤ n ∧ n ≤ 4) (hp : 0 ≤ po ∧ po < n) : cOk n 0 (cZ po) := by
  refine ⟨fun i hi => ?_, fun i => ?_, ?_⟩
  · unfold cZ uZ at hi
    split at hi
    · omega
    · exact absurd rfl hi
  · unfold cZ uZ
    split
    · omega
    · exact Int.le_refl 0
  · unfold cZ
    rw [sumF_uZ, if_pos (by omega), sumF_0 (fun _ _ _ => rfl)]
    rfl
/-- the chances after so many ticks of a program -/
def cGo (lo hi : Int) : tC → tQ → Nat → Int → Int
  | (n, gr, pw, pr, B, F), (po, ix, sd), 0 => cZ po
  | (n, gr, pw, pr, B, F), (po, ix, sd), k + 1 => cT lo hi n (sDraw gr pw B F (sLev pr ((ix + k) % sLen pr))) (cGo lo hi (n, gr, pw, pr, B, F) (po, ix, sd) k)
theorem cDr_s {n gr pw lv : Int} {B F : Int → Int} (h : wT B F) (hl : 0 ≤ lv ∧ lv ≤ 2) (hn : n ≤ 4) : cDr n (sDraw gr pw B F lv) := by
  intro p h0 h1
  have := sDraw_R (gr := gr) (pw := pw) (p := p) h hl (by omega)
  unfold sDraw
  simp
  omega
theorem cGo_ok (lo hi : Int) {c : tC} {q : tQ} (hc : wC c) (hq : wQ c q) : ∀ k : Nat, k ≤ 15 → cOk c.1 k (cGo lo hi c q k)
  | 0, _ => by
    obtain ⟨n, gr, pw, pr, B, F⟩ := c
    obtain ⟨p, i, d⟩ := q
    exact cOk_0 hc.1 ⟨hq.1, hq.2.1⟩
  | k + 1, h => by
    have ih := cGo_ok lo hi hc hq k (by omega)
    obtain ⟨n, gr, pw, pr, B, F⟩ := c
    obtain ⟨p, i, d⟩ := q
    obtain ⟨hn, hg, hw, hp, hT⟩ := hc
    have hl := sLen_prog hp
    have hr := sLev_R hp (i := (i + k) % sLen pr) (Int.emod_nonneg _ (by omega)) (Int.emod_lt_of_pos _ (by omega))
    exact cOk_T hn (cDr_s hT hr hn.2) ih (by omega)
/-! the reference's arrays -/
def cTw (lo hi : Int) (N nx : Int → Int) (L W : Int) : Prop := (∀ j, 0 ≤ j → j < 124 → nx j = if cAb lo hi j then 0 else N j) ∧ L = cRow N lo ∧ W = cRow N hi
theorem cRow_A {N : Int → Int} {row q w g : Int} (hq : 0 ≤ q ∧ q < 4) : cRow (cA N (4 * row + q) w) g = cRow N g + (if row - 15 = g then w else 0) := by
  unfold cRow cA uZ
  by_cases h : row - 15 = g
  · rw [if_pos h]
    have e : row = g + 15 := by omega
    subst e
    rcases (show q = 0 ∨ q = 1 ∨ q = 2 ∨ q = 3 by omega) with rfl | rfl | rfl | rfl
    · rw [if_pos (by omega), if_neg (by omega), if_neg (by omega), if_neg (by omega), Int.add_zero]; omega
    · rw [if_neg (by omega), if_pos (by omega), if_neg (by omega), if_neg (by omega)]; omega
    · rw [if_neg (by omega), if_neg (by omega), if_pos (by omega), if_neg (by omega)]; omega
    · rw [if_neg (by omega), if_neg (by omega), if_neg (by omega), if_pos (by omega)]; omega
  · rw [if_neg h, if_neg (by omega), if_neg (by omega), if_neg (by omega), if_neg (by omega), Int.add_zero]
theorem cTw_lo {lo hi : Int} {N nx : Int → Int} {L W row q w : Int} (h : cTw lo hi N nx L W) (hlh : lo < hi) (hq : 0 ≤ q ∧ q < 4) (hr : row - 15 = lo) : cTw lo hi (cA N (4 * row + q) w) nx (L + w) W := by
  obtain ⟨h1, h2, h3⟩ := h
  refine ⟨fun j h0 hj => ?_, ?_, ?_⟩
  · rw [h1 j h0 hj]
    by_cases ha : cAb lo hi j
    · rw [if_pos ha, if_pos ha]
    · rw [if_neg ha, if_neg ha]
      exact (uZ_n _ _ (fun e => ha (Or.inl (by omega)))).symm
  · rw [cRow_A hq, if_pos hr, h2]
  · rw [cRow_A hq, if_neg (by omega), h3, Int.add_zero]
theorem cTw_hi {lo hi : Int} {N nx : Int → Int} {L W row q w : Int} (h : cTw lo hi N nx L W) (hlh : lo < hi) (hq : 0 ≤ q ∧ q < 4) (hr : row - 15 = hi) : cTw lo hi (cA N (4 * row + q) w) nx L (W + w) := by
  obtain ⟨h1, h2, h3⟩ := h
  refine ⟨fun j h0 hj => ?_, ?_, ?_⟩
  · rw [h1 j h0 hj]
    by_cases ha : cAb lo hi j
    · rw [if_pos ha, if_pos ha]
    · rw [if_neg ha, if_neg ha]
      exact (uZ_n _ _ (fun e => ha (Or.inr (by omega)))).symm
  · rw [cRow_A hq, if_neg (by omega), h2, Int.add_zero]
  · rw [cRow_A hq, if_pos hr, h3]
theorem cTw_in {lo hi : Int} {N nx : Int → Int} {L W row q w : Int} (h : cTw lo hi N nx L W) (hq : 0 ≤ q ∧ q < 4) (hr : row - 15 ≠ lo) (hr2 : row - 15 ≠ hi) (hi0 : 0 ≤ row) (hi1 : row < 31) : cTw lo hi (cA N (4 * row + q) w) (uZ nx (4 * row + q) (nx (4 * row + q) + w)) L W := by
  obtain ⟨h1, h2, h3⟩ := h
  refine ⟨fun j h0 hj => ?_, ?_, ?_⟩
  · by_cases e : j = 4 * row + q
    · subst e
      have hna : ¬ cAb lo hi (4 * row + q) := fun ha => by
        rcases ha with ha | ha <;> omega
      have := h1 (4 * row + q) (by omega) (by omega)
      rw [if_neg hna] at this
      rw [uZ_s, if_neg hna, this]
      unfold cA
      rw [uZ_s]
    · rw [uZ_n _ _ e, h1 j h0 hj]
      unfold cA
      rw [uZ_n _ _ e]
  · rw [cRow_A hq, if_neg hr, h2, Int.add_zero]
  · rw [cRow_A hq, if_neg hr2, h3, Int.add_zero]
theorem cTw_F0 {lo hi n : Int} {dr : Int → Int → Int} {D nw nx : Int → Int} {L W : Int} (h : cTw lo hi D nw L W) (hz : ∀ j, 0 ≤ j → j < 124 → nx j = 0) : cTw lo hi (cF lo hi n dr D 0) nx (L * 10) (W * 10) := by
  obtain ⟨h1, h2, h3⟩ := h
  have key : ∀ g, (g = lo ∨ g = hi) → cRow (cF lo hi n dr D 0) g = cRow D g * 10 := by
    intro g hg
    unfold cRow cF
    rw [if_pos (show cAb lo hi _ by unfold cAb; omega), if_pos (show cAb lo hi _ by unfold cAb; omega), if_pos (show cAb lo hi _ by unfold cAb; omega), if_pos (show cAb lo hi _ by unfold cAb; omega)]
    omega
  refine ⟨fun j h0 hj => ?_, by rw [key lo (Or.inl rfl), h2], by rw [key hi (Or.inr rfl), h3]⟩
  rw [hz j h0 hj]
  unfold cF
  split
  · rfl
  · rfl
theorem cTw_st {lo hi n : Int} {dr : Int → Int → Int} {D nw : Int → Int} {L W i : Int} (h : cTw lo hi D nw L W) (h0 : 0 ≤ i) (h1 : i < 124) (hz : nw i = 0) (N : Int → Int) : cStep lo hi n dr D N i = N := by
  have := h.1 i h0 h1
  refine if_pos ?_
  by_cases ha : cAb lo hi i
  · exact Or.inl ha
  · rw [if_neg ha] at this
    exact Or.inr (by omega)
theorem cTw_nz {lo hi : Int} {D nw : Int → Int} {L W i : Int} (h : cTw lo hi D nw L W) (h0 : 0 ≤ i) (h1 : i < 124) (hz : ¬ nw i = 0) : ¬ cAb lo hi i ∧ D i = nw i := by
  have := h.1 i h0 h1
  by_cases ha : cAb lo hi i
  · rw [if_pos ha] at this
    exact absurd this hz
  · rw [if_neg ha] at this
    exact ⟨ha, this.symm⟩
/-- between the ends -/
def cIn (lo hi : Int) (D : Int → Int) : Prop := ∀ i, D i ≠ 0 → lo ≤ i / 4 - 15 ∧ i / 4 - 15 ≤ hi
theorem cIn_T {lo hi n : Int} {dr : Int → Int → Int} {D : Int → Int} (hn : 2 ≤ n ∧ n ≤ 4) (h : cIn lo hi D) : cIn lo hi (cT lo hi n dr D) := by
  have key : ∀ i : Nat, cIn lo hi (cF lo hi n dr D i) := by
    intro i
    induction i with
    | zero =>
      intro j hj
      unfold cF at hj
      split at hj
      · exact h j (by omega)
      · exact absurd rfl hj
    | succ i ih =>
      show cIn lo hi (cStep lo hi n dr D (cF lo hi n dr D i) (i : Int))
      unfold cStep
      split
      · exact ih
      · rename_i hz
        have ha : ¬ cAb lo hi (i : Int) := fun a => hz (Or.inl a)
        have hz2 : D i ≠ 0 := fun a => hz (Or.inr a)
        have hs := h _ hz2
        have ha2 : (i : Int) / 4 - 15 ≠ lo ∧ (i : Int) / 4 - 15 ≠ hi := ⟨fun e => ha (Or.inl e), fun e => ha (Or.inr e)⟩
        have m1 := mvd_R (p := (i : Int) % 4) (m := -1) hn
        have m2 := mvd_R (p := (i : Int) % 4) (m := 1) hn
        exact cA_sup (cA_sup (cA_sup ih (fun _ => by omega)) (fun _ => by omega)) (fun _ => by omega)
  exact key 124
theorem jCmp_c (a b : Int) : (jCmp a b = 1 ∧ b < a) ∨ (jCmp a b = 0 ∧ a = b) ∨ (jCmp a b = -1 ∧ a < b) := by
  unfold jCmp
  split
  · exact Or.inl ⟨rfl, by assumption⟩
  · split
    · exact Or.inr (Or.inl ⟨rfl, by assumption⟩)
    · exact Or.inr (Or.inr ⟨rfl, by omega⟩)
theorem mul_R {a b : Int} (ha : 0 ≤ a ∧ a ≤ 1000000000000000) (hb : 0 ≤ b ∧ b ≤ 10) : 0 ≤ a * b ∧ a * b ≤ 10000000000000000 := by
  have h1 := Int.mul_nonneg ha.1 hb.1
  have h2 : a * b ≤ a * 10 := Int.mul_le_mul_of_nonneg_left hb.2 ha.1
  omega
theorem sDraw_b {gr pw lv p : Int} {B F : Int → Int} : sDraw gr pw B F lv p (-1) = sBack gr pw B lv p := if_pos (by decide)
theorem sDraw_f {gr pw lv p : Int} {B F : Int → Int} : sDraw gr pw B F lv p 1 = sForw gr F lv p := by
  unfold sDraw
  rw [if_neg (by decide), if_pos (by decide)]
theorem sDraw_s {gr pw lv p : Int} {B F : Int → Int} : sDraw gr pw B F lv p 0 = 10 - sBack gr pw B lv p - sForw gr F lv p := by
  unfold sDraw
  rw [if_neg (by decide), if_neg (by decide)]
theorem cF_s {lo hi n gr pw lv k r1 r2 b f : Int} {B F D nw : Int → Int} {j : Nat} (hk : k = j) (hna : ¬ cAb lo hi k) (hz : ¬ nw k = 0) (e : D k = nw k) (hr1 : r1 = (k % 4 + -1 + n) % n) (hr2 : r2 = (k % 4 + 1 + n) % n) (hb : b = sBack gr pw B lv (k % 4)) (hf : f = sForw gr F lv (k % 4)) :
    cF lo hi n (sDraw gr pw B F lv) D (j + 1) = cA (cA (cA (cF lo hi n (sDraw gr pw B F lv) D j) (4 * (k / 4 - 1) + r1) (nw k * b)) (4 * (k / 4) + k % 4) (nw k * (10 - b - f))) (4 * (k / 4 + 1) + r2) (nw k * f) := by
  show cStep lo hi n (sDraw gr pw B F lv) D (cF lo hi n (sDraw gr pw B F lv) D j) (j : Int) = _
  subst hk
  unfold cStep
  rw [if_neg (fun h => h.elim hna (fun h => hz (by omega))), sDraw_b, sDraw_f, sDraw_s, e, hr1, hr2, hb, hf]
theorem cTw_R {lo hi n : Int} {D nw : Int → Int} {L W : Int} {t : Nat} (h : cTw lo hi D nw L W) (hD : cOk n t D) (ht : t ≤ 15) {j : Int} (h0 : 0 ≤ j) (h1 : j < 124) : 0 ≤ nw j ∧ nw j ≤ 1000000000000000 := by
  have hr := cOk_R hD ht j
  rw [h.1 j h0 h1]
  split <;> omega
theorem cIn_Z {lo hi po : Int} (h : lo < 0 ∧ 0 < hi) (hp : 0 ≤ po ∧ po < 4) : cIn lo hi (cZ po) := by
  intro i hi
  unfold cZ uZ at hi
  split at hi
  · omega
  · exact absurd rfl hi
theorem cIn_go {lo hi : Int} {c : tC} {q : tQ} (hc : wC c) (hq : wQ c q) (h : lo < 0 ∧ 0 < hi) : ∀ k : Nat, cIn lo hi (cGo lo hi c q k)
  | 0 => by
    obtain ⟨n, gr, pw, pr, B, F⟩ := c
    obtain ⟨p, i, d⟩ := q
    exact cIn_Z h ⟨hq.1, by have := hq.2.1; have := hc.1.2; omega⟩
  | k + 1 => by
    have ih := cIn_go hc hq h k
    obtain ⟨n, gr, pw, pr, B, F⟩ := c
    obtain ⟨p, i, d⟩ := q
    exact cIn_T hc.1 ih
theorem cTw_Z {lo hi po : Int} {nw : Int → Int} (h : lo < 0 ∧ 0 < hi) (hp : 0 ≤ po ∧ po < 4) (hz : ∀ q, 0 ≤ q → q < 124 → nw q = 0) : cTw lo hi (cZ po) (uZ nw (60 + po) 1) 0 0 := by
  have key : ∀ g : Int, g ≠ 0 → 0 = cRow (cZ po) g := by
    intro g hg
    unfold cRow cZ
    rw [uZ_n _ _ (by omega), uZ_n _ _ (by omega), uZ_n _ _ (by omega), uZ_n _ _ (by omega)]
    rfl
  refine ⟨fun j h0 hj => ?_, key lo (by omega), key hi (by omega)⟩
  unfold cZ
  by_cases e : j = 60 + po
  · subst e
    rw [uZ_s, uZ_s, if_neg (fun hh => by rcases hh with hh | hh <;> omega)]
  · rw [uZ_n _ _ e, uZ_n _ _ e, hz j h0 hj]
    split <;> rfl
theorem sumF_4 (f : Int → Int) : ∀ m : Nat, sumF f (4 * m) = sumF (fun r => f (4 * r) + f (4 * r + 1) + f (4 * r + 2) + f (4 * r + 3)) m
  | 0 => rfl
  | m + 1 => by
    have e1 : sumF f (4 * (m + 1)) = sumF f (4 * m) + f ((4 * m : Nat) : Int) + f ((4 * m + 1 : Nat) : Int) + f ((4 * m + 2 : Nat) : Int) + f ((4 * m + 3 : Nat) : Int) := rfl
    have e2 : sumF (fun r => f (4 * r) + f (4 * r + 1) + f (4 * r + 2) + f (4 * r + 3)) (m + 1) = sumF (fun r => f (4 * r) + f (4 * r + 1) + f (4 * r + 2) + f (4 * r + 3)) m + (f (4 * (m : Int)) + f (4 * (m : Int) + 1) + f (4 * (m : Int) + 2) + f (4 * (m : Int) + 3)) := rfl
    rw [e1, e2, sumF_4 f m, show ((4 * m : Nat) : Int) = 4 * (m : Int) by omega, show ((4 * m + 1 : Nat) : Int) = 4 * (m : Int) + 1 by omega, show ((4 * m + 2 : Nat) : Int) = 4 * (m : Int) + 2 by omega, show ((4 * m + 3 : Nat) : Int) = 4 * (m : Int) + 3 by omega]
    omega
/-- ways with a gain from one number to another one, at a position, or at any -/
def cMany (D : Int → Int) (least most pos : Int) : Int := sumF (fun i => if (least ≤ i / 4 - 15 ∧ i / 4 - 15 ≤ most) ∧ (pos = -1 ∨ i % 4 = pos) then D i else 0) 124
theorem cMany_at {D : Int → Int} {p least most : Int} (hp : 0 ≤ p ∧ p ≤ 3) (h1 : least ≤ -15) (h2 : 15 ≤ most) : cMany D least most p = sumF (fun r => D (4 * r + p)) 31 := by
  unfold cMany
  rw [show (124 : Nat) = 4 * 31 from rfl, sumF_4]
  refine sumF_c (fun r h0 h3 => ?_)
  have key : ∀ q : Int, 0 ≤ q → q ≤ 3 → (if (least ≤ (4 * r + q) / 4 - 15 ∧ (4 * r + q) / 4 - 15 ≤ most) ∧ (p = -1 ∨ (4 * r + q) % 4 = p) then D (4 * r + q) else 0) = if q = p then D (4 * r + q) else 0 := by
    intro q a b
    by_cases e : q = p
    · rw [if_pos e, if_pos ⟨by omega, by omega⟩]
    · rw [if_neg e, if_neg (fun h => by omega)]
  have k0 := key 0 (by omega) (by omega)
  rw [Int.add_zero] at k0
  rw [k0, key 1 (by omega) (by omega), key 2 (by omega) (by omega), key 3 (by omega) (by omega)]
  rcases (show p = 0 ∨ p = 1 ∨ p = 2 ∨ p = 3 by omega) with rfl | rfl | rfl | rfl
  · rw [if_pos rfl, if_neg (by omega), if_neg (by omega), if_neg (by omega), Int.add_zero (4 * r)]; omega
  · rw [if_neg (by omega), if_pos rfl, if_neg (by omega), if_neg (by omega)]; omega
  · rw [if_neg (by omega), if_neg (by omega), if_pos rfl, if_neg (by omega)]; omega
  · rw [if_neg (by omega), if_neg (by omega), if_neg (by omega), if_pos rfl]; omega
theorem cMany_row {D : Int → Int} {least most : Int} : cMany D least most (-1) = sumF (fun r => if least ≤ r - 15 ∧ r - 15 ≤ most then sumF (fun q => D (4 * r + q)) 4 else 0) 31 := by
  unfold cMany
  rw [show (124 : Nat) = 4 * 31 from rfl, sumF_4]
  refine sumF_c (fun r h0 h3 => ?_)
  have e : sumF (fun q => D (4 * r + q)) 4 = D (4 * r) + D (4 * r + 1) + D (4 * r + 2) + D (4 * r + 3) := by
    show 0 + D (4 * r + 0) + D (4 * r + 1) + D (4 * r + 2) + D (4 * r + 3) = _
    rw [Int.add_zero (4 * r)]
    omega
  rw [e]
  by_cases hh : least ≤ r - 15 ∧ r - 15 ≤ most
  · rw [if_pos hh, if_pos ⟨by omega, Or.inl rfl⟩, if_pos ⟨by omega, Or.inl rfl⟩, if_pos ⟨by omega, Or.inl rfl⟩, if_pos ⟨by omega, Or.inl rfl⟩]
  · rw [if_neg hh, if_neg (by omega), if_neg (by omega), if_neg (by omega), if_neg (by omega)]
    rfl
