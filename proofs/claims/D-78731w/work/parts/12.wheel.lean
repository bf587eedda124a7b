/-! PURE: the wheel's ticks; the cycle of its situations -/
abbrev tC : Type := Int × Int × Int × Int × (Int → Int) × (Int → Int)
abbrev tQ : Type := Int × Int × Int
def tSd (sd : Int) : Int := (141 * sd + 187) % 1000
def tMv : tC → tQ → Int
  | (n, gr, pw, pr, B, F), (p, i, d) => sMove gr pw B F (sLev pr i) p (tSd d / 100)
def tNx : tC → tQ → tQ
  | (n, gr, pw, pr, B, F), (p, i, d) => ((p + tMv (n, gr, pw, pr, B, F) (p, i, d) + n) % n, (i + 1) % sLen pr, tSd d)
def tIt (c : tC) : Nat → tQ → tQ
  | 0, q => q
  | k + 1, q => tNx c (tIt c k q)
def tSum (c : tC) : Nat → tQ → Int
  | 0, _ => 0
  | k + 1, q => tSum c k q + tMv c (tIt c k q)
/-- a situation in its bounds -/
def wQ : tC → tQ → Prop
  | (n, gr, pw, pr, B, F), (p, i, d) => 0 ≤ p ∧ p < n ∧ 0 ≤ i ∧ i < sLen pr ∧ 0 ≤ d ∧ d ≤ 999
def wC : tC → Prop
  | (n, gr, pw, pr, B, F) => (2 ≤ n ∧ n ≤ 4) ∧ (0 ≤ gr ∧ gr ≤ 7) ∧ (0 ≤ pw ∧ pw ≤ 15) ∧ sProg pr = 1 ∧ wT B F
theorem tIt_add (c : tC) (j : Nat) : ∀ (k : Nat) (q : tQ), tIt c (j + k) q = tIt c k (tIt c j q)
  | 0, q => rfl
  | k + 1, q => by
    show tNx c (tIt c (j + k) q) = tNx c (tIt c k (tIt c j q))
    rw [tIt_add c j k q]
theorem tSum_add (c : tC) (j : Nat) : ∀ (k : Nat) (q : tQ), tSum c (j + k) q = tSum c j q + tSum c k (tIt c j q)
  | 0, q => by
    show tSum c j q = tSum c j q + 0
    omega
  | k + 1, q => by
    show tSum c (j + k) q + tMv c (tIt c (j + k) q) = tSum c j q + (tSum c k (tIt c j q) + tMv c (tIt c k (tIt c j q)))
    rw [tSum_add c j k q, tIt_add c j k q]
    omega
theorem wQ_nx {c : tC} {q : tQ} (hc : wC c) (h : wQ c q) : wQ c (tNx c q) := by
  obtain ⟨n, gr, pw, pr, B, F⟩ := c
  obtain ⟨p, i, d⟩ := q
  obtain ⟨h1, h2, h3, h4, h5, h6⟩ := h
  obtain ⟨hn, -, -, hp, -⟩ := hc
  have hl := sLen_prog hp
  refine ⟨Int.emod_nonneg _ (by omega), Int.emod_lt_of_pos _ (by omega), Int.emod_nonneg _ (by omega), Int.emod_lt_of_pos _ (by omega), ?_, ?_⟩
  · show 0 ≤ tSd d
    unfold tSd
    omega
  · show tSd d ≤ 999
    unfold tSd
    omega
theorem wQ_it {c : tC} {q : tQ} (hc : wC c) (h : wQ c q) : ∀ k, wQ c (tIt c k q)
  | 0 => h
  | k + 1 => wQ_nx hc (wQ_it hc h k)
theorem tMv_R {c : tC} {q : tQ} : -1 ≤ tMv c q ∧ tMv c q ≤ 1 := by
  obtain ⟨n, gr, pw, pr, B, F⟩ := c
  obtain ⟨p, i, d⟩ := q
  show -1 ≤ sMove gr pw B F (sLev pr i) p (tSd d / 100) ∧ sMove gr pw B F (sLev pr i) p (tSd d / 100) ≤ 1
  unfold sMove
  (repeat' split) <;> omega
theorem tSum_R (c : tC) (q : tQ) : ∀ k : Nat, -(k : Int) ≤ tSum c k q ∧ tSum c k q ≤ k
  | 0 => ⟨Int.le_refl _, Int.le_refl _⟩
  | k + 1 => by
    have h1 := tSum_R c q k
    have h2 := tMv_R (c := c) (q := tIt c k q)
    show -((k + 1 : Nat) : Int) ≤ tSum c k q + tMv c (tIt c k q) ∧ tSum c k q + tMv c (tIt c k q) ≤ ((k + 1 : Nat) : Int)
    omega
/-! first repeated situation -/
def isCyc (c : tC) (q : tQ) (mu la : Nat) : Prop := 0 < la ∧ tIt c (mu + la) q = tIt c mu q ∧ ∀ i j : Nat, i < j → j < mu + la → tIt c i q ≠ tIt c j q
theorem cyc_per {c : tC} {q : tQ} {mu la : Nat} (h : isCyc c q mu la) {k : Nat} (hk : mu ≤ k) : tIt c (k + la) q = tIt c k q := by
  obtain ⟨d, rfl⟩ := Nat.le.dest hk
  have e : mu + d + la = (mu + la) + d := by omega
  rw [e, tIt_add c (mu + la) d, tIt_add c mu d, h.2.1]
theorem cyc_mod {c : tC} {q : tQ} {mu la : Nat} (h : isCyc c q mu la) : ∀ (b r : Nat), tIt c (mu + r + b * la) q = tIt c (mu + r) q
  | 0, r => by rw [Nat.zero_mul]; rfl
  | b + 1, r => by
    have e : mu + r + (b + 1) * la = (mu + r + b * la) + la := by rw [Nat.succ_mul]; omega
    rw [e, cyc_per h (by omega), cyc_mod h b r]
theorem cyc_ret {c : tC} {q : tQ} {mu la : Nat} (h : isCyc c q mu la) {i j : Nat} (hij : i < j) (he : tIt c i q = tIt c j q) : mu ≤ i ∧ (j - i) % la = 0 := by
  have hl := h.1
  have red : ∀ k : Nat, mu ≤ k → ∃ r, r < la ∧ tIt c k q = tIt c (mu + r) q ∧ (k - mu) % la = r := by
    intro k hk
    refine ⟨(k - mu) % la, Nat.mod_lt _ hl, ?_, rfl⟩
    have e : k = mu + (k - mu) % la + (k - mu) / la * la := by
      have := Nat.mod_add_div (k - mu) la
      have h2 := Nat.mul_comm la ((k - mu) / la)
      omega
    conv => lhs; rw [e]
    exact cyc_mod h _ _
  have hj : mu + la ≤ j := by
    apply Classical.byContradiction
    intro hn
    exact h.2.2 i j hij (by omega) he
  obtain ⟨r, hr, e1, m1⟩ := red j (by omega)
  by_cases hi : mu ≤ i
  · refine ⟨hi, ?_⟩
    obtain ⟨r2, hr2, e2, m2⟩ := red i hi
    have e3 : tIt c (mu + r2) q = tIt c (mu + r) q := e2.symm.trans (he.trans e1)
    have e4 : r2 = r := by
      rcases Nat.lt_trichotomy r2 r with hlt | heq | hlt
      · exact absurd e3 (h.2.2 _ _ (by omega) (by omega))
      · exact heq
      · exact absurd e3.symm (h.2.2 _ _ (by omega) (by omega))
    have e5 : (j - mu) % la = (i - mu) % la := by rw [m1, m2, e4]
    have e6 : j - i = (j - mu) - (i - mu) := by omega
    rw [e6]
    exact Nat.sub_mod_eq_zero_of_mod_eq e5
  · exact absurd (he.trans e1) (h.2.2 i (mu + r) (by omega) (by omega))
/-- where a walk from T comes back first, it is the cycle's length -/
theorem cyc_len {c : tC} {q : tQ} {mu la T s : Nat} (h : isCyc c q mu la) (hs : 0 < s) (he : tIt c (T + s) q = tIt c T q) (hmin : ∀ r, 0 < r → r < s → tIt c (T + r) q ≠ tIt c T q) : s = la := by
  obtain ⟨h1, h2⟩ := cyc_ret h (i := T) (j := T + s) (by omega) he.symm
  have h3 : s % la = 0 := by
    rw [show T + s - T = s by omega] at h2
    exact h2
  have h4 : la ≤ s := by
    apply Classical.byContradiction
    intro hn
    rw [Nat.mod_eq_of_lt (by omega)] at h3
    omega
  apply Classical.byContradiction
  intro hn
  exact hmin la h.1 (by omega) (cyc_per h h1)
theorem pigeon : ∀ (N : Nat) (f : Nat → Nat), (∀ i, i ≤ N → f i < N) → ∃ i j, i < j ∧ j ≤ N ∧ f i = f j
  | 0, f, h => absurd (h 0 (Nat.le_refl _)) (Nat.not_lt_zero _)
  | N + 1, f, h => by
    by_cases hr : ∃ i, i ≤ N ∧ f i = f (N + 1)
    · obtain ⟨i, h1, h2⟩ := hr
      exact ⟨i, N + 1, by omega, Nat.le_refl _, h2⟩
    · have hne : ∀ i, i ≤ N → f i ≠ f (N + 1) := fun i hi he => hr ⟨i, hi, he⟩
      obtain ⟨i, j, h1, h2, h3⟩ := pigeon N (fun i => if f i = N then f (N + 1) else f i) (fun i hi => by
        have a := h i (by omega)
        have b := h (N + 1) (Nat.le_refl _)
        have c := hne i hi
        show (if f i = N then f (N + 1) else f i) < N
        split <;> omega)
      refine ⟨i, j, h1, by omega, ?_⟩
      have a := hne i (by omega)
      have b := hne j (by omega)
      have h3 : (if f i = N then f (N + 1) else f i) = (if f j = N then f (N + 1) else f j) := h3
      split at h3 <;> split at h3 <;> omega
/-- a situation's number -/
def tCode (q : tQ) : Int := 4000 * q.1 + 1000 * q.2.1 + q.2.2
theorem tCode_R {c : tC} {q : tQ} (hc : wC c) (h : wQ c q) : 0 ≤ tCode q ∧ tCode q < 16000 := by
  obtain ⟨n, gr, pw, pr, B, F⟩ := c
  obtain ⟨p, i, d⟩ := q
  obtain ⟨h1, h2, h3, h4, h5, h6⟩ := h
  obtain ⟨hn, -, -, hp, -⟩ := hc
  have hl := sLen_prog hp
  show 0 ≤ 4000 * p + 1000 * i + d ∧ 4000 * p + 1000 * i + d < 16000
  omega
theorem tCode_inj {c : tC} {q r : tQ} (hc : wC c) (h : wQ c q) (g : wQ c r) (e : tCode q = tCode r) : q = r := by
  obtain ⟨n, gr, pw, pr, B, F⟩ := c
  obtain ⟨p, i, d⟩ := q
  obtain ⟨p', i', d'⟩ := r
  obtain ⟨h1, h2, h3, h4, h5, h6⟩ := h
  obtain ⟨g1, g2, g3, g4, g5, g6⟩ := g
  obtain ⟨hn, -, -, hp, -⟩ := hc
  have hl := sLen_prog hp
  have e : 4000 * p + 1000 * i + d = 4000 * p' + 1000 * i' + d' := e
  have e1 : p = p' := by omega
  have e2 : i = i' := by omega
  have e3 : d = d' := by omega
  rw [e1, e2, e3]
theorem least (P : Nat → Prop) : (∃ k, P k) → ∃ k, P k ∧ ∀ j, j < k → ¬ P j := by
  intro ⟨k, hk⟩
  induction k using Nat.strongRecOn with
  | _ k ih =>
    by_cases h : ∃ j, j < k ∧ P j
    · obtain ⟨j, h1, h2⟩ := h
      exact ih j h1 h2
    · exact ⟨k, hk, fun j hj hp => h ⟨j, hj, hp⟩⟩
theorem cyc_exists {c : tC} {q : tQ} (hc : wC c) (h : wQ c q) : ∃ mu la : Nat, isCyc c q mu la ∧ mu + la ≤ 16000 := by
  obtain ⟨i, j, h1, h2, h3⟩ := pigeon 16000 (fun k => (tCode (tIt c k q)).toNat) (fun k _ => by
    have := tCode_R hc (wQ_it hc h k)
    show (tCode (tIt c k q)).toNat < 16000
    omega)
  have he : tIt c i q = tIt c j q := by
    refine tCode_inj hc (wQ_it hc h i) (wQ_it hc h j) ?_
    have a := tCode_R hc (wQ_it hc h i)
    have b := tCode_R hc (wQ_it hc h j)
    have h3 : (tCode (tIt c i q)).toNat = (tCode (tIt c j q)).toNat := h3
    omega
  obtain ⟨nu, ⟨⟨mu, hmu, hem⟩, hle⟩, hmin⟩ := least (fun nu => (∃ mu, mu < nu ∧ tIt c mu q = tIt c nu q) ∧ nu ≤ 16000) ⟨j, ⟨i, h1, he⟩, h2⟩
  refine ⟨mu, nu - mu, ⟨by omega, ?_, fun a b hab hb heq => ?_⟩, by omega⟩
  · rw [show mu + (nu - mu) = nu by omega]
    exact hem.symm
  · exact hmin b (by omega) ⟨⟨a, hab, heq⟩, by omega⟩
/-! the reference's table: back at 2 k, forward at 2 k + 1 -/
def tB (tb : Int → Int) : Int → Int := fun k => tb (2 * k)
def tF (tb : Int → Int) : Int → Int := fun k => tb (2 * k + 1)
def bitF (s : Int) : Nat → Int
  | 0 => 0
  | k + 1 => bitF s k + jAnd (jShr s (k : Int)) 1
theorem bitF_fin : ∀ s : Fin 16, bitF ((s : Nat) : Int) 8 = sBits ((s : Nat) : Int) := by decide +kernel
theorem bitF_8 {s : Int} (hs : 0 ≤ s ∧ s < 16) : bitF s 8 = sBits s := by
  obtain ⟨a, rfl⟩ := fin_of (n := 16) hs.1 hs.2
  exact bitF_fin a
