/-! PURE: four positions, joined with the general law -/
theorem sW_fin : ∀ s : Fin 16, ∀ b0 b1 b2 b3 : Bool, ∀ p : Fin 4,
    (let f := fun (q : Int) (b : Bool) (s : Int) => if sBit s ((p : Nat) : Int) = 1 ∧ b = true then sWith s q 1 else s
     f 3 b3 (f 2 b2 (f 1 b1 (f 0 b0 ((s : Nat) : Int))))) = ((nG p (nB b0 1 + nB b1 2 + nB b2 4 + nB b3 8) s : Nat) : Int) := by decide +kernel
theorem nG_lt : ∀ s : Fin 16, ∀ r : Fin 16, ∀ p : Fin 4, nG p r s < 16 := by decide +kernel
def eB (M : Int → Int → Int) (p q : Int) : Bool := decide (0 < M p q)
def rowN (M : Int → Int → Int) (p : Int) : Nat := nB (eB M p 0) 1 + nB (eB M p 1) 2 + nB (eB M p 2) 4 + nB (eB M p 3) 8
theorem nB_le (b : Bool) (v : Nat) : nB b v ≤ v := by cases b <;> simp [nB]
theorem rowN_lt (M : Int → Int → Int) (p : Int) : rowN M p < 16 := by
  have h0 := nB_le (eB M p 0) 1
  have h1 := nB_le (eB M p 1) 2
  have h2 := nB_le (eB M p 2) 4
  have h3 := nB_le (eB M p 3) 8
  unfold rowN
  omega
theorem rcF_4 (M : Int → Int → Int) (b : Int) (r p : Nat) (hp : p < 4) (s : Nat) (hs : s < 16) (h : rcF 4 M b (16 * r + 4 * p) = (s : Int)) : rcF 4 M b (16 * r + 4 * (p + 1)) = ((nG p (rowN M p) s : Nat) : Int) ∧ nG p (rowN M p) s < 16 := by
  refine ⟨?_, nG_lt ⟨s, hs⟩ ⟨rowN M p, rowN_lt M p⟩ ⟨p, hp⟩⟩
  have e := sW_fin ⟨s, hs⟩ (eB M p 0) (eB M p 1) (eB M p 2) (eB M p 3) ⟨p, hp⟩
  dsimp only at e
  show rcS 4 M ((16 * r + 4 * p + 3 : Nat) : Int) (rcS 4 M ((16 * r + 4 * p + 2 : Nat) : Int) (rcS 4 M ((16 * r + 4 * p + 1 : Nat) : Int) (rcS 4 M ((16 * r + 4 * p : Nat) : Int) (rcF 4 M b (16 * r + 4 * p))))) = _
  have st : ∀ (k q : Nat) (x : Int), q < 4 → k = 16 * r + 4 * p + q → rcS 4 M (k : Int) x = if sBit x ((p : Nat) : Int) = 1 ∧ eB M p (q : Int) = true then sWith x (q : Int) 1 else x := by
    intro k q x hq hk
    have e1 : (k : Int) / 4 % 4 = (p : Int) := by omega
    have e2 : (k : Int) % 4 = (q : Int) := by omega
    unfold rcS eB
    rw [e1, e2]
    by_cases hc : sBit x (p : Int) = 1 ∧ 0 < M p q
    · rw [if_pos ⟨by omega, by omega, hc.1, hc.2⟩, if_pos ⟨hc.1, decide_eq_true hc.2⟩]
    · rw [if_neg (fun hh => hc ⟨hh.2.2.1, hh.2.2.2⟩), if_neg (fun hh => hc ⟨hh.1, of_decide_eq_true hh.2⟩)]
  rw [h, st (16 * r + 4 * p) 0 _ (by omega) rfl, st _ 1 _ (by omega) rfl, st _ 2 _ (by omega) rfl, st _ 3 _ (by omega) rfl]
  exact e
theorem rcF_16 (M : Int → Int → Int) (b : Int) (r : Nat) (s : Nat) (hs : s < 16) (h : rcF 4 M b (16 * r) = (s : Int)) : rcF 4 M b (16 * (r + 1)) = ((nR1 (rowN M 0) (rowN M 1) (rowN M 2) (rowN M 3) s : Nat) : Int) ∧ nR1 (rowN M 0) (rowN M 1) (rowN M 2) (rowN M 3) s < 16 := by
  obtain ⟨a1, a2⟩ := rcF_4 M b r 0 (by omega) s hs h
  obtain ⟨b1, b2⟩ := rcF_4 M b r 1 (by omega) _ a2 a1
  obtain ⟨c1, c2⟩ := rcF_4 M b r 2 (by omega) _ b2 b1
  obtain ⟨d1, d2⟩ := rcF_4 M b r 3 (by omega) _ c2 c1
  rw [show 16 * (r + 1) = 16 * r + 4 * (3 + 1) by omega]
  exact ⟨d1, d2⟩
def rN (M : Int → Int → Int) (s : Nat) : Nat := nR (rowN M 0) (rowN M 1) (rowN M 2) (rowN M 3) s
theorem rcH_N (M : Int → Int → Int) (b : Int) (s : Nat) (hs : s < 16) (h : p2 b = (s : Int)) : rcH 4 M b = ((rN M s : Nat) : Int) ∧ rN M s < 16 := by
  obtain ⟨a1, a2⟩ := rcF_16 M b 0 s hs h
  obtain ⟨b1, b2⟩ := rcF_16 M b 1 _ a2 a1
  obtain ⟨c1, c2⟩ := rcF_16 M b 2 _ b2 b1
  exact rcF_16 M b 3 _ c2 c1
theorem sB_fin : ∀ s : Fin 16, ∀ q : Fin 4, (sBit ((s : Nat) : Int) ((q : Nat) : Int) = 0) = ((!Nat.testBit s q) = true) := by
  intro s q
  exact propext (by revert s q; decide +kernel)
theorem clB_N (R : Int → Int) (A B C D X : Nat) (p : Int) (hA : R 0 = A) (hB : R 1 = B) (hC : R 2 = C) (hD : R 3 = D) (hX : R p = X) (hx : X < 16) : clB R p 4 = 1 ↔ nC A B C D X = true := by
  have s0 := sB_fin ⟨X, hx⟩ 0
  have s1 := sB_fin ⟨X, hx⟩ 1
  have s2 := sB_fin ⟨X, hx⟩ 2
  have s3 := sB_fin ⟨X, hx⟩ 3
  have t0 : sBit (X : Int) 0 = 0 ↔ (!Nat.testBit X 0) = true := iff_of_eq s0
  have t1 : sBit (X : Int) 1 = 0 ↔ (!Nat.testBit X 1) = true := iff_of_eq s1
  have t2 : sBit (X : Int) 2 = 0 ↔ (!Nat.testBit X 2) = true := iff_of_eq s2
  have t3 : sBit (X : Int) 3 = 0 ↔ (!Nat.testBit X 3) = true := iff_of_eq s3
  have u : ∀ Y : Nat, ((Y : Int) = (X : Int)) ↔ (Y == X) = true := by
    intro Y
    rw [beq_iff_eq]
    omega
  have key : ∀ (k : Nat) (Y : Nat), R (k : Int) = (Y : Int) → (clB R p (k + 1) = 1 ↔ clB R p k = 1 ∧ (sBit (X : Int) (k : Int) = 0 ∨ (Y : Int) = (X : Int))) := by
    intro k Y hY
    show (if clB R p k = 1 ∧ (sBit (R p) (k : Int) = 0 ∨ R (k : Int) = R p) then (1 : Int) else 0) = 1 ↔ _
    rw [hX, hY]
    constructor
    · intro h
      split at h
      · assumption
      · omega
    · intro h
      rw [if_pos h]
  have k0 := key 0 A hA
  have k1 := key 1 B hB
  have k2 := key 2 C hC
  have k3 := key 3 D hD
  rw [show (4 : Nat) = 3 + 1 from rfl, k3, k2, k1, k0]
  show (((((1 : Int) = 1 ∧ (sBit (X : Int) 0 = 0 ∨ _)) ∧ (sBit (X : Int) 1 = 0 ∨ _)) ∧ (sBit (X : Int) 2 = 0 ∨ _)) ∧ (sBit (X : Int) 3 = 0 ∨ _)) ↔ _
  unfold nC
  rw [t0, t1, t2, t3, u A, u B, u C, u D]
  simp only [Bool.and_eq_true, Bool.or_eq_true, true_and]
theorem nChk_of {M : Int → Int → Int} (h : clN 4 M ≤ 1) : nChk (rowN M 0) (rowN M 1) (rowN M 2) (rowN M 3) = true := by
  obtain ⟨a1, a2⟩ := rcH_N M 0 1 (by omega) rfl
  obtain ⟨b1, b2⟩ := rcH_N M 1 2 (by omega) rfl
  obtain ⟨c1, c2⟩ := rcH_N M 2 4 (by omega) rfl
  obtain ⟨d1, d2⟩ := rcH_N M 3 8 (by omega) rfl
  have k := fun p X hX hx => clB_N (rcH 4 M) (rN M 1) (rN M 2) (rN M 4) (rN M 8) X p a1 b1 c1 d1 hX hx
  have ka := k 0 _ a1 a2
  have kb := k 1 _ b1 b2
  have kc := k 2 _ c1 c2
  have kd := k 3 _ d1 d2
  have e : clN 4 M = 0 + (if clB (rcH 4 M) 0 4 = 1 ∧ rcH 4 M 0 % 1 = 0 then 1 else 0) + (if clB (rcH 4 M) 1 4 = 1 ∧ rcH 4 M 1 % 2 = 0 then 1 else 0) + (if clB (rcH 4 M) 2 4 = 1 ∧ rcH 4 M 2 % 4 = 0 then 1 else 0) + (if clB (rcH 4 M) 3 4 = 1 ∧ rcH 4 M 3 % 8 = 0 then 1 else 0) := rfl
  rw [e] at h
  simp only [ka, kb, kc, kd, a1, b1, c1, d1] at h
  show Nat.ble (nW (nC (rN M 1) (rN M 2) (rN M 4) (rN M 8) (rN M 1)) + nW (nC (rN M 1) (rN M 2) (rN M 4) (rN M 8) (rN M 2) && rN M 2 % 2 == 0) + nW (nC (rN M 1) (rN M 2) (rN M 4) (rN M 8) (rN M 4) && rN M 4 % 4 == 0) + nW (nC (rN M 1) (rN M 2) (rN M 4) (rN M 8) (rN M 8) && rN M 8 % 8 == 0)) 1 = true
  apply Nat.ble_eq.mpr
  have w : ∀ (x : Bool) (X m : Nat), ((nW (x && X % m == 0) : Nat) : Int) = if x = true ∧ (X : Int) % (m : Int) = 0 then 1 else 0 := by
    intro x X m
    cases x
    · rfl
    · simp only [Bool.true_and, true_and]
      by_cases hm : X % m = 0
      · rw [if_pos (by exact_mod_cast hm), show (X % m == 0) = true by rw [hm]; rfl]
        rfl
      · rw [if_neg (fun hh => hm (by exact_mod_cast hh)), show (X % m == 0) = false by exact beq_false_of_ne hm]
        rfl
  have w1 : ∀ x : Bool, ((nW x : Nat) : Int) = if x = true ∧ ((rN M 1 : Nat) : Int) % 1 = 0 then 1 else 0 := by
    intro x
    rw [Int.emod_one]
    cases x <;> rfl
  have z1 := w1 (nC (rN M 1) (rN M 2) (rN M 4) (rN M 8) (rN M 1))
  have z2 := w (nC (rN M 1) (rN M 2) (rN M 4) (rN M 8) (rN M 2)) (rN M 2) 2
  have z3 := w (nC (rN M 1) (rN M 2) (rN M 4) (rN M 8) (rN M 4)) (rN M 4) 4
  have z4 := w (nC (rN M 1) (rN M 2) (rN M 4) (rN M 8) (rN M 8)) (rN M 8) 8
  have c2 : ((2 : Nat) : Int) = 2 := rfl
  have c4 : ((4 : Nat) : Int) = 4 := rfl
  have c8 : ((8 : Nat) : Int) = 8 := rfl
  rw [c2] at z2
  rw [c4] at z3
  rw [c8] at z4
  omega
theorem eI_le {M : Int → Int → Int} {p q : Int} (h : 0 ≤ M p q) : 0 ≤ eI (eB M p q) ∧ eI (eB M p q) ≤ M p q := by
  unfold eI eB
  by_cases hh : 0 < M p q
  · rw [decide_eq_true hh]
    show 0 ≤ (1 : Int) ∧ (1 : Int) ≤ M p q
    omega
  · rw [decide_eq_false hh]
    exact ⟨Int.le_refl 0, h⟩
theorem eI_pos {M : Int → Int → Int} {p q : Int} : 0 < M p q ↔ 0 < eI (eB M p q) := by
  unfold eI eB
  by_cases hh : 0 < M p q
  · rw [decide_eq_true hh]
    exact ⟨fun _ => by show (0 : Int) < 1; omega, fun _ => hh⟩
  · rw [decide_eq_false hh]
    exact ⟨fun h => absurd h hh, fun h => by have h : (0 : Int) < 0 := h; omega⟩
theorem tr3_mono {M M' : Int → Int → Int} {r a b : Int} (h1 : 0 ≤ M' a r ∧ M' a r ≤ M a r) (h2 : 0 ≤ M' a b ∧ M' a b ≤ M a b) (h3 : 0 ≤ M' b r ∧ M' b r ≤ M b r) (h4 : 0 ≤ M' b a ∧ M' b a ≤ M b a) : tr3 M' r a b ≤ tr3 M r a b := by
  have k1 := Int.mul_le_mul h1.2 h3.2 h3.1 (by omega)
  have k2 := Int.mul_le_mul h1.2 h4.2 h4.1 (by omega)
  have k3 := Int.mul_le_mul h2.2 h3.2 h3.1 (by omega)
  unfold tr3
  omega
theorem nT_pos {M : Int → Int → Int} {r a b c : Int} (h : ∀ p q, p = a ∨ p = b ∨ p = c → q = r ∨ q = a ∨ q = b ∨ q = c → 0 ≤ M p q) (ht : nT (eB M a r) (eB M a b) (eB M a c) (eB M b r) (eB M b a) (eB M b c) (eB M c r) (eB M c a) (eB M c b) = true) : 0 < tr4 M r a b c := by
  have m := fun x y z (hx : x = r ∨ x = a ∨ x = b ∨ x = c) (hy : y = r ∨ y = a ∨ y = b ∨ y = c) (hz : z = r ∨ z = a ∨ z = b ∨ z = c) => Int.mul_nonneg (Int.mul_nonneg (h a x (by simp) hx) (h b y (by simp) hy)) (h c z (by simp) hz)
  have y1 := m r r r (by simp) (by simp) (by simp)
  have y2 := m r r a (by simp) (by simp) (by simp)
  have y3 := m r r b (by simp) (by simp) (by simp)
  have y4 := m r a r (by simp) (by simp) (by simp)
  have y5 := m r a a (by simp) (by simp) (by simp)
  have y6 := m r a b (by simp) (by simp) (by simp)
  have y7 := m r c r (by simp) (by simp) (by simp)
  have y8 := m r c a (by simp) (by simp) (by simp)
  have y9 := m b r r (by simp) (by simp) (by simp)
  have y10 := m b r a (by simp) (by simp) (by simp)
  have y11 := m b r b (by simp) (by simp) (by simp)
  have y12 := m b c r (by simp) (by simp) (by simp)
  have y13 := m c r r (by simp) (by simp) (by simp)
  have y14 := m c r b (by simp) (by simp) (by simp)
  have y15 := m c a r (by simp) (by simp) (by simp)
  have y16 := m c c r (by simp) (by simp) (by simp)
  unfold nT at ht
  simp only [Bool.or_eq_true, Bool.and_eq_true, eB, decide_eq_true_eq] at ht
  have k : ∀ x y z : Int, (0 < x ∧ 0 < y) ∧ 0 < z → 0 < x * y * z := fun x y z hh => Int.mul_pos (Int.mul_pos hh.1.1 hh.1.2) hh.2
  unfold tr4
  rcases ht with (((((((((((((((ht | ht) | ht) | ht) | ht) | ht) | ht) | ht) | ht) | ht) | ht) | ht) | ht) | ht) | ht) | ht) <;> have e := k _ _ _ ht <;> omega
theorem posT {n : Int} {M : Int → Int → Int} (hn : 2 ≤ n ∧ n ≤ 4) (h0 : ∀ p q, 0 ≤ p → p < n → 0 ≤ q → q < n → 0 ≤ M p q) (h : clN n M ≤ 1) : 0 < sumF (trN n M) n.toNat := by
  rcases (show n = 2 ∨ n = 3 ∨ n = 4 by omega) with rfl | rfl | rfl
  · have e : eqE 2 M (mk2 (eB M 0 1) (eB M 1 0)) := by
      intro p q a b c d hne
      rcases (show (p = 0 ∧ q = 1) ∨ (p = 1 ∧ q = 0) by omega) with ⟨rfl, rfl⟩ | ⟨rfl, rfl⟩ <;> exact eI_pos
    rw [clN_c e] at h
    have hp := pos2b _ _ h
    have a := (eI_le (h0 0 1 (by omega) (by omega) (by omega) (by omega))).2
    have b := (eI_le (h0 1 0 (by omega) (by omega) (by omega) (by omega))).2
    have hp : 0 < eI (eB M 1 0) + eI (eB M 0 1) := hp
    rw [show (2 : Int).toNat = 2 from rfl, sumF_2]
    show 0 < M 1 0 + M 0 1
    omega
  · have e : eqE 3 M (mk3 (eB M 0 1) (eB M 0 2) (eB M 1 0) (eB M 1 2) (eB M 2 0) (eB M 2 1)) := by
      intro p q a b c d hne
      rcases (show (p = 0 ∧ q = 1) ∨ (p = 0 ∧ q = 2) ∨ (p = 1 ∧ q = 0) ∨ (p = 1 ∧ q = 2) ∨ (p = 2 ∧ q = 0) ∨ (p = 2 ∧ q = 1) by omega) with ⟨rfl, rfl⟩ | ⟨rfl, rfl⟩ | ⟨rfl, rfl⟩ | ⟨rfl, rfl⟩ | ⟨rfl, rfl⟩ | ⟨rfl, rfl⟩ <;> exact eI_pos
    rw [clN_c e] at h
    have hp := pos3b _ _ _ _ _ _ h
    have a01 := eI_le (h0 0 1 (by omega) (by omega) (by omega) (by omega))
    have a02 := eI_le (h0 0 2 (by omega) (by omega) (by omega) (by omega))
    have a10 := eI_le (h0 1 0 (by omega) (by omega) (by omega) (by omega))
    have a12 := eI_le (h0 1 2 (by omega) (by omega) (by omega) (by omega))
    have a20 := eI_le (h0 2 0 (by omega) (by omega) (by omega) (by omega))
    have a21 := eI_le (h0 2 1 (by omega) (by omega) (by omega) (by omega))
    have t0 := tr3_mono (M := M) (M' := mk3 (eB M 0 1) (eB M 0 2) (eB M 1 0) (eB M 1 2) (eB M 2 0) (eB M 2 1)) (r := 0) (a := 1) (b := 2) a10 a12 a20 a21
    have t1 := tr3_mono (M := M) (M' := mk3 (eB M 0 1) (eB M 0 2) (eB M 1 0) (eB M 1 2) (eB M 2 0) (eB M 2 1)) (r := 1) (a := 0) (b := 2) a01 a02 a21 a20
    have t2 := tr3_mono (M := M) (M' := mk3 (eB M 0 1) (eB M 0 2) (eB M 1 0) (eB M 1 2) (eB M 2 0) (eB M 2 1)) (r := 2) (a := 0) (b := 1) a02 a01 a12 a10
    rw [show (3 : Int).toNat = 3 from rfl, sumF_3]
    exact Int.lt_of_lt_of_le hp (Int.add_le_add (Int.add_le_add t0 t1) t2)
  · have e : eqE 4 M (fun p q => if p = q then 0 else M p q) := by
      intro p q a b c d hne
      show 0 < M p q ↔ 0 < (if p = q then 0 else M p q)
      rw [if_neg hne]
    rw [clN_c e] at h
    have hc := nChk_of h
    have hb := pos4b (eB M 0 1) (eB M 0 2) (eB M 0 3) (eB M 1 0) (eB M 1 2) (eB M 1 3) (eB M 2 0) (eB M 2 1) (eB M 2 3) (eB M 3 0) (eB M 3 1) (eB M 3 2)
    have r0 : rowN (fun p q => if p = q then 0 else M p q) 0 = nB (eB M 0 1) 2 + nB (eB M 0 2) 4 + nB (eB M 0 3) 8 := by
      show 0 + nB (eB M 0 1) 2 + nB (eB M 0 2) 4 + nB (eB M 0 3) 8 = _
      omega
    have r1 : rowN (fun p q => if p = q then 0 else M p q) 1 = nB (eB M 1 0) 1 + nB (eB M 1 2) 4 + nB (eB M 1 3) 8 := by
      show nB (eB M 1 0) 1 + 0 + nB (eB M 1 2) 4 + nB (eB M 1 3) 8 = _
      omega
    have r2 : rowN (fun p q => if p = q then 0 else M p q) 2 = nB (eB M 2 0) 1 + nB (eB M 2 1) 2 + nB (eB M 2 3) 8 := by
      show nB (eB M 2 0) 1 + nB (eB M 2 1) 2 + 0 + nB (eB M 2 3) 8 = _
      omega
    have r3 : rowN (fun p q => if p = q then 0 else M p q) 3 = nB (eB M 3 0) 1 + nB (eB M 3 1) 2 + nB (eB M 3 2) 4 := by
      show nB (eB M 3 0) 1 + nB (eB M 3 1) 2 + nB (eB M 3 2) 4 + 0 = _
      omega
    rw [r0, r1, r2, r3] at hc
    rw [hc] at hb
    simp only [Bool.not_true, Bool.false_or, Bool.or_eq_true] at hb
    have hM : ∀ p q : Int, 0 ≤ M p q ∨ ¬ (0 ≤ p ∧ p < 4 ∧ 0 ≤ q ∧ q < 4) := fun p q => by
      by_cases hh : 0 ≤ p ∧ p < 4 ∧ 0 ≤ q ∧ q < 4
      · exact Or.inl (h0 p q hh.1 hh.2.1 hh.2.2.1 hh.2.2.2)
      · exact Or.inr hh
    have hd : ∀ r a b c : Int, (0 ≤ r ∧ r < 4) → (0 ≤ a ∧ a < 4) → (0 ≤ b ∧ b < 4) → (0 ≤ c ∧ c < 4) → ∀ p q, p = a ∨ p = b ∨ p = c → q = r ∨ q = a ∨ q = b ∨ q = c → 0 ≤ M p q := by
      intro r a b c hr ha hb hc p q hp hq
      exact h0 p q (by omega) (by omega) (by omega) (by omega)
    have nn : ∀ r a b c : Int, (0 ≤ r ∧ r < 4) → (0 ≤ a ∧ a < 4) → (0 ≤ b ∧ b < 4) → (0 ≤ c ∧ c < 4) → 0 ≤ tr4 M r a b c := by
      intro r a b c hr ha hb hc
      have d := hd r a b c hr ha hb hc
      have m := fun x y z (hx : x = r ∨ x = a ∨ x = b ∨ x = c) (hy : y = r ∨ y = a ∨ y = b ∨ y = c) (hz : z = r ∨ z = a ∨ z = b ∨ z = c) => Int.mul_nonneg (Int.mul_nonneg (d a x (by simp) hx) (d b y (by simp) hy)) (d c z (by simp) hz)
      have y1 := m r r r (by simp) (by simp) (by simp)
      have y2 := m r r a (by simp) (by simp) (by simp)
      have y3 := m r r b (by simp) (by simp) (by simp)
      have y4 := m r a r (by simp) (by simp) (by simp)
      have y5 := m r a a (by simp) (by simp) (by simp)
      have y6 := m r a b (by simp) (by simp) (by simp)
      have y7 := m r c r (by simp) (by simp) (by simp)
      have y8 := m r c a (by simp) (by simp) (by simp)
      have y9 := m b r r (by simp) (by simp) (by simp)
      have y10 := m b r a (by simp) (by simp) (by simp)
      have y11 := m b r b (by simp) (by simp) (by simp)
      have y12 := m b c r (by simp) (by simp) (by simp)
      have y13 := m c r r (by simp) (by simp) (by simp)
      have y14 := m c r b (by simp) (by simp) (by simp)
      have y15 := m c a r (by simp) (by simp) (by simp)
      have y16 := m c c r (by simp) (by simp) (by simp)
      unfold tr4
      omega
    have n0 := nn 0 1 2 3 (by omega) (by omega) (by omega) (by omega)
    have n1 := nn 1 0 2 3 (by omega) (by omega) (by omega) (by omega)
    have n2 := nn 2 0 1 3 (by omega) (by omega) (by omega) (by omega)
    have n3 := nn 3 0 1 2 (by omega) (by omega) (by omega) (by omega)
    rw [show (4 : Int).toNat = 4 from rfl, sumF_4']
    show 0 < tr4 M 0 1 2 3 + tr4 M 1 0 2 3 + tr4 M 2 0 1 3 + tr4 M 3 0 1 2
    rcases hb with ((hb | hb) | hb) | hb
    · have := nT_pos (hd 0 1 2 3 (by omega) (by omega) (by omega) (by omega)) hb; omega
    · have := nT_pos (hd 1 0 2 3 (by omega) (by omega) (by omega) (by omega)) hb; omega
    · have := nT_pos (hd 2 0 1 3 (by omega) (by omega) (by omega) (by omega)) hb; omega
    · have := nT_pos (hd 3 0 1 2 (by omega) (by omega) (by omega) (by omega)) hb; omega
