/-! PURE: what the two systems compute, as numbers -/
theorem va_cat (o : Option Nat) : (va_rf o).category = 1 := by cases o <;> rfl
/-- a bit of a small set -/
def sBit (s i : Int) : Int := if i = 0 then s % 2 else if i = 1 then s / 2 % 2 else if i = 2 then s / 4 % 2 else s / 8 % 2
theorem sBit_01 (s i : Int) : sBit s i = 0 ∨ sBit s i = 1 := by
  unfold sBit
  split
  · omega
  · split
    · omega
    · split <;> omega
theorem sBit_fin : ∀ s : Fin 16, ∀ i : Fin 4, jAnd (jShr ((s : Nat) : Int) ((i : Nat) : Int)) 1 = sBit ((s : Nat) : Int) ((i : Nat) : Int) := by decide +kernel
theorem fin_of {z : Int} {n : Nat} (h0 : 0 ≤ z) (h1 : z < (n : Int)) : ∃ f : Fin n, ((f : Nat) : Int) = z := ⟨⟨z.toNat, by omega⟩, by show ((z.toNat : Nat) : Int) = z; omega⟩
theorem sBit_eq {s i : Int} (hs : 0 ≤ s ∧ s < 16) (hi : 0 ≤ i ∧ i < 4) : jAnd (jShr s i) 1 = sBit s i := by
  obtain ⟨a, rfl⟩ := fin_of (n := 16) hs.1 hs.2
  obtain ⟨b, rfl⟩ := fin_of (n := 4) hi.1 hi.2
  exact sBit_fin a b
theorem jAnd_01 {a b : Int} (ha : a = 0 ∨ a = 1) (hb : b = 0 ∨ b = 1) : jAnd a b = a * b := by
  rcases ha with rfl | rfl <;> rcases hb with rfl | rfl <;> decide
/-- programs: digits to the base 4 -/
def lenF : Nat → Int → Int
  | 0, _ => 0
  | f + 1, r => if 0 < r then 1 + lenF f (r / 4) else 0
def sLen (p : Int) : Int := lenF 16 p
def digF : Nat → Int → Int
  | 0, _ => 1
  | f + 1, r => if 0 < r then (if 0 < r % 4 then digF f (r / 4) else 0) else 1
theorem lenF_0 (f : Nat) {r : Int} (h : r ≤ 0) : lenF f r = 0 := by
  cases f with
  | zero => rfl
  | succ f => simp [lenF, Int.not_lt.mpr h]
theorem lenF_s (f : Nat) {r : Int} (h : 0 < r) : lenF (f + 1) r = 1 + lenF f (r / 4) := by simp [lenF, h]
theorem lenF_nn : ∀ (f : Nat) (r : Int), 0 ≤ lenF f r ∧ lenF f r ≤ f
  | 0, _ => ⟨Int.le_refl _, Int.le_refl _⟩
  | f + 1, r => by
    have := lenF_nn f (r / 4)
    unfold lenF
    split <;> omega
theorem sLen_R (p : Int) : 0 ≤ sLen p ∧ sLen p ≤ 16 := lenF_nn 16 p
theorem lenF_pow : ∀ (f g : Nat) (r : Int), r < 4 ^ f → f ≤ g → lenF g r = lenF f r
  | 0, g, r, h, _ => by
    rw [lenF_0 g (by omega)]
    rfl
  | f + 1, 0, r, _, hg => absurd hg (by omega)
  | f + 1, g + 1, r, h, hg => by
    unfold lenF
    split
    · rw [lenF_pow f g (r / 4) (by rw [Int.pow_succ] at h; omega) (by omega)]
    · rfl
theorem digF_01 : ∀ (f : Nat) (r : Int), digF f r = 0 ∨ digF f r = 1
  | 0, _ => Or.inr rfl
  | f + 1, r => by
    unfold digF
    split
    · split
      · exact digF_01 f _
      · exact Or.inl rfl
    · exact Or.inr rfl
/-- short programs by cases -/
theorem sLen_c {p : Int} (h : 0 < p) : sLen p = if p < 4 then 1 else if p < 16 then 2 else if p < 64 then 3 else if p < 256 then 4 else 4 + lenF 12 (p / 256) := by
  have e4 : p / 4 / 4 = p / 16 := by omega
  have e5 : p / 16 / 4 = p / 64 := by omega
  have e6 : p / 64 / 4 = p / 256 := by omega
  unfold sLen
  rw [lenF_s 15 h]
  split
  · rw [lenF_0 15 (by omega)]; rfl
  · rw [lenF_s 14 (by omega), e4]
    split
    · rw [lenF_0 14 (by omega)]; rfl
    · rw [lenF_s 13 (by omega), e5]
      split
      · rw [lenF_0 13 (by omega)]; rfl
      · rw [lenF_s 12 (by omega), e6]
        split
        · rw [lenF_0 12 (by omega)]; rfl
        · omega
theorem sLen_4 {p : Int} (h : 0 < p) : sLen p ≤ 4 ↔ p < 256 := by
  rw [sLen_c h]
  by_cases h5 : p < 256
  · split
    · omega
    · split
      · omega
      · split <;> omega
  · rw [if_neg (by omega), if_neg (by omega), if_neg (by omega), if_neg h5, lenF_s 11 (by omega)]
    have := lenF_nn 11 (p / 256 / 4)
    omega
/-- p is a program: its digits are 1, 2, 3, at most four of them -/
def sProg (p : Int) : Int := if 0 < p ∧ p < 256 then digF 16 p else 0
theorem sProg_01 (p : Int) : sProg p = 0 ∨ sProg p = 1 := by
  unfold sProg
  split
  · exact digF_01 _ _
  · exact Or.inl rfl
/-- the lever at a place of a program -/
def divF (p : Int) : Nat → Int
  | 0 => p
  | j + 1 => divF p j / 4
def sLev (p i : Int) : Int := divF p ((sLen p - 1 - i).toNat) % 4 - 1
def sDig (r : Int) : Int := digF 16 r
theorem sLen_0 {r : Int} (h : r ≤ 0) : sLen r = 0 := lenF_0 16 h
theorem sLen_s {r : Int} (h : 0 < r) (hr : iR r) : sLen r = 1 + sLen (r / 4) := by
  unfold sLen
  rw [lenF_s 15 h, lenF_pow 15 16 (r / 4) (by unfold iR at hr; omega) (by omega)]
theorem sLen_pos {r : Int} (h : 0 < r) : 1 ≤ sLen r := by
  unfold sLen
  rw [lenF_s 15 h]
  have := lenF_nn 15 (r / 4)
  omega
theorem digF_pow : ∀ (f g : Nat) (r : Int), r < 4 ^ f → f ≤ g → digF g r = digF f r
  | 0, g, r, h, _ => by
    cases g with
    | zero => rfl
    | succ g =>
      show (if 0 < r then _ else (1 : Int)) = 1
      rw [if_neg (by omega)]
  | f + 1, 0, r, _, hg => absurd hg (by omega)
  | f + 1, g + 1, r, h, hg => by
    unfold digF
    rw [digF_pow f g (r / 4) (by rw [Int.pow_succ] at h; omega) (by omega)]
theorem sDig_01 (r : Int) : sDig r = 0 ∨ sDig r = 1 := digF_01 16 r
theorem sDig_0 {r : Int} (h : r ≤ 0) : sDig r = 1 := by
  show (if 0 < r then _ else (1 : Int)) = 1
  rw [if_neg (by omega)]
theorem sDig_s {r : Int} (h : 0 < r) (hr : iR r) : sDig r = if 0 < r % 4 then sDig (r / 4) else 0 := by
  show (if 0 < r then (if 0 < r % 4 then digF 15 (r / 4) else 0) else (1 : Int)) = _
  rw [if_pos h]
  split
  · exact (digF_pow 15 16 (r / 4) (by unfold iR at hr; omega) (by omega)).symm
  · rfl
theorem jAnd_1 {a : Int} (h : a = 0 ∨ a = 1) : jAnd a 1 = a := by
  rcases h with rfl | rfl <;> decide
theorem jAnd_0 {a : Int} (h : a = 0 ∨ a = 1) : jAnd a 0 = 0 := by
  rcases h with rfl | rfl <;> decide
theorem sProg_y {p : Int} (h : 0 < p ∧ p < 256) : sProg p = sDig p := if_pos h
theorem sProg_n {p : Int} (h : ¬ (0 < p ∧ p < 256)) : sProg p = 0 := if_neg h
theorem sProg_in {p : Int} (h : sProg p = 1) : 0 < p ∧ p < 256 := by
  apply Classical.byContradiction
  intro h2
  rw [sProg_n h2] at h
  omega
theorem sLev_fin : ∀ p : Fin 256, ∀ i : Fin 4, sProg ((p : Nat) : Int) = 1 → ((i : Nat) : Int) < sLen ((p : Nat) : Int) → 0 ≤ sLev ((p : Nat) : Int) ((i : Nat) : Int) ∧ sLev ((p : Nat) : Int) ((i : Nat) : Int) ≤ 2 := by decide +kernel
theorem sLen_prog {p : Int} (h : sProg p = 1) : 1 ≤ sLen p ∧ sLen p ≤ 4 := ⟨sLen_pos (sProg_in h).1, (sLen_4 (sProg_in h).1).mpr (sProg_in h).2⟩
theorem sLev_R {p i : Int} (h : sProg p = 1) (h0 : 0 ≤ i) (h1 : i < sLen p) : 0 ≤ sLev p i ∧ sLev p i ≤ 2 := by
  have hp := sProg_in h
  have hl := sLen_prog h
  obtain ⟨a, rfl⟩ := fin_of (n := 256) (z := p) (by omega) hp.2
  obtain ⟨b, rfl⟩ := fin_of (n := 4) (z := i) h0 (by omega)
  exact sLev_fin a b h h1
theorem divF_R {p : Int} (h : 0 ≤ p) : ∀ j : Nat, 0 ≤ divF p j ∧ divF p j ≤ p
  | 0 => ⟨h, Int.le_refl _⟩
  | j + 1 => by
    have := divF_R h j
    unfold divF
    omega
def usesF (gr p : Int) : Nat → Int
  | 0 => 1
  | k + 1 => usesF gr p k * sBit gr (sLev p k)
def sUses (gr p : Int) : Int := usesF gr p (sLen p).toNat
theorem usesF_01 (gr p : Int) : ∀ k, usesF gr p k = 0 ∨ usesF gr p k = 1
  | 0 => Or.inr rfl
  | k + 1 => by
    unfold usesF
    rcases usesF_01 gr p k with h | h <;> rcases sBit_01 gr (sLev p k) with g | g <;> rw [h, g] <;> omega
/-- tenths back and forward, by the place 4 * lever + position -/
def hB (nm : Int → Int) : Int → Int := fun k => nm k / 100
def hF (nm : Int → Int) : Int → Int := fun k => nm k % 100
def sBack (gr pw : Int) (B : Int → Int) (lv p : Int) : Int := if sBit gr lv = 1 ∧ sBit pw p = 0 then B (4 * lv + p) else 0
def sForw (gr : Int) (F : Int → Int) (lv p : Int) : Int := if sBit gr lv = 1 then F (4 * lv + p) else 0
def sDraw (gr pw : Int) (B F : Int → Int) (lv p m : Int) : Int := if m < 0 then sBack gr pw B lv p else if 0 < m then sForw gr F lv p else 10 - sBack gr pw B lv p - sForw gr F lv p
def sMove (gr pw : Int) (B F : Int → Int) (lv p d : Int) : Int := if sBit gr lv = 1 then (if d < B (4 * lv + p) then (if sBit pw p = 1 then 0 else -1) else if 10 - F (4 * lv + p) ≤ d then 1 else 0) else 0
/-- a table's numbers -/
def wT (B F : Int → Int) : Prop := ∀ k : Int, 0 ≤ k → k < 12 → 0 ≤ B k ∧ 0 ≤ F k ∧ B k + F k ≤ 10
def wN (nm : Int → Int) : Prop := ∀ k : Int, 0 ≤ k → k < 12 → 0 ≤ nm k ∧ nm k / 100 + nm k % 100 ≤ 10
theorem wN_T {nm : Int → Int} (h : wN nm) : wT (hB nm) (hF nm) := fun k h0 h1 => by
  have := h k h0 h1
  show 0 ≤ nm k / 100 ∧ 0 ≤ nm k % 100 ∧ nm k / 100 + nm k % 100 ≤ 10
  omega
theorem sDraw_R {gr pw : Int} {B F : Int → Int} {lv p : Int} (h : wT B F) (hl : 0 ≤ lv ∧ lv ≤ 2) (hp : 0 ≤ p ∧ p ≤ 3) : 0 ≤ sBack gr pw B lv p ∧ 0 ≤ sForw gr F lv p ∧ sBack gr pw B lv p + sForw gr F lv p ≤ 10 := by
  have := h (4 * lv + p) (by omega) (by omega)
  unfold sBack sForw
  (repeat' split) <;> omega
/-- sets of at most four -/
def p2 (i : Int) : Int := if i = 0 then 1 else if i = 1 then 2 else if i = 2 then 4 else 8
def sWith (s i on : Int) : Int := if on = 0 then (if sBit s i = 1 then s - p2 i else s) else (if sBit s i = 1 then s else s + p2 i)
def sBits (s : Int) : Int := s % 2 + s / 2 % 2 + s / 4 % 2 + s / 8 % 2
theorem sWith_fin : ∀ s : Fin 16, ∀ i : Fin 4, jOr ((s : Nat) : Int) (jShl 1 ((i : Nat) : Int)) = sWith ((s : Nat) : Int) ((i : Nat) : Int) 1 ∧ jAnd ((s : Nat) : Int) (jXor (jShl 1 ((i : Nat) : Int)) (-1)) = sWith ((s : Nat) : Int) ((i : Nat) : Int) 0 := by decide +kernel
theorem sWith_eq {s i : Int} (hs : 0 ≤ s ∧ s < 16) (hi : 0 ≤ i ∧ i < 4) : jOr s (jShl 1 i) = sWith s i 1 ∧ jAnd s (jXor (jShl 1 i) (-1)) = sWith s i 0 := by
  obtain ⟨a, rfl⟩ := fin_of (n := 16) hs.1 hs.2
  obtain ⟨b, rfl⟩ := fin_of (n := 4) hi.1 hi.2
  exact sWith_fin a b
theorem sWith_on {s i on : Int} (h : ¬ on = 0) : sWith s i on = sWith s i 1 := by
  unfold sWith
  rw [if_neg h]
  rfl
theorem sWith_Rf : ∀ s : Fin 16, ∀ i : Fin 4, 0 ≤ sWith ((s : Nat) : Int) ((i : Nat) : Int) 1 ∧ sWith ((s : Nat) : Int) ((i : Nat) : Int) 1 < 16 ∧ 0 ≤ sWith ((s : Nat) : Int) ((i : Nat) : Int) 0 ∧ sWith ((s : Nat) : Int) ((i : Nat) : Int) 0 < 16 := by decide +kernel
theorem sWith_R8 : ∀ s : Fin 8, ∀ i : Fin 3, 0 ≤ sWith ((s : Nat) : Int) ((i : Nat) : Int) 1 ∧ sWith ((s : Nat) : Int) ((i : Nat) : Int) 1 < 8 ∧ 0 ≤ sWith ((s : Nat) : Int) ((i : Nat) : Int) 0 ∧ sWith ((s : Nat) : Int) ((i : Nat) : Int) 0 < 8 := by decide +kernel
theorem sWith_R {s i on : Int} (hs : 0 ≤ s ∧ s < 16) (hi : 0 ≤ i ∧ i < 4) : 0 ≤ sWith s i on ∧ sWith s i on < 16 := by
  obtain ⟨a, rfl⟩ := fin_of (n := 16) hs.1 hs.2
  obtain ⟨b, rfl⟩ := fin_of (n := 4) hi.1 hi.2
  have h := sWith_Rf a b
  by_cases ho : on = 0
  · rw [ho]; omega
  · rw [sWith_on ho]; omega
theorem sWith_R7 {s i on : Int} (hs : 0 ≤ s ∧ s < 8) (hi : 0 ≤ i ∧ i < 3) : 0 ≤ sWith s i on ∧ sWith s i on < 8 := by
  obtain ⟨a, rfl⟩ := fin_of (n := 8) hs.1 hs.2
  obtain ⟨b, rfl⟩ := fin_of (n := 3) hi.1 hi.2
  have h := sWith_R8 a b
  by_cases ho : on = 0
  · rw [ho]; omega
  · rw [sWith_on ho]; omega
def sCount (n po pr ix sd gn tk gr pw what : Int) : Int := if what = 0 then n else if what = 1 then po else if what = 2 then pr else if what = 3 then ix else if what = 4 then sd else if what = 5 then gn else if what = 6 then tk else if what = 7 then gr else if what = 8 then pw else sLen pr
