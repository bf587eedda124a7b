/-! PURE: one class alone has a tree -/
theorem sWith_in {s q : Int} (h : sBit s q = 1) : sWith s q 1 = s := by
  unfold sWith
  rw [if_neg (by decide), if_pos h]
def eqE (n : Int) (M M' : Int → Int → Int) : Prop := ∀ p q, 0 ≤ p → p < n → 0 ≤ q → q < n → p ≠ q → (0 < M p q ↔ 0 < M' p q)
theorem rcF_c {n : Int} {M M' : Int → Int → Int} (h : eqE n M M') (b : Int) : ∀ k : Nat, rcF n M b k = rcF n M' b k
  | 0 => rfl
  | k + 1 => by
    show rcS n M k (rcF n M b k) = rcS n M' k (rcF n M' b k)
    rw [rcF_c h b k]
    unfold rcS
    by_cases e : (k : Int) / 4 % 4 = (k : Int) % 4
    · rw [← e]
      by_cases hs : sBit (rcF n M' b k) ((k : Int) / 4 % 4) = 1
      · rw [sWith_in hs]
        split <;> split <;> rfl
      · rw [if_neg (fun hh => hs hh.2.2.1), if_neg (fun hh => hs hh.2.2.1)]
    · by_cases hr : (k : Int) / 4 % 4 < n ∧ (k : Int) % 4 < n
      · have := h ((k : Int) / 4 % 4) ((k : Int) % 4) (by omega) hr.1 (by omega) hr.2 e
        by_cases hc : 0 < M ((k : Int) / 4 % 4) ((k : Int) % 4)
        · have hc2 := this.mp hc
          simp only [hc, hc2]
        · have hc2 : ¬ 0 < M' ((k : Int) / 4 % 4) ((k : Int) % 4) := fun hh => hc (this.mpr hh)
          simp only [hc, hc2]
      · rw [if_neg (fun hh => hr ⟨hh.1, hh.2.1⟩), if_neg (fun hh => hr ⟨hh.1, hh.2.1⟩)]
theorem clB_c {R R' : Int → Int} (h : R = R') (p : Int) (k : Nat) : clB R p k = clB R' p k := by rw [h]
theorem clN_c {n : Int} {M M' : Int → Int → Int} (h : eqE n M M') : clN n M = clN n M' := by
  unfold clN
  rw [show rcH n M = rcH n M' from funext (fun b => rcF_c h b 64)]
def eI (b : Bool) : Int := bif b then 1 else 0
def mk2 (b01 b10 : Bool) (p q : Int) : Int := if p = 0 then (if q = 1 then eI b01 else 0) else (if q = 0 then eI b10 else 0)
def mk3 (b01 b02 b10 b12 b20 b21 : Bool) (p q : Int) : Int := if p = 0 then (if q = 1 then eI b01 else if q = 2 then eI b02 else 0) else if p = 1 then (if q = 0 then eI b10 else if q = 2 then eI b12 else 0) else (if q = 0 then eI b20 else if q = 1 then eI b21 else 0)
theorem pos2b : ∀ b01 b10 : Bool, clN 2 (mk2 b01 b10) ≤ 1 → 0 < trN 2 (mk2 b01 b10) 0 + trN 2 (mk2 b01 b10) 1 := by decide +kernel
theorem pos3b : ∀ b01 b02 b10 b12 b20 b21 : Bool, clN 3 (mk3 b01 b02 b10 b12 b20 b21) ≤ 1 → 0 < trN 3 (mk3 b01 b02 b10 b12 b20 b21) 0 + trN 3 (mk3 b01 b02 b10 b12 b20 b21) 1 + trN 3 (mk3 b01 b02 b10 b12 b20 b21) 2 := by decide +kernel
/-! four positions: sets as masks -/
def nB (b : Bool) (v : Nat) : Nat := bif b then v else 0
def nG (p row s : Nat) : Nat := bif s.testBit p then s ||| row else s
def nR1 (a b c d s : Nat) : Nat := nG 3 d (nG 2 c (nG 1 b (nG 0 a s)))
def nR (a b c d s : Nat) : Nat := nR1 a b c d (nR1 a b c d (nR1 a b c d (nR1 a b c d s)))
def nC (A B C D X : Nat) : Bool := (!X.testBit 0 || A == X) && (!X.testBit 1 || B == X) && (!X.testBit 2 || C == X) && (!X.testBit 3 || D == X)
def nT (xr xb xc yr ya yc zr za zb : Bool) : Bool :=
  (xr && yr && zr) || (xr && yr && za) || (xr && yr && zb) || (xr && ya && zr) || (xr && ya && za) || (xr && ya && zb) || (xr && yc && zr) || (xr && yc && za) || (xb && yr && zr) || (xb && yr && za) || (xb && yr && zb) || (xb && yc && zr) || (xc && yr && zr) || (xc && yr && zb) || (xc && ya && zr) || (xc && yc && zr)
def nW (b : Bool) : Nat := bif b then 1 else 0
def nChk2 (A B C D : Nat) : Bool := Nat.ble (nW (nC A B C D A) + nW (nC A B C D B && B % 2 == 0) + nW (nC A B C D C && C % 4 == 0) + nW (nC A B C D D && D % 8 == 0)) 1
def nChk (a b c d : Nat) : Bool := nChk2 (nR a b c d 1) (nR a b c d 2) (nR a b c d 4) (nR a b c d 8)
theorem pos4b : ∀ b01 b02 b03 b10 b12 b13 b20 b21 b23 b30 b31 b32 : Bool,
    (!nChk (nB b01 2 + nB b02 4 + nB b03 8) (nB b10 1 + nB b12 4 + nB b13 8) (nB b20 1 + nB b21 2 + nB b23 8) (nB b30 1 + nB b31 2 + nB b32 4)
      || nT b10 b12 b13 b20 b21 b23 b30 b31 b32 || nT b01 b02 b03 b21 b20 b23 b31 b30 b32 || nT b02 b01 b03 b12 b10 b13 b32 b30 b31 || nT b03 b01 b02 b13 b10 b12 b23 b20 b21) = true := by decide +kernel
