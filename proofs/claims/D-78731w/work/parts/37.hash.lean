/-! PURE: hashes -/
def mixF (f : Int → Int) (h : Int) : Nat → Int
  | 0 => h
  | k + 1 => 31 * mixF f h k + f (k : Int)
theorem div_R {n k : Int} (hn : 2 ≤ n ∧ n ≤ 4) (hk : 0 ≤ k ∧ k < 3 * n) : 0 ≤ k / n ∧ k / n ≤ 2 ∧ 0 ≤ k % n ∧ k % n < n := by
  rcases (show n = 2 ∨ n = 3 ∨ n = 4 by omega) with rfl | rfl | rfl <;> omega
def toldV (c : tC) (q : tQ) (mu la : Nat) (w : Int) : Int := if w = 0 then (mu : Int) else if w = 1 then (la : Int) else tSum c (mu + la) q - tSum c mu q
def gameV (c : tC) (q : tQ) (a g : Int) (t : Nat) (w : Int) : Int := if w = 0 then cRow (cGo (-a) g c q t) (-a) else if w = 1 then cRow (cGo (-a) g c q t) g else sumF (fun i => if cAb (-a) g i then 0 else cGo (-a) g c q t i) 124
def hChance (c : tC) (q : tQ) (mu la : Nat) (h : Int) : Int :=
  mixF (gameV c q 2 2 6) (31 * mixF (fun p => cMany (cGo (-100) 100 c q 6) (-1000) 1000 p) (mixF (toldV c q mu la) h 3) c.1.toNat + cMany (cGo (-100) 100 c q 6) 1 2147483647 (-1)) 3
def numV (n : Int) (B F : Int → Int) (k : Int) : Int := 100 * B (4 * (k / n) + k % n) + F (4 * (k / n) + k % n)
def bstV (b : tBest) (w : Int) : Int := if w = 0 then b.1 else if w = 1 then b.2.1 else b.2.2
def hAver (c : tC) (h : Int) : Int := 31 * mixF (bstV (bst c 2 63)) (mixF (fun k => prt (shN c (k / 2)) (k % 2)) (31 * (31 * (31 * h + clC c) + (avN c).1) + (avN c).2) (2 * c.1).toNat) 3 + parN c
def hAll (c : tC) (q : tQ) (gn tk : Int) (mu la : Nat) (ln : Int) (tx : Int → Int) : Int :=
  mixF tx (31 * hAver c (hChance c q mu la (mixF (numV c.1 c.2.2.2.2.1 c.2.2.2.2.2) (mixF (sCount c.1 q.1 c.2.2.2.1 q.2.1 q.2.2 gn tk c.2.1 c.2.2.1) 2029 10) (3 * c.1).toNat)) + ln) ln.toNat
theorem avN_1 {c : tC} (h : clC c ≤ 1) : avN c = avF c := if_pos h
theorem avN_0 {c : tC} (h : 1 < clC c) : avN c = (0, 0) := if_neg (by omega)
theorem parN_01 (c : tC) : parN c = 0 ∨ parN c = 1 := by
  unfold parN
  split <;> omega
theorem sCount_R {n po pr ix sd gn tk gr pw w : Int} (hn : 2 ≤ n ∧ n ≤ 4) (hg : 0 ≤ gr ∧ gr ≤ 7) (hw : 0 ≤ pw ∧ pw ≤ 15) (hp : sProg pr = 1) (hpo : 0 ≤ po ∧ po ≤ 4) (hix : 0 ≤ ix ∧ ix ≤ 4) (hsd : 0 ≤ sd ∧ sd ≤ 999) (hgn : -1000000 ≤ gn ∧ gn ≤ 1000000) (htk : 0 ≤ tk ∧ tk ≤ 1000000) : iR (sCount n po pr ix sd gn tk gr pw w) := by
  have h1 := sProg_in hp
  have h2 := sLen_prog hp
  unfold iR sCount
  (repeat' split) <;> omega
