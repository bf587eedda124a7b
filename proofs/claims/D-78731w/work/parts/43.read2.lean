/-! PURE: the component's reader: its notes are one list of places and numbers -/
def rFlat (it : rI) : List (Int × Int) := if it.1 = 3 then it.2.map (fun x => (-1, x.1)) else it.2.mapIdx (fun j x => (4 * it.1 + (j : Int), 100 * x.1 + x.2))
def rFl (done : List rI) : List (Int × Int) := done.flatMap rFlat
/-- part of the component's reader, by the step -/
def rPt (s : Int) : Int := if s = 5 then 1 else if s = 6 then 5 else s
def rHas (wh va : Int → Int) (l : List (Int × Int)) : Prop := ∀ (j : Nat) (x : Int × Int), l[j]? = some x → wh j = x.1 ∧ va j = x.2
/-- what has been noted: of a program nothing until its end -/
def rAllN (s lq : Int) (cur : List (Int × Int)) (done : List rI) : List (Int × Int) := rFl done ++ (if 1 ≤ s ∧ s ≤ 4 then rFlat (lq, cur) else [])
def rCo (wh va : Int → Int) (rd it pt lv pa nu : Int) : rS → Prop
  | (s, lq, cur, num, done) => it = done.length ∧ pt = rPt s ∧ (1 ≤ s → s ≤ 4 → lv = lq ∧ pa = cur.length) ∧ (5 ≤ s → lv = -1 ∧ nu = num) ∧ (s = 3 → nu = 100 * num) ∧ rd = (rAllN s lq cur done).length ∧ rHas wh va (rAllN s lq cur done)
theorem rFlat_len (it : rI) : (rFlat it).length = it.2.length := by
  unfold rFlat
  split <;> simp
theorem rFl_len (done : List rI) : (rFl done).length = rCnt done := by
  unfold rFl rCnt
  rw [List.length_flatMap]
  congr 1
  exact List.map_congr_left (fun it _ => rFlat_len it)
theorem rFl_app (done : List rI) (it : rI) : rFl (done ++ [it]) = rFl done ++ rFlat it := by
  unfold rFl
  rw [List.flatMap_append]
  simp
theorem rHas_app {wh va : Int → Int} {l : List (Int × Int)} {a b : Int} (h : rHas wh va l) : rHas (uZ wh l.length a) (uZ va l.length b) (l ++ [(a, b)]) := by
  intro j x hj
  rcases Nat.lt_trichotomy j l.length with hl | hl | hl
  · rw [List.getElem?_append_left hl] at hj
    rw [uZ_n _ _ (by omega), uZ_n _ _ (by omega)]
    exact h j x hj
  · subst hl
    rw [List.getElem?_append_right (Nat.le_refl _), Nat.sub_self] at hj
    cases hj
    exact ⟨uZ_s _ _ _, uZ_s _ _ _⟩
  · rw [List.getElem?_eq_none (by rw [List.length_append, List.length_singleton]; omega)] at hj
    cases hj
theorem rFlat_app {lq a b : Int} {cur : List (Int × Int)} (h : ¬ lq = 3) : rFlat (lq, cur ++ [(a, b)]) = rFlat (lq, cur) ++ [(4 * lq + (cur.length : Int), 100 * a + b)] := by
  unfold rFlat
  rw [if_neg h, if_neg h, List.mapIdx_append]
  simp
