/-! PURE: the component's reader: its notes are one list of places and numbers -/
def rFlat (it : rI) : List (Int × Int) := if it.1 = 3 then it.2.map (fun x => (-1, x.1)) else it.2.mapIdx (fun j x => (4 * it.1 + (j : Int), 100 * x.1 + x.2))
def rFl (done : List rI) : List (Int × Int) := done.flatMap rFlat
/-- part of the component's reader, by the step -/
def rPt (s : Int) : Int := if s = 5 then 1 else if s = 6 then 5 else s
def rHas (wh va : Int → Int) (l : List (Int × Int)) : Prop := ∀ (j : Nat) (x : Int × Int), l[j]? = some x → wh j = x.1 ∧ va j = x.2
/-- what has been noted: of a program nothing until its end -/
def rAllN (s lq : Int) (cur : List (Int × Int)) (done : List rI) : List (Int × Int) := rFl done ++ (if 1 ≤ s ∧ s ≤ 4 then rFlat (lq, cur) else [])
def rCo (wh va : Int → Int) (rd it pt lv pa nu : Int) : rS → Prop
  | (s, lq, cur, num, done) => it = done.length ∧ pt = rPt s ∧ (1 ≤ s → s ≤ 4 → lv = lq ∧ pa = cur.length) ∧ (5 ≤ s → lv = -1 ∧ nu = num) ∧ (s = 3 → nu = 100 * num) ∧ rd = (rAllN s lq cur done).length ∧ rHas wh va (rAllN s lq cur done)
theorem rFlat_len (it : rI) : (rFlat it).length = it.2.length := by
  unfold rFlat
  split <;> simp
theorem rFl_len (done : List rI) : (rFl done).length = rCnt done := by
  unfold rFl rCnt
  rw [List.length_flatMap]
  congr 1
  exact List.map_congr_left (fun it _ => rFlat_len it)
theorem rFl_app (done : List rI) (it : rI) : rFl (done ++ [it]) = rFl done ++ rFlat it := by
  unfold rFl
  rw [List.flatMap_append]
  simp
theorem rHas_app {wh va : Int → Int} {l : List (Int × Int)} {a b : Int} (h : rHas wh va l) : rHas (uZ wh l.length a) (uZ va l.length b) (l ++ [(a, b)]) := by
  intro j x hj
  rcases Nat.lt_trichotomy j l.length with hl | hl | hl
  · rw [List.getElem?_append_left hl] at hj
    rw [uZ_n _ _ (by omega), uZ_n _ _ (by omega)]
    exact h j x hj
  · subst hl
    rw [List.getElem?_append_right (Nat.le_refl _), Nat.sub_self] at hj
    cases hj
    exact ⟨uZ_s _ _ _, uZ_s _ _ _⟩
  · rw [List.getElem?_eq_none (by rw [List.length_append, List.length_singleton]; omega)] at hj
    cases hj
theorem rFlat_app {lq a b : Int} {cur : List (Int × Int)} (h : ¬ lq = 3) : rFlat (lq, cur ++ [(a, b)]) = rFlat (lq, cur) ++ [(4 * lq + (cur.length : Int), 100 * a + b)] := by
  unfold rFlat
  rw [if_neg h, if_neg h, List.mapIdx_append]
  simp
theorem rAllN_0 (lq : Int) (cur : List (Int × Int)) (done : List rI) : rAllN 0 lq cur done = rFl done := by
  unfold rAllN
  rw [if_neg (by omega), List.append_nil]
theorem rAllN_5 {s : Int} (h : 5 ≤ s) (lq : Int) (cur : List (Int × Int)) (done : List rI) : rAllN s lq cur done = rFl done := by
  unfold rAllN
  rw [if_neg (by omega), List.append_nil]
theorem rAllN_1 {s : Int} (h : 1 ≤ s ∧ s ≤ 4) (lq : Int) (cur : List (Int × Int)) (done : List rI) : rAllN s lq cur done = rFl done ++ rFlat (lq, cur) := by
  unfold rAllN
  rw [if_pos h]
theorem rFlat_nil (lq : Int) : rFlat (lq, []) = [] := by
  unfold rFlat
  split <;> rfl
section
variable {n c k s lq num : Int} {cur : List (Int × Int)} {done : List rI} {wh va : Int → Int} {rd it pt lv pa nu : Int}
theorem co_beg (h : rCo wh va rd it pt lv pa nu (s, lq, cur, num, done)) (hs : s = 0) (v : Int) : rCo wh va rd it 1 v 0 0 (1, v, [], 0, done) := by
  subst hs
  obtain ⟨h1, h2, h3, h4, h5, h6, h7⟩ := h
  rw [rAllN_0] at h6 h7
  refine ⟨h1, rfl, fun _ _ => ⟨rfl, rfl⟩, fun h => absurd h (by omega), fun h => absurd h (by omega), ?_, ?_⟩
  · rw [rAllN_1 ⟨by omega, by omega⟩, rFlat_nil, List.append_nil]; exact h6
  · rw [rAllN_1 ⟨by omega, by omega⟩, rFlat_nil, List.append_nil]; exact h7
theorem co_begP (h : rCo wh va rd it pt lv pa nu (s, lq, cur, num, done)) (hs : s = 0) : rCo wh va rd it 1 (-1) 0 0 (5, 3, [], 0, done) := by
  subst hs
  obtain ⟨h1, h2, h3, h4, h5, h6, h7⟩ := h
  rw [rAllN_0] at h6 h7
  refine ⟨h1, rfl, fun _ h => absurd h (by omega), fun _ => ⟨rfl, rfl⟩, fun h => absurd h (by omega), ?_, ?_⟩
  · rw [rAllN_5 (by omega)]; exact h6
  · rw [rAllN_5 (by omega)]; exact h7
theorem co_go (h : rCo wh va rd it pt lv pa nu (s, lq, cur, num, done)) (hs : s = 1 ∨ s = 4) : rCo wh va rd it 2 lv pa nu (2, lq, cur, num, done) := by
  obtain ⟨h1, h2, h3, h4, h5, h6, h7⟩ := h
  rw [rAllN_1 (by omega)] at h6 h7
  refine ⟨h1, rfl, fun _ _ => h3 (by omega) (by omega), fun h => absurd h (by omega), fun h => absurd h (by omega), ?_, ?_⟩
  · rw [rAllN_1 ⟨by omega, by omega⟩]; exact h6
  · rw [rAllN_1 ⟨by omega, by omega⟩]; exact h7
theorem co_goP (h : rCo wh va rd it pt lv pa nu (s, lq, cur, num, done)) (hs : s = 5) : rCo wh va rd it 5 lv pa nu (6, lq, cur, num, done) := by
  obtain ⟨h1, h2, h3, h4, h5, h6, h7⟩ := h
  rw [rAllN_5 (by omega)] at h6 h7
  refine ⟨h1, rfl, fun _ h => absurd h (by omega), fun _ => h4 (by omega), fun h => absurd h (by omega), ?_, ?_⟩
  · rw [rAllN_5 (by omega)]; exact h6
  · rw [rAllN_5 (by omega)]; exact h7
theorem co_back (h : rCo wh va rd it pt lv pa nu (s, lq, cur, num, done)) (hs : s = 2) (v : Int) : rCo wh va rd it 3 lv pa (100 * v) (3, lq, cur, v, done) := by
  obtain ⟨h1, h2, h3, h4, h5, h6, h7⟩ := h
  rw [rAllN_1 (by omega)] at h6 h7
  refine ⟨h1, rfl, fun _ _ => h3 (by omega) (by omega), fun h => absurd h (by omega), fun _ => rfl, ?_, ?_⟩
  · rw [rAllN_1 ⟨by omega, by omega⟩]; exact h6
  · rw [rAllN_1 ⟨by omega, by omega⟩]; exact h7
theorem co_let (h : rCo wh va rd it pt lv pa nu (s, lq, cur, num, done)) (hs : s = 6) {v w : Int} (hv : v = w) : rCo wh va rd it pt lv pa v (6, lq, cur, w, done) := by
  obtain ⟨h1, h2, h3, h4, h5, h6, h7⟩ := h
  rw [rAllN_5 (by omega)] at h6 h7
  refine ⟨h1, by rw [h2, hs], fun _ h => absurd h (by omega), fun _ => ⟨(h4 (by omega)).1, hv⟩, fun h => absurd h (by omega), ?_, ?_⟩
  · rw [rAllN_5 (by omega)]; exact h6
  · rw [rAllN_5 (by omega)]; exact h7
theorem co_forw (h : rCo wh va rd it pt lv pa nu (s, lq, cur, num, done)) (hs : s = 3) (hl : lq ≤ 2) (v : Int) : rCo (uZ wh rd (4 * lv + pa)) (uZ va rd (nu + v)) (rd + 1) it 4 lv (pa + 1) nu (4, lq, cur ++ [(num, v)], num, done) := by
  obtain ⟨h1, h2, h3, h4, h5, h6, h7⟩ := h
  obtain ⟨h8, h9⟩ := h3 (by omega) (by omega)
  have h5 := h5 hs
  rw [rAllN_1 (by omega)] at h6 h7
  subst h6 h8 h9 h5
  have e : rAllN 4 lv (cur ++ [(num, v)]) done = (rFl done ++ rFlat (lv, cur)) ++ [(4 * lv + (cur.length : Int), 100 * num + v)] := by
    rw [rAllN_1 ⟨by omega, by omega⟩, rFlat_app (by omega), List.append_assoc]
  refine ⟨h1, rfl, fun _ _ => ⟨rfl, ?_⟩, fun h => absurd h (by omega), fun h => absurd h (by omega), ?_, ?_⟩
  · rw [List.length_append, List.length_singleton]; omega
  · rw [e]; simp only [List.length_append, List.length_cons, List.length_nil]; omega
  · rw [e]; exact rHas_app h7
theorem co_end4 (h : rCo wh va rd it pt lv pa nu (s, lq, cur, num, done)) (hs : s = 4) (hl : lq ≤ 2) : rCo wh va rd (it + 1) 0 lv pa nu (0, 0, [], 0, done ++ [rItem lq cur num]) := by
  obtain ⟨h1, h2, h3, h4, h5, h6, h7⟩ := h
  rw [rAllN_1 (by omega)] at h6 h7
  have e : rAllN 0 0 [] (done ++ [rItem lq cur num]) = rFl done ++ rFlat (lq, cur) := by
    rw [rAllN_0, rFl_app]
    unfold rItem
    rw [if_neg (by omega)]
  refine ⟨?_, rfl, fun h => absurd h (by omega), fun h => absurd h (by omega), fun h => absurd h (by omega), ?_, ?_⟩
  · rw [List.length_append, List.length_singleton]; omega
  · rw [e]; exact h6
  · rw [e]; exact h7
theorem co_end6 (h : rCo wh va rd it pt lv pa nu (s, lq, cur, num, done)) (hs : s = 6) (hl : lq = 3) : rCo (uZ wh rd (-1)) (uZ va rd nu) (rd + 1) (it + 1) 0 lv pa nu (0, 0, [], 0, done ++ [rItem lq cur num]) := by
  obtain ⟨h1, h2, h3, h4, h5, h6, h7⟩ := h
  rw [rAllN_5 (by omega)] at h6 h7
  have e8 := (h4 (by omega)).2
  subst h6 e8
  have e : rAllN 0 0 [] (done ++ [rItem lq cur nu]) = rFl done ++ [(-1, nu)] := by
    rw [rAllN_0, rFl_app]
    unfold rItem
    rw [if_pos hl]
    rfl
  refine ⟨?_, rfl, fun h => absurd h (by omega), fun h => absurd h (by omega), fun h => absurd h (by omega), ?_, ?_⟩
  · rw [List.length_append, List.length_singleton]; omega
  · rw [e]; simp only [List.length_append, List.length_cons, List.length_nil]; omega
  · rw [e]; exact rHas_app h7
end
theorem co_R {n k s lq num : Int} {cur : List (Int × Int)} {done : List rI} {wh va : Int → Int} {rd it pt lv pa nu : Int} (hn : 2 ≤ n ∧ n ≤ 4) (hk : k < 60) (hI : rInv n k (s, lq, cur, num, done)) (h : rCo wh va rd it pt lv pa nu (s, lq, cur, num, done)) :
    (0 ≤ s ∧ s ≤ 6) ∧ (0 ≤ rd ∧ rd < 60) ∧ (s ≤ 4 → pt = s) ∧ (s = 5 → pt = 1) ∧ (s = 6 → pt = 5) ∧ (1 ≤ s → s ≤ 4 → (0 ≤ lv ∧ lv ≤ 2) ∧ lv = lq ∧ pa = cur.length ∧ 0 ≤ pa ∧ pa ≤ 4) ∧ (5 ≤ s → lv = -1 ∧ nu = num ∧ 0 ≤ nu ∧ nu ≤ 255 ∧ lq = 3) ∧ (s = 3 → nu = 100 * num ∧ 0 ≤ num ∧ num ≤ 9) := by
  obtain ⟨h1, h2, h3, h4, h5, h6, h7, h8⟩ := hI
  obtain ⟨g1, g2, g3, g4, g5, g6, g7⟩ := h
  have hr : (rAllN s lq cur done).length ≤ rCnt done + cur.length := by
    unfold rAllN
    rw [List.length_append, rFl_len]
    split
    · rw [rFlat_len]; exact Nat.le_refl _
    · simp
  refine ⟨h1, ⟨by omega, ?_⟩, fun a => ?_, fun a => ?_, fun a => ?_, fun a b => ?_, fun a => ?_, fun a => ?_⟩
  · split at h7 <;> omega
  · rw [g2]; unfold rPt; rw [if_neg (by omega), if_neg (by omega)]
  · rw [g2]; unfold rPt; rw [if_pos a]
  · rw [g2]; unfold rPt; rw [if_neg (by omega), if_pos a]
  · obtain ⟨x, y, z, -⟩ := h3 a b
    obtain ⟨u, v⟩ := g3 a b
    refine ⟨by omega, u, v, by omega, by omega⟩
  · obtain ⟨x, y, z, w, -⟩ := h4 a
    obtain ⟨u, v⟩ := g4 a
    refine ⟨u, v, by omega, by omega, x⟩
  · exact ⟨g5 a, h5 a⟩
theorem sLen_64 {p : Int} (h : 0 ≤ p ∧ p ≤ 255) : sLen p < 4 ↔ p < 64 := by
  by_cases h0 : 0 < p
  · rw [sLen_c h0]
    (repeat' split) <;> omega
  · rw [sLen_0 (by omega)]
    omega
