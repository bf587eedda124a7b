/-! PURE: reading a text. A state: step, lever (3 for a program), pairs of the item, number, items read -/
abbrev rI : Type := Int × List (Int × Int)
abbrev rS : Type := Int × Int × List (Int × Int) × Int × List rI
def rItem (lq : Int) (cur : List (Int × Int)) (num : Int) : rI := if lq = 3 then (3, [(num, 0)]) else (lq, cur)
def rEnd (n : Int) : rS → Prop
  | (s, lq, cur, num, done) => (s = 4 ∧ (cur.length : Int) = n) ∨ (s = 6 ∧ 0 < num)
def rDone : rS → List rI
  | (s, lq, cur, num, done) => done ++ [rItem lq cur num]
def rNx (n c : Int) : rS → Option rS
  | (s, lq, cur, num, done) =>
    if c = 59 ∧ ((s = 4 ∧ (cur.length : Int) = n) ∨ (s = 6 ∧ 0 < num)) then some (0, 0, [], 0, done ++ [rItem lq cur num])
    else if s = 0 then (if 65 ≤ c ∧ c ≤ 67 then some (1, c - 65, [], 0, done) else if c = 80 then some (5, 3, [], 0, done) else none)
    else if s = 1 then (if c = 58 then some (2, lq, cur, num, done) else none)
    else if s = 2 then (if 48 ≤ c ∧ c ≤ 57 then some (3, lq, cur, c - 48, done) else none)
    else if s = 3 then (if (48 ≤ c ∧ c ≤ 57) ∧ num + c - 48 ≤ 10 then some (4, lq, cur ++ [(num, c - 48)], num, done) else none)
    else if s = 4 then (if c = 44 ∧ (cur.length : Int) < n then some (2, lq, cur, num, done) else none)
    else if s = 5 then (if c = 58 then some (6, lq, cur, num, done) else none)
    else (if (65 ≤ c ∧ c ≤ 67) ∧ num < 64 then some (6, lq, cur, 4 * num + c - 64, done) else none)
def rSt (n : Int) (tx : Int → Int) : Nat → Option rS
  | 0 => some (0, 0, [], 0, [])
  | k + 1 => (rSt n tx k).bind (rNx n (tx (k : Int)))
def rPair (x : Int × Int) : Prop := 0 ≤ x.1 ∧ x.1 ≤ 9 ∧ 0 ≤ x.2 ∧ x.2 ≤ 9 ∧ x.1 + x.2 ≤ 10
def rOk (n : Int) (it : rI) : Prop := (0 ≤ it.1 ∧ it.1 ≤ 2 ∧ (it.2.length : Int) = n ∧ ∀ x ∈ it.2, rPair x) ∨ (∃ pr, it = (3, [(pr, 0)]) ∧ sProg pr = 1)
def rW (s num : Int) : Int := if s = 5 then (if 0 < num then 2 else 1) else if s = 6 then (if 0 < num then 3 else 2) else s
def rCnt (done : List rI) : Nat := (done.map (fun it => it.2.length)).sum
def rInv (n k : Int) : rS → Prop
  | (s, lq, cur, num, done) => (0 ≤ s ∧ s ≤ 6) ∧ (∀ it ∈ done, rOk n it) ∧ (1 ≤ s → s ≤ 4 → 0 ≤ lq ∧ lq ≤ 2 ∧ (cur.length : Int) ≤ n ∧ (s ≤ 3 → (cur.length : Int) < n) ∧ ∀ x ∈ cur, rPair x) ∧ (5 ≤ s → lq = 3 ∧ cur = [] ∧ 0 ≤ num ∧ num < 256 ∧ (0 < num → sProg num = 1)) ∧ (s = 3 → 0 ≤ num ∧ num ≤ 9) ∧ 4 * (done.length : Int) + rW s num ≤ k ∧ ((rCnt done : Nat) : Int) + cur.length + (if s = 0 then 0 else 1) ≤ k ∧ (s = 0 → cur = [])
theorem rProg_fin : ∀ a : Fin 64, ∀ d : Fin 3, (((a : Nat) : Int) = 0 ∨ sProg ((a : Nat) : Int) = 1) → sProg (4 * ((a : Nat) : Int) + (((d : Nat) : Int) + 1)) = 1 := by decide +kernel
theorem rProg {a d : Int} (h0 : 0 ≤ a) (h1 : a < 64) (hd : 1 ≤ d ∧ d ≤ 3) (h : 0 < a → sProg a = 1) : sProg (4 * a + d) = 1 := by
  obtain ⟨x, rfl⟩ := fin_of (n := 64) h0 h1
  obtain ⟨y, hy⟩ := fin_of (n := 3) (z := d - 1) (by omega) (by omega)
  have e : d = ((y : Nat) : Int) + 1 := by omega
  rw [e]
  exact rProg_fin x y (by by_cases h2 : 0 < ((x : Nat) : Int); · exact Or.inr (h h2)
                          · exact Or.inl (by omega))
theorem rCnt_app (a : List rI) (it : rI) : rCnt (a ++ [it]) = rCnt a + it.2.length := by simp [rCnt]
theorem rOk_item {n s lq num : Int} {cur : List (Int × Int)} (hn : 2 ≤ n) (h3 : 1 ≤ s → s ≤ 4 → 0 ≤ lq ∧ lq ≤ 2 ∧ (cur.length : Int) ≤ n ∧ (s ≤ 3 → (cur.length : Int) < n) ∧ ∀ x ∈ cur, rPair x) (h4 : 5 ≤ s → lq = 3 ∧ cur = [] ∧ 0 ≤ num ∧ num < 256 ∧ (0 < num → sProg num = 1)) (he : (s = 4 ∧ (cur.length : Int) = n) ∨ (s = 6 ∧ 0 < num)) : rOk n (rItem lq cur num) := by
  rcases he with ⟨hs, hl⟩ | ⟨hs, hp⟩
  · obtain ⟨a, b, -, -, c⟩ := h3 (by omega) (by omega)
    unfold rItem
    rw [if_neg (by omega)]
    exact Or.inl ⟨a, b, hl, c⟩
  · obtain ⟨a, b, c, d, e⟩ := h4 (by omega)
    unfold rItem
    rw [if_pos a]
    exact Or.inr ⟨num, rfl, e hp⟩
theorem rInv_nx {n k c : Int} {p q : rS} (hn : 2 ≤ n ∧ n ≤ 4) (h : rInv n k p) (he : rNx n c p = some q) : rInv n (k + 1) q := by
  obtain ⟨s, lq, cur, num, done⟩ := p
  obtain ⟨h1, h2, h3, h4, h5, h6, h7, h8⟩ := h
  unfold rNx at he
  dsimp only at he
  split at he
  · rename_i hc
    cases he
    have hok := rOk_item hn.1 h3 h4 hc.2
    refine ⟨by omega, fun it hit => ?_, fun a => absurd a (by omega), fun a => absurd a (by omega), fun a => absurd a (by omega), ?_, ?_, fun _ => rfl⟩
    · rcases List.mem_append.mp hit with hit | hit
      · exact h2 it hit
      · rw [List.mem_singleton.mp hit]
        exact hok
    · rw [List.length_append]
      unfold rW at h6 ⊢
      simp only [List.length_singleton]
      rcases hc.2 with ⟨hs, -⟩ | ⟨hs, hp⟩
      · subst hs
        simp at h6 ⊢
        omega
      · subst hs
        simp [hp] at h6 ⊢
        omega
    · rw [rCnt_app]
      rcases hc.2 with ⟨hs, hl⟩ | ⟨hs, hp⟩
      · obtain ⟨a, b, -⟩ := h3 (by omega) (by omega)
        rw [if_neg (by omega)] at h7
        unfold rItem
        rw [if_neg (by omega)]
        simp
        omega
      · obtain ⟨a, b, -⟩ := h4 (by omega)
        rw [if_neg (by omega)] at h7
        unfold rItem
        rw [if_pos a]
        simp
        omega
  · split at he
    · rename_i hs
      subst hs
      have e8 := h8 rfl
      subst e8
      split at he
      · cases he
        refine ⟨by omega, h2, fun _ _ => ⟨by omega, by omega, by simp; omega, fun _ => by simp; omega, fun x hx => absurd hx (by simp)⟩, fun a => absurd a (by omega), fun a => absurd a (by omega), ?_, ?_, fun _ => rfl⟩
        · simp [rW] at h6 ⊢; omega
        · simp at h7 ⊢; omega
      · split at he
        · cases he
          refine ⟨by omega, h2, fun _ a => absurd a (by omega), fun a => ⟨rfl, rfl, by omega, by omega, fun a => absurd a (by omega)⟩, fun a => absurd a (by omega), ?_, ?_, fun _ => rfl⟩
          · simp [rW] at h6 ⊢; omega
          · simp at h7 ⊢; omega
        · cases he
    · rename_i hs0
      rw [if_neg hs0] at h7
      split at he
      · rename_i hs
        subst hs
        split at he
        · cases he
          obtain ⟨a, b, d, e, f⟩ := h3 (by omega) (by omega)
          refine ⟨by omega, h2, fun _ _ => ⟨a, b, d, fun _ => e (by omega), f⟩, fun a => absurd a (by omega), fun a => absurd a (by omega), ?_, by simp; omega, fun a => absurd a (by omega)⟩
          simp [rW] at h6 ⊢; omega
        · cases he
      · split at he
        · rename_i hs
          subst hs
          split at he
          · cases he
            obtain ⟨a, b, d, e, f⟩ := h3 (by omega) (by omega)
            refine ⟨by omega, h2, fun _ _ => ⟨a, b, d, fun _ => e (by omega), f⟩, fun a => absurd a (by omega), fun _ => by omega, ?_, by simp; omega, fun a => absurd a (by omega)⟩
            simp [rW] at h6 ⊢; omega
          · cases he
        · split at he
          · rename_i hs
            subst hs
            split at he
            · rename_i hc2
              cases he
              obtain ⟨a, b, d, e, f⟩ := h3 (by omega) (by omega)
              have e := e (by omega)
              have h5 := h5 rfl
              refine ⟨by omega, h2, fun _ _ => ⟨a, b, by rw [List.length_append, List.length_singleton]; omega, fun a => absurd a (by omega), fun x hx => ?_⟩, fun a => absurd a (by omega), fun a => absurd a (by omega), ?_, by rw [List.length_append, List.length_singleton]; simp; omega, fun a => absurd a (by omega)⟩
              · rcases List.mem_append.mp hx with hx | hx
                · exact f x hx
                · rw [List.mem_singleton.mp hx]
                  exact ⟨by show 0 ≤ num; omega, by show num ≤ 9; omega, by show 0 ≤ c - 48; omega, by show c - 48 ≤ 9; omega, by show num + (c - 48) ≤ 10; omega⟩
              · simp [rW] at h6 ⊢; omega
            · cases he
          · split at he
            · rename_i hs
              subst hs
              split at he
              · rename_i hc2
                cases he
                obtain ⟨a, b, d, e, f⟩ := h3 (by omega) (by omega)
                refine ⟨by omega, h2, fun _ _ => ⟨a, b, d, fun _ => hc2.2, f⟩, fun a => absurd a (by omega), fun a => absurd a (by omega), ?_, by simp; omega, fun a => absurd a (by omega)⟩
                simp [rW] at h6 ⊢; omega
              · cases he
            · split at he
              · rename_i hs
                subst hs
                split at he
                · cases he
                  obtain ⟨a, b, d, e, f⟩ := h4 (by omega)
                  refine ⟨by omega, h2, fun _ a => absurd a (by omega), fun _ => ⟨a, b, d, e, f⟩, fun a => absurd a (by omega), ?_, by simp; omega, fun a => absurd a (by omega)⟩
                  simp [rW] at h6 ⊢
                  split at h6 <;> simp_all <;> omega
                · cases he
              · split at he
                · rename_i hc2
                  cases he
                  have hs6 : s = 6 := by omega
                  subst hs6
                  obtain ⟨a, b, d, e, f⟩ := h4 (by omega)
                  have hpr := rProg (d := c - 64) d hc2.2 (by omega) f
                  have e3 : 4 * num + c - 64 = 4 * num + (c - 64) := by omega
                  refine ⟨by omega, h2, fun _ a => absurd a (by omega), fun _ => ⟨a, b, by omega, by omega, fun _ => by rw [e3]; exact hpr⟩, fun a => absurd a (by omega), ?_, by simp; omega, fun a => absurd a (by omega)⟩
                  simp [rW] at h6 ⊢
                  (repeat' split) <;> omega
                · cases he
theorem rInv_st {n : Int} {tx : Int → Int} (hn : 2 ≤ n ∧ n ≤ 4) : ∀ {k : Nat} {p : rS}, rSt n tx k = some p → rInv n k p
  | 0, p, h => by
    cases h
    refine ⟨by omega, fun it h => absurd h (by simp), fun a => absurd a (by omega), fun a => absurd a (by omega), fun a => absurd a (by omega), ?_, ?_, fun _ => rfl⟩
    · simp [rW]
    · simp [rCnt]
  | k + 1, p, h => by
    unfold rSt at h
    obtain ⟨q, h1, h2⟩ := Option.bind_eq_some_iff.mp h
    exact rInv_nx hn (rInv_st hn h1) h2
theorem rSt_none {n : Int} {tx : Int → Int} {k : Nat} (h : rSt n tx k = none) : ∀ d, rSt n tx (k + d) = none
  | 0 => h
  | d + 1 => by
    show (rSt n tx (k + d)).bind _ = none
    rw [rSt_none h d]
    rfl
/-- how far a text is read -/
def rStop (n : Int) (tx : Int → Int) (ln K : Nat) (p : rS) : Prop := rSt n tx K = some p ∧ K ≤ ln ∧ (K = ln ∨ rNx n (tx (K : Int)) p = none)
theorem rStop_u {n : Int} {tx : Int → Int} {ln K K' : Nat} {p p' : rS} (h : rStop n tx ln K p) (g : rStop n tx ln K' p') : K = K' ∧ p = p' := by
  have key : ∀ {K K' : Nat} {p p' : rS}, rStop n tx ln K p → rStop n tx ln K' p' → ¬ K < K' := by
    intro K K' p p' h g hlt
    rcases h.2.2 with h2 | h2
    · have := g.2.1; omega
    · have h3 : rSt n tx (K + 1) = none := by
        show (rSt n tx K).bind _ = none
        rw [h.1]
        exact h2
      have h4 := rSt_none h3 (K' - (K + 1))
      rw [show K + 1 + (K' - (K + 1)) = K' by omega, g.1] at h4
      cases h4
  have e : K = K' := by
    have a := key h g
    have b := key g h
    omega
  subst e
  have := h.1.symm.trans g.1
  cases this
  exact ⟨rfl, rfl⟩
/-- what a loaded text does -/
def rPutN (lv : Int) (ps : List (Int × Int)) (BF : (Int → Int) × (Int → Int)) : Nat → (Int → Int) × (Int → Int)
  | 0 => BF
  | j + 1 => (uZ (rPutN lv ps BF j).1 (4 * lv + j) (ps[j]?.getD (0, 0)).1, uZ (rPutN lv ps BF j).2 (4 * lv + j) (ps[j]?.getD (0, 0)).2)
abbrev rT : Type := Int × Int × (Int → Int) × (Int → Int)
def rAp (t : rT) (it : rI) : rT := if it.1 = 3 then ((it.2[0]?.getD (0, 0)).1, 0, t.2.2) else (t.1, t.2.1, rPutN it.1 it.2 t.2.2 it.2.length)
def rApp (items : List rI) (t : rT) : rT := items.foldl rAp t
theorem foldl_take {α β : Type} (f : β → α → β) (b : β) (l : List α) {j : Nat} {x : α} (h : l[j]? = some x) : (l.take (j + 1)).foldl f b = f ((l.take j).foldl f b) x := by
  rw [List.take_add_one, h, List.foldl_append]
  rfl
/-! the reference's reader -/
def rdIt (rd : Int → Int) (i : Nat) (it : rI) : Prop := rd (10 * i) = it.1 ∧ ∀ (j : Nat) (x : Int × Int), it.2[j]? = some x → rd (10 * i + 1 + 2 * j) = x.1 ∧ (it.1 ≠ 3 → rd (10 * i + 2 + 2 * j) = x.2)
def rdCur (rd : Int → Int) (i : Nat) (cur : List (Int × Int)) : Prop := ∀ (j : Nat) (x : Int × Int), cur[j]? = some x → rd (10 * i + 1 + 2 * j) = x.1 ∧ rd (10 * i + 2 + 2 * j) = x.2
def rdAll (rd : Int → Int) (done : List rI) : Prop := ∀ (i : Nat) (it : rI), done[i]? = some it → rdIt rd i it
def rTw (rd : Int → Int) (zl za zf ze zi : Int) : rS → Prop
  | (s, lq, cur, num, done) => zi = done.length ∧ (s ≠ 0 → zl = lq ∧ za = cur.length ∧ rdCur rd done.length cur) ∧ (s = 3 → zf = num) ∧ (5 ≤ s → ze = num) ∧ rdAll rd done
theorem rOk_len {n : Int} {it : rI} (hn : 2 ≤ n ∧ n ≤ 4) (h : rOk n it) : it.2.length ≤ 4 := by
  rcases h with ⟨-, -, h, -⟩ | ⟨pr, rfl, -⟩
  · omega
  · simp
theorem rdAll_u {rd : Int → Int} {done : List rI} {n : Int} (hn : 2 ≤ n ∧ n ≤ 4) (hok : ∀ it ∈ done, rOk n it) (h : rdAll rd done) {i v : Int} (hi : 10 * (done.length : Int) ≤ i) : rdAll (uZ rd i v) done := by
  intro k it hk
  obtain ⟨h1, h2⟩ := h k it hk
  have hl := rOk_len hn (hok it (List.mem_of_getElem? hk))
  have hkl : k < done.length := (List.getElem?_eq_some_iff.mp hk).1
  refine ⟨?_, fun j x hj => ?_⟩
  · rw [uZ_n _ _ (by omega)]; exact h1
  · have hjl : j < it.2.length := (List.getElem?_eq_some_iff.mp hj).1
    rw [uZ_n _ _ (by omega), uZ_n _ _ (by omega)]
    exact h2 j x hj
theorem rdCur_u {rd : Int → Int} {cur : List (Int × Int)} {m : Nat} (h : rdCur rd m cur) {i v : Int} (hi : i < 10 * m + 1 ∨ 10 * (m : Int) + 1 + 2 * (cur.length : Int) ≤ i) : rdCur (uZ rd i v) m cur := by
  intro j x hj
  have hjl : j < cur.length := (List.getElem?_eq_some_iff.mp hj).1
  rw [uZ_n _ _ (by omega), uZ_n _ _ (by omega)]
  exact h j x hj
theorem rdCur_app {rd : Int → Int} {cur : List (Int × Int)} {m : Nat} {a b : Int} (h : rdCur rd m cur) : rdCur (uZ (uZ rd (10 * m + 1 + 2 * cur.length) a) (10 * m + 2 + 2 * cur.length) b) m (cur ++ [(a, b)]) := by
  intro j x hj
  rcases Nat.lt_trichotomy j cur.length with hl | hl | hl
  · rw [List.getElem?_append_left hl] at hj
    rw [uZ_n _ _ (by omega), uZ_n _ _ (by omega), uZ_n _ _ (by omega), uZ_n _ _ (by omega)]
    exact h j x hj
  · subst hl
    rw [List.getElem?_append_right (Nat.le_refl _), Nat.sub_self] at hj
    cases hj
    rw [uZ_n _ _ (by omega), uZ_s, uZ_s]
    exact ⟨rfl, rfl⟩
  · rw [List.getElem?_eq_none (by rw [List.length_append, List.length_singleton]; omega)] at hj
    cases hj
theorem rdAll_app {rd : Int → Int} {done : List rI} {it : rI} (h : rdAll rd done) (hi : rdIt rd done.length it) : rdAll rd (done ++ [it]) := by
  intro k x hk
  rcases Nat.lt_trichotomy k done.length with hl | hl | hl
  · rw [List.getElem?_append_left hl] at hk
    exact h k x hk
  · subst hl
    rw [List.getElem?_append_right (Nat.le_refl _), Nat.sub_self] at hk
    cases hk
    exact hi
  · rw [List.getElem?_eq_none (by rw [List.length_append, List.length_singleton]; omega)] at hk
    cases hk
theorem rdAll_end {rd : Int → Int} {s lq num n k : Int} {cur : List (Int × Int)} {done : List rI} {zl za zf ze zi : Int} (hn : 2 ≤ n ∧ n ≤ 4) (hI : rInv n k (s, lq, cur, num, done)) (h : rTw rd zl za zf ze zi (s, lq, cur, num, done)) (he : (s = 4 ∧ (cur.length : Int) = n) ∨ (s = 6 ∧ 0 < num)) :
    rdAll (if zl = 3 then uZ (uZ rd (10 * zi) zl) (10 * zi + 1) ze else uZ rd (10 * zi) zl) (done ++ [rItem lq cur num]) := by
  obtain ⟨h1, h2, h3, h4, h5, h6, h7, h8⟩ := hI
  obtain ⟨g1, g2, g3, g4, g5⟩ := h
  obtain ⟨g6, g7, g8⟩ := g2 (by omega)
  subst g1 g6
  split
  · rename_i h3'
    have hs : 5 ≤ s := by
      apply Classical.byContradiction
      intro hh
      have := h3 (by omega) (by omega)
      omega
    obtain ⟨i1, i2, -⟩ := h4 hs
    subst i2
    refine rdAll_app (rdAll_u hn h2 (rdAll_u hn h2 g5 (by omega)) (by omega)) ?_
    unfold rItem
    rw [if_pos h3']
    refine ⟨?_, fun j x hj => ?_⟩
    · rw [uZ_n _ _ (by omega), uZ_s]
      exact h3'
    · cases j with
      | zero =>
        cases hj
        refine ⟨?_, fun hh => absurd rfl hh⟩
        rw [show (10 * ((done.length : Nat) : Int) + 1 + 2 * ((0 : Nat) : Int)) = 10 * (done.length : Int) + 1 by omega, uZ_s]
        exact g4 hs
      | succ j => cases hj
  · rename_i h3'
    refine rdAll_app (rdAll_u hn h2 g5 (by omega)) ?_
    unfold rItem
    rw [if_neg h3']
    refine ⟨uZ_s _ _ _, fun j x hj => ?_⟩
    have := rdCur_u g8 (i := 10 * done.length) (v := zl) (Or.inl (by omega)) j x hj
    exact ⟨this.1, fun _ => this.2⟩
theorem tB_put (tb : Int → Int) (lv p b f : Int) : tB (uZ (uZ tb (8 * lv + 2 * p) b) (8 * lv + 2 * p + 1) f) = uZ (tB tb) (4 * lv + p) b := by
  funext k
  show uZ (uZ tb (8 * lv + 2 * p) b) (8 * lv + 2 * p + 1) f (2 * k) = uZ (tB tb) (4 * lv + p) b k
  by_cases h : k = 4 * lv + p
  · subst h
    rw [uZ_n _ _ (by omega), uZ_s, show 2 * (4 * lv + p) = 8 * lv + 2 * p by omega, uZ_s]
  · rw [uZ_n _ _ (by omega), uZ_n _ _ (by omega), uZ_n _ _ h]
    rfl
theorem tF_put (tb : Int → Int) (lv p b f : Int) : tF (uZ (uZ tb (8 * lv + 2 * p) b) (8 * lv + 2 * p + 1) f) = uZ (tF tb) (4 * lv + p) f := by
  funext k
  show uZ (uZ tb (8 * lv + 2 * p) b) (8 * lv + 2 * p + 1) f (2 * k + 1) = uZ (tF tb) (4 * lv + p) f k
  by_cases h : k = 4 * lv + p
  · subst h
    rw [uZ_s, show 2 * (4 * lv + p) + 1 = 8 * lv + 2 * p + 1 by omega, uZ_s]
  · rw [uZ_n _ _ (by omega), uZ_n _ _ (by omega), uZ_n _ _ h]
    rfl
section
variable {n c k s lq num : Int} {cur : List (Int × Int)} {done : List rI} {rd : Int → Int} {zl za zf ze zi : Int}
theorem rN_e (h : c = 59) (hE : (s = 4 ∧ (cur.length : Int) = n) ∨ (s = 6 ∧ 0 < num)) : rNx n c (s, lq, cur, num, done) = some (0, 0, [], 0, done ++ [rItem lq cur num]) := if_pos ⟨h, hE⟩
theorem rN_0 (hE : ¬ (c = 59 ∧ ((s = 4 ∧ (cur.length : Int) = n) ∨ (s = 6 ∧ 0 < num)))) (h : s = 0) : rNx n c (s, lq, cur, num, done) = (if 65 ≤ c ∧ c ≤ 67 then some (1, c - 65, [], 0, done) else if c = 80 then some (5, 3, [], 0, done) else none) := by
  unfold rNx
  dsimp only
  rw [if_neg hE, if_pos h]
theorem rN_1 (hE : ¬ (c = 59 ∧ ((s = 4 ∧ (cur.length : Int) = n) ∨ (s = 6 ∧ 0 < num)))) (h : s = 1) : rNx n c (s, lq, cur, num, done) = (if c = 58 then some (2, lq, cur, num, done) else none) := by
  unfold rNx
  dsimp only
  rw [if_neg hE, if_neg (by omega), if_pos h]
theorem rN_2 (hE : ¬ (c = 59 ∧ ((s = 4 ∧ (cur.length : Int) = n) ∨ (s = 6 ∧ 0 < num)))) (h : s = 2) : rNx n c (s, lq, cur, num, done) = (if 48 ≤ c ∧ c ≤ 57 then some (3, lq, cur, c - 48, done) else none) := by
  unfold rNx
  dsimp only
  rw [if_neg hE, if_neg (by omega), if_neg (by omega), if_pos h]
theorem rN_3 (hE : ¬ (c = 59 ∧ ((s = 4 ∧ (cur.length : Int) = n) ∨ (s = 6 ∧ 0 < num)))) (h : s = 3) : rNx n c (s, lq, cur, num, done) = (if (48 ≤ c ∧ c ≤ 57) ∧ num + c - 48 ≤ 10 then some (4, lq, cur ++ [(num, c - 48)], num, done) else none) := by
  unfold rNx
  dsimp only
  rw [if_neg hE, if_neg (by omega), if_neg (by omega), if_neg (by omega), if_pos h]
theorem rN_4 (hE : ¬ (c = 59 ∧ ((s = 4 ∧ (cur.length : Int) = n) ∨ (s = 6 ∧ 0 < num)))) (h : s = 4) : rNx n c (s, lq, cur, num, done) = (if c = 44 ∧ (cur.length : Int) < n then some (2, lq, cur, num, done) else none) := by
  unfold rNx
  dsimp only
  rw [if_neg hE, if_neg (by omega), if_neg (by omega), if_neg (by omega), if_neg (by omega), if_pos h]
theorem rN_5 (hE : ¬ (c = 59 ∧ ((s = 4 ∧ (cur.length : Int) = n) ∨ (s = 6 ∧ 0 < num)))) (h : s = 5) : rNx n c (s, lq, cur, num, done) = (if c = 58 then some (6, lq, cur, num, done) else none) := by
  unfold rNx
  dsimp only
  rw [if_neg hE, if_neg (by omega), if_neg (by omega), if_neg (by omega), if_neg (by omega), if_neg (by omega), if_pos h]
theorem rN_6 (hE : ¬ (c = 59 ∧ ((s = 4 ∧ (cur.length : Int) = n) ∨ (s = 6 ∧ 0 < num)))) (h : s = 6) : rNx n c (s, lq, cur, num, done) = (if (65 ≤ c ∧ c ≤ 67) ∧ num < 64 then some (6, lq, cur, 4 * num + c - 64, done) else none) := by
  unfold rNx
  dsimp only
  rw [if_neg hE, if_neg (by omega), if_neg (by omega), if_neg (by omega), if_neg (by omega), if_neg (by omega), if_neg (by omega)]
theorem tw_e (h : rTw rd zl za zf ze zi (s, lq, cur, num, done)) : ((s = 4 ∧ za = n ∨ s = 6 ∧ 0 < ze) ↔ ((s = 4 ∧ (cur.length : Int) = n) ∨ (s = 6 ∧ 0 < num))) := by
  obtain ⟨g1, g2, g3, g4, g5⟩ := h
  constructor
  · rintro (⟨h, h2⟩ | ⟨h, h2⟩)
    · exact Or.inl ⟨h, by have := (g2 (by omega)).2.1; omega⟩
    · exact Or.inr ⟨h, by have := g4 (by omega); omega⟩
  · rintro (⟨h, h2⟩ | ⟨h, h2⟩)
    · exact Or.inl ⟨h, by have := (g2 (by omega)).2.1; omega⟩
    · exact Or.inr ⟨h, by have := g4 (by omega); omega⟩
theorem tw_beg (h : rTw rd zl za zf ze zi (s, lq, cur, num, done)) {s' : Int} (lv : Int) (h3 : s' ≠ 3) : rTw rd lv 0 zf 0 zi (s', lv, [], 0, done) := by
  obtain ⟨g1, g2, g3, g4, g5⟩ := h
  exact ⟨g1, fun _ => ⟨rfl, rfl, fun j x hj => by cases hj⟩, fun h => absurd h h3, fun _ => rfl, g5⟩
theorem tw_go (h : rTw rd zl za zf ze zi (s, lq, cur, num, done)) {s' : Int} (hs : s ≠ 0) (h3 : s' ≠ 3) (h5 : 5 ≤ s' → 5 ≤ s) : rTw rd zl za zf ze zi (s', lq, cur, num, done) := by
  obtain ⟨g1, g2, g3, g4, g5⟩ := h
  exact ⟨g1, fun _ => g2 hs, fun h => absurd h h3, fun h => g4 (h5 h), g5⟩
theorem tw_back (h : rTw rd zl za zf ze zi (s, lq, cur, num, done)) (hs : s = 2) (v : Int) : rTw rd zl za v ze zi (3, lq, cur, v, done) := by
  obtain ⟨g1, g2, g3, g4, g5⟩ := h
  exact ⟨g1, fun _ => g2 (by omega), fun _ => rfl, fun h => absurd h (by omega), g5⟩
theorem tw_forw (hn : 2 ≤ n ∧ n ≤ 4) (hI : rInv n k (s, lq, cur, num, done)) (h : rTw rd zl za zf ze zi (s, lq, cur, num, done)) (hs : s = 3) (v : Int) : rTw (uZ (uZ rd (10 * zi + 1 + 2 * za) zf) (10 * zi + 2 + 2 * za) v) zl (za + 1) zf ze zi (4, lq, cur ++ [(num, v)], num, done) := by
  obtain ⟨g1, g2, g3, g4, g5⟩ := h
  obtain ⟨g6, g7, g8⟩ := g2 (by omega)
  have g3 := g3 hs
  subst g1 g3 g7
  refine ⟨rfl, fun _ => ⟨g6, ?_, rdCur_app g8⟩, fun h => absurd h (by omega), fun h => absurd h (by omega), rdAll_u hn hI.2.1 (rdAll_u hn hI.2.1 g5 (by omega)) (by omega)⟩
  rw [List.length_append, List.length_singleton]
  omega
theorem tw_let (h : rTw rd zl za zf ze zi (s, lq, cur, num, done)) (hs : s = 6) {v w : Int} (hv : v = w) : rTw rd zl za zf v zi (6, lq, cur, w, done) := by
  obtain ⟨g1, g2, g3, g4, g5⟩ := h
  exact ⟨g1, fun _ => g2 (by omega), fun h => absurd h (by omega), fun _ => hv, g5⟩
theorem tw_end (hn : 2 ≤ n ∧ n ≤ 4) (hI : rInv n k (s, lq, cur, num, done)) (h : rTw rd zl za zf ze zi (s, lq, cur, num, done)) (he : (s = 4 ∧ (cur.length : Int) = n) ∨ (s = 6 ∧ 0 < num)) : rTw (if zl = 3 then uZ (uZ rd (10 * zi) zl) (10 * zi + 1) ze else uZ rd (10 * zi) zl) zl za zf ze (zi + 1) (0, 0, [], 0, done ++ [rItem lq cur num]) := by
  refine ⟨?_, fun h => absurd rfl h, fun h => absurd h (by omega), fun h => absurd h (by omega), rdAll_end hn hI h he⟩
  rw [List.length_append, List.length_singleton]
  have := h.1
  omega
theorem tw_R (hn : 2 ≤ n ∧ n ≤ 4) (hk : k < 61) (hI : rInv n k (s, lq, cur, num, done)) (h : rTw rd zl za zf ze zi (s, lq, cur, num, done)) : 0 ≤ s ∧ s ≤ 6 ∧ 0 ≤ zi ∧ zi ≤ 15 ∧ (s ≠ 0 → 0 ≤ zl ∧ zl ≤ 3 ∧ 0 ≤ za ∧ za ≤ 4) ∧ (1 ≤ s → s ≤ 3 → za ≤ 3) ∧ (s = 3 → 0 ≤ zf ∧ zf ≤ 9) ∧ (5 ≤ s → 0 ≤ ze ∧ ze ≤ 255) := by
  obtain ⟨h1, h2, h3, h4, h5, h6, h7, h8⟩ := hI
  obtain ⟨g1, g2, g3, g4, g5⟩ := h
  have hw : 0 ≤ rW s num := by
    unfold rW
    (repeat' split) <;> omega
  refine ⟨h1.1, h1.2, by omega, by omega, fun a => ?_, fun a b => ?_, fun a => ?_, fun a => ?_⟩
  · obtain ⟨b, d, -⟩ := g2 a
    by_cases h5' : 5 ≤ s
    · obtain ⟨e, f, -⟩ := h4 h5'
      subst f
      simp at d
      omega
    · obtain ⟨e, f, i, -⟩ := h3 (by omega) (by omega)
      omega
  · obtain ⟨_, d, -⟩ := g2 (by omega)
    obtain ⟨_, _, _, i, -⟩ := h3 (by omega) (by omega)
    have := i (by omega)
    omega
  · have := g3 a
    have := h5 a
    omega
  · obtain ⟨e, f, i, j, -⟩ := h4 a
    have := g4 a
    omega
end
theorem rStop_n {n : Int} {tx : Int → Int} {ln K : Nat} {p : rS} (h : rStop n tx ln K p) (hl : K < ln) : rSt n tx ln = none := by
  rcases h.2.2 with h2 | h2
  · omega
  · have h3 : rSt n tx (K + 1) = none := by
      show (rSt n tx K).bind _ = none
      rw [h.1]
      exact h2
    have h4 := rSt_none h3 (ln - (K + 1))
    rw [show K + 1 + (ln - (K + 1)) = ln by omega] at h4
    exact h4
theorem rOk_done {n k : Int} {p : rS} (hn : 2 ≤ n) (hI : rInv n k p) (he : rEnd n p) : ∀ it ∈ rDone p, rOk n it := by
  obtain ⟨s, lq, cur, num, done⟩ := p
  intro it hit
  rcases List.mem_append.mp hit with hit | hit
  · exact hI.2.1 it hit
  · rw [List.mem_singleton.mp hit]
    exact rOk_item hn hI.2.2.1 hI.2.2.2.1 he
theorem rAp_3 {t : rT} {it : rI} (h : it.1 = 3) : rAp t it = ((it.2[0]?.getD (0, 0)).1, 0, t.2.2) := if_pos h
theorem rAp_n {t : rT} {it : rI} (h : ¬ it.1 = 3) : rAp t it = (t.1, t.2.1, rPutN it.1 it.2 t.2.2 it.2.length) := if_neg h
/-- the item of a number, as it lies in the reference's notes -/
theorem rd_at {n : Int} {rd : Int → Int} {items : List rI} (hok : ∀ it ∈ items, rOk n it) (h : rdAll rd items) {j : Nat} (hj : j < items.length) : ∃ it : rI, items[j]? = some it ∧ rd (10 * (j : Int)) = it.1 ∧ rOk n it ∧ (it.1 = 3 → rd (10 * (j : Int) + 1) = (it.2[0]?.getD (0, 0)).1) ∧
    (∀ i : Nat, it.1 ≠ 3 → i < it.2.length → rd (10 * (j : Int) + 1 + 2 * i) = (it.2[i]?.getD (0, 0)).1 ∧ rd (10 * (j : Int) + 2 + 2 * i) = (it.2[i]?.getD (0, 0)).2) := by
  obtain ⟨it, hit⟩ : ∃ it, items[j]? = some it := ⟨_, List.getElem?_eq_getElem hj⟩
  obtain ⟨h1, h2⟩ := h j it hit
  have hk := hok it (List.mem_of_getElem? hit)
  refine ⟨it, hit, h1, hk, fun h3 => ?_, fun i h3 hi => ?_⟩
  · rcases hk with ⟨a, b, -⟩ | ⟨pr, rfl, -⟩
    · omega
    · have := (h2 0 (pr, 0) rfl).1
      rw [show 10 * (j : Int) + 1 + 2 * ((0 : Nat) : Int) = 10 * (j : Int) + 1 by omega] at this
      exact this
  · have e := List.getElem?_eq_getElem hi
    have := h2 i _ e
    rw [e]
    exact ⟨this.1, this.2 h3⟩
