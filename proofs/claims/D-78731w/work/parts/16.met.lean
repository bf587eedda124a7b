/-! PURE: the reference's notes of situations -/
def cMet (c : tC) (q : tQ) (f g : Int → Int) (j : Nat) : Prop := (∀ i : Nat, i < j → f (tCode (tIt c i q)) = i + 1 ∧ g (tCode (tIt c i q)) = tSum c i q) ∧ (∀ k : Int, 0 ≤ k → k < 16000 → (∀ i : Nat, i < j → tCode (tIt c i q) ≠ k) → f k = 0)
theorem cMet_0 {c : tC} {q : tQ} {f g : Int → Int} (h : ∀ k : Int, 0 ≤ k → k < 16000 → f k = 0) : cMet c q f g 0 := ⟨fun i hi => absurd hi (Nat.not_lt_zero i), fun k h0 h1 _ => h k h0 h1⟩
theorem code_ne {c : tC} {q : tQ} {mu la : Nat} (hc : wC c) (hq : wQ c q) (h : isCyc c q mu la) {i j : Nat} (hij : i < j) (hj : j < mu + la) : tCode (tIt c i q) ≠ tCode (tIt c j q) :=
  fun he => h.2.2 i j hij hj (tCode_inj hc (wQ_it hc hq i) (wQ_it hc hq j) he)
theorem cMet_s {c : tC} {q : tQ} {mu la : Nat} {f g : Int → Int} {j : Nat} (hc : wC c) (hq : wQ c q) (h : isCyc c q mu la) (hj : j < mu + la) (hm : cMet c q f g j) : cMet c q (uZ f (tCode (tIt c j q)) (j + 1)) (uZ g (tCode (tIt c j q)) (tSum c j q)) (j + 1) := by
  refine ⟨fun i hi => ?_, fun k h0 h1 hn => ?_⟩
  · by_cases hij : i = j
    · subst hij
      rw [uZ_s, uZ_s]
      exact ⟨rfl, rfl⟩
    · have hne := code_ne hc hq h (i := i) (j := j) (by omega) hj
      rw [uZ_n _ _ hne, uZ_n _ _ hne]
      exact hm.1 i (by omega)
  · rw [uZ_n _ _ (fun he => hn j (by omega) he.symm)]
    exact hm.2 k h0 h1 (fun i hi => hn i (by omega))
theorem cMet_end {c : tC} {q : tQ} {mu la : Nat} {f g : Int → Int} (h : isCyc c q mu la) (hm : cMet c q f g (mu + la)) : f (tCode (tIt c (mu + la) q)) = mu + 1 ∧ g (tCode (tIt c (mu + la) q)) = tSum c mu q := by
  rw [h.2.1]
  exact hm.1 mu (by have := h.1; omega)
theorem cMet_lt {c : tC} {q : tQ} {mu la : Nat} {f g : Int → Int} {j : Nat} (h : isCyc c q mu la) (hj : j ≤ mu + la) (hm : cMet c q f g j) (hz : f (tCode (tIt c j q)) = 0) : j < mu + la := by
  apply Classical.byContradiction
  intro hn
  have e : j = mu + la := by omega
  subst e
  have := (cMet_end h hm).1
  omega
theorem cMet_eq {c : tC} {q : tQ} {mu la : Nat} {f g : Int → Int} {j : Nat} (hc : wC c) (hq : wQ c q) (h : isCyc c q mu la) (hj : j ≤ mu + la) (hm : cMet c q f g j) (hz : ¬ f (tCode (tIt c j q)) = 0) : j = mu + la := by
  apply Classical.byContradiction
  intro hn
  have hr := tCode_R hc (wQ_it hc hq j)
  exact hz (hm.2 _ hr.1 hr.2 (fun i hi => code_ne hc hq h hi (by omega)))
