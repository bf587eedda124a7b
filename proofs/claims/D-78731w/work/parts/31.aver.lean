/-! PURE: averages and shares -/
def wtN (c : tC) (p : Int) : Int := trN c.1 (rM c) p
def totN (c : tC) : Int := sumF (wtN c) c.1.toNat
def sumG (c : tC) : Int := sumF (fun p => wtN c p * rGa c p) c.1.toNat
def avF (c : tC) : Int × Int := fr (sumG c) (totN c * rSc c * sLen c.2.2.2.1)
def shF (c : tC) (p : Int) : Int × Int := fr (wtN c p) (totN c)
def clC (c : tC) : Int := clN c.1 (rM c)
def avN (c : tC) : Int × Int := if clC c ≤ 1 then avF c else (0, 0)
def shN (c : tC) (p : Int) : Int × Int := if clC c ≤ 1 then shF c p else (0, 0)
def prt (x : Int × Int) (w : Int) : Int := if w = 0 then x.1 else x.2
def dF (w : Int → Int) : Nat → Int
  | 0 => 0
  | p + 1 => gcI (w (p : Int)) (dF w p)
def vN (c : tC) (p : Int) : Int := (wtN c p).tdiv (dF (wtN c) c.1.toNat)
theorem wtN_R {c : tC} (hc : wC c) {p : Int} (hp : 0 ≤ p ∧ p < c.1) : 0 ≤ wtN c p ∧ wtN c p ≤ 1000000000000 := by
  have hs := rSc_R hc
  have hn : 2 ≤ c.1 ∧ c.1 ≤ 4 := by obtain ⟨n, gr, pw, pr, B, F⟩ := c; exact hc.1
  exact trN_R (S := rSc c) hn hp ⟨by omega, hs.2⟩ (fun p a b q => (rM_R hc ⟨a, b⟩ q).1) (fun p a b => rM_sum hc ⟨a, b⟩)
theorem wtN_mn {c : tC} (hc : wC c) {p : Int} (hp : 0 ≤ p ∧ p < c.1) : mnr c.1 (rM c) (rSc c) p = wtN c p := by
  have hn : 2 ≤ c.1 ∧ c.1 ≤ 4 := by obtain ⟨n, gr, pw, pr, B, F⟩ := c; exact hc.1
  exact mnr_tr hn hp (fun p a b => rM_sum hc ⟨a, b⟩)
theorem totN_pos {c : tC} (hc : wC c) (h : clC c ≤ 1) : 0 < totN c := by
  have hn : 2 ≤ c.1 ∧ c.1 ≤ 4 := by obtain ⟨n, gr, pw, pr, B, F⟩ := c; exact hc.1
  exact posT hn (fun p q a b _ _ => (rM_R hc ⟨a, b⟩ q).1) h
theorem dF_dvd {w : Int → Int} {p : Int} : ∀ {k : Nat}, 0 ≤ p → p < k → dF w k ∣ w p
  | 0, h0, h1 => by omega
  | k + 1, h0, h1 => by
    show gcI (w (k : Int)) (dF w k) ∣ w p
    by_cases e : p = k
    · subst e
      exact Int.gcd_dvd_left _ _
    · exact Int.dvd_trans (Int.gcd_dvd_right _ _) (dF_dvd (k := k) h0 (by omega))
theorem gcI_0 {a b : Int} (h : gcI a b = 0) : a = 0 ∧ b = 0 := by
  unfold gcI at h
  exact Int.gcd_eq_zero_iff.mp (by omega)
theorem gcI_nn (a b : Int) : 0 ≤ gcI a b := by unfold gcI; omega
theorem dF_R {w : Int → Int} {m : Int} (hm : 0 ≤ m) : ∀ {k : Nat}, (∀ p : Int, 0 ≤ p → p < k → 0 ≤ w p ∧ w p ≤ m) → 0 ≤ dF w k ∧ dF w k ≤ m ∧ (dF w k = 0 → ∀ p : Int, 0 ≤ p → p < k → w p = 0)
  | 0, _ => ⟨Int.le_refl _, hm, fun _ p a b => by omega⟩
  | k + 1, h => by
    obtain ⟨i1, i2, i3⟩ := dF_R hm (w := w) (k := k) (fun p a b => h p a (by omega))
    have hk := h k (by omega) (by omega)
    show 0 ≤ gcI (w (k : Int)) (dF w k) ∧ gcI (w (k : Int)) (dF w k) ≤ m ∧ (gcI (w (k : Int)) (dF w k) = 0 → _)
    refine ⟨gcI_nn _ _, ?_, fun hz => ?_⟩
    · by_cases hd : 0 < dF w k
      · have := gcI_le (a := w (k : Int)) hd
        omega
      · have e : dF w k = 0 := by omega
        rw [e]
        unfold gcI
        rw [Int.gcd_zero_right]
        omega
    · obtain ⟨z1, z2⟩ := gcI_0 hz
      intro p a b
      by_cases e : p = k
      · subst e; exact z1
      · exact i3 z2 p a (by omega)
theorem dF_pos {w : Int → Int} {m : Int} {k : Nat} (hm : 0 ≤ m) (h : ∀ p : Int, 0 ≤ p → p < k → 0 ≤ w p ∧ w p ≤ m) (hs : 0 < sumF w k) : 0 < dF w k := by
  obtain ⟨i1, i2, i3⟩ := dF_R hm h
  apply Classical.byContradiction
  intro hn
  have := sumF_0 (f := w) (m := k) (i3 (by omega))
  omega
theorem sumF_nn' {f : Int → Int} : ∀ {m : Nat}, (∀ i : Int, 0 ≤ i → i < m → 0 ≤ f i) → 0 ≤ sumF f m
  | 0, _ => Int.le_refl _
  | m + 1, h => by
    have h1 := sumF_nn' (m := m) (fun i a b => h i a (by omega))
    have h2 := h m (by omega) (by omega)
    unfold sumF
    omega
theorem sumF_up {f : Int → Int} {b : Int} : ∀ {m : Nat}, (∀ i : Int, 0 ≤ i → i < m → f i ≤ b) → sumF f m ≤ m * b
  | 0, _ => by simp [sumF]
  | m + 1, h => by
    have h1 := sumF_up (m := m) (fun i a b => h i a (by omega))
    have h2 := h m (by omega) (by omega)
    have e : ((m + 1 : Nat) : Int) * b = m * b + b := by push_cast; grind
    unfold sumF
    omega
theorem sumF_dn {f : Int → Int} {b : Int} : ∀ {m : Nat}, (∀ i : Int, 0 ≤ i → i < m → b ≤ f i) → m * b ≤ sumF f m
  | 0, _ => by simp [sumF]
  | m + 1, h => by
    have h1 := sumF_dn (m := m) (fun i a b => h i a (by omega))
    have h2 := h m (by omega) (by omega)
    have e : ((m + 1 : Nat) : Int) * b = m * b + b := by push_cast; grind
    unfold sumF
    omega
theorem dd_pos {c : tC} (hc : wC c) (h : clC c ≤ 1) : 0 < dF (wtN c) c.1.toNat ∧ dF (wtN c) c.1.toNat ≤ 1000000000000 := by
  have hr := fun (p : Int) (a : 0 ≤ p) (b : p < c.1.toNat) => wtN_R hc (p := p) ⟨a, by omega⟩
  exact ⟨dF_pos (m := 1000000000000) (by omega) hr (totN_pos hc h), (dF_R (by omega) hr).2.1⟩
theorem vN_eq {c : tC} (hc : wC c) (h : clC c ≤ 1) {p : Int} (hp : 0 ≤ p ∧ p < c.1) : wtN c p = dF (wtN c) c.1.toNat * vN c p ∧ 0 ≤ vN c p ∧ vN c p ≤ 1000000000000 := by
  have hd := dd_pos hc h
  have hv := dF_dvd (w := wtN c) (k := c.1.toNat) hp.1 (by omega)
  have hr := wtN_R hc hp
  have e : dF (wtN c) c.1.toNat * vN c p = wtN c p := Int.mul_tdiv_cancel' hv
  have h0 : 0 ≤ vN c p := Int.tdiv_nonneg hr.1 (by omega)
  refine ⟨e.symm, h0, ?_⟩
  have : 1 * vN c p ≤ dF (wtN c) c.1.toNat * vN c p := Int.mul_le_mul_of_nonneg_right (by omega) h0
  omega
theorem vN_tot {c : tC} (hc : wC c) (h : clC c ≤ 1) : totN c = dF (wtN c) c.1.toNat * sumF (vN c) c.1.toNat := by
  unfold totN
  rw [← sumF_mul]
  exact sumF_c (fun i a b => (vN_eq hc h ⟨a, by omega⟩).1)
theorem vN_sum {c : tC} (hc : wC c) (h : clC c ≤ 1) : sumG c = dF (wtN c) c.1.toNat * sumF (fun p => vN c p * rGa c p) c.1.toNat := by
  unfold sumG
  rw [← sumF_mul]
  refine sumF_c (fun i a b => ?_)
  rw [(vN_eq hc h ⟨a, by omega⟩).1, Int.mul_assoc]
theorem vN_al {c : tC} (hc : wC c) (h : clC c ≤ 1) : 0 < sumF (vN c) c.1.toNat ∧ sumF (vN c) c.1.toNat ≤ 4000000000000 := by
  have hn : 2 ≤ c.1 ∧ c.1 ≤ 4 := by obtain ⟨n, gr, pw, pr, B, F⟩ := c; exact hc.1
  have hd := dd_pos hc h
  have ht := totN_pos hc h
  rw [vN_tot hc h] at ht
  refine ⟨Int.pos_of_mul_pos_right ht (by omega), ?_⟩
  have := sumF_up (f := vN c) (b := 1000000000000) (m := c.1.toNat) (fun i a b => (vN_eq hc h ⟨a, by omega⟩).2.2)
  omega
theorem vN_sR {c : tC} (hc : wC c) (h : clC c ≤ 1) (k : Nat) (hk : (k : Int) ≤ c.1) : -160000000000000000 ≤ sumF (fun p => vN c p * rGa c p) k ∧ sumF (fun p => vN c p * rGa c p) k ≤ 160000000000000000 := by
  have hn : 2 ≤ c.1 ∧ c.1 ≤ 4 := by obtain ⟨n, gr, pw, pr, B, F⟩ := c; exact hc.1
  have key : ∀ i : Int, 0 ≤ i → i < k → -40000000000000000 ≤ vN c i * rGa c i ∧ vN c i * rGa c i ≤ 40000000000000000 := by
    intro i a b
    have hv := (vN_eq hc h (p := i) ⟨a, by omega⟩).2
    have hg := rGa_R hc (a := i) ⟨a, by omega⟩
    have k1 : vN c i * rGa c i ≤ vN c i * 40000 := Int.mul_le_mul_of_nonneg_left hg.2 hv.1
    have k2 : vN c i * -40000 ≤ vN c i * rGa c i := Int.mul_le_mul_of_nonneg_left hg.1 hv.1
    omega
  have h1 := sumF_up (f := fun p => vN c p * rGa c p) (m := k) (fun i a b => (key i a b).2)
  have h2 := sumF_dn (f := fun p => vN c p * rGa c p) (m := k) (fun i a b => (key i a b).1)
  omega
theorem vN_av {c : tC} (hc : wC c) (h : clC c ≤ 1) : fr (sumF (fun p => vN c p * rGa c p) c.1.toNat) (sumF (vN c) c.1.toNat * rSc c * sLen c.2.2.2.1) = avF c := by
  unfold avF
  rw [vN_tot hc h, vN_sum hc h, ← fr_mul (dd_pos hc h).1, Int.mul_assoc, Int.mul_assoc, Int.mul_assoc]
theorem vN_sh {c : tC} (hc : wC c) (h : clC c ≤ 1) (p : Int) (hp : 0 ≤ p ∧ p < c.1) : fr (vN c p) (sumF (vN c) c.1.toNat) = shF c p := by
  unfold shF
  rw [vN_tot hc h, (vN_eq hc h hp).1, fr_mul (dd_pos hc h).1]
theorem vN_den {c : tC} (hc : wC c) (h : clC c ≤ 1) : 0 < sumF (vN c) c.1.toNat * rSc c * sLen c.2.2.2.1 ∧ sumF (vN c) c.1.toNat * rSc c * sLen c.2.2.2.1 ≤ 160000000000000000 := by
  have ha := vN_al hc h
  have hs := rSc_R hc
  have hl : 1 ≤ sLen c.2.2.2.1 ∧ sLen c.2.2.2.1 ≤ 4 := by obtain ⟨n, gr, pw, pr, B, F⟩ := c; exact sLen_prog hc.2.2.2.1
  have k1 := Int.mul_pos ha.1 (show 0 < rSc c by omega)
  have k2 : sumF (vN c) c.1.toNat * rSc c ≤ 4000000000000 * 10000 := Int.mul_le_mul ha.2 hs.2 (by omega) (by omega)
  refine ⟨Int.mul_pos k1 (by omega), ?_⟩
  have k3 : sumF (vN c) c.1.toNat * rSc c * sLen c.2.2.2.1 ≤ 4000000000000 * 10000 * 4 := Int.mul_le_mul k2 hl.2 (by omega) (by omega)
  omega
theorem fr_pos {a b : Int} (hb : 0 < b) : 0 < (fr a b).2 := by
  have h1 := gcI_pos (a := a) hb
  have h2 : gcI a b * (b.tdiv (gcI a b)) = b := Int.mul_tdiv_cancel' (Int.gcd_dvd_right _ _)
  show 0 < b.tdiv (gcI a b)
  exact Int.pos_of_mul_pos_right (show 0 < gcI a b * (b.tdiv (gcI a b)) by omega) (by omega)
