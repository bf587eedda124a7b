theorem hY_X1_inRange : jY yX1_inRange 3 := ⟨by decide +kernel, by decide +kernel, by decide +kernel⟩
set_option maxHeartbeats 4000000 in
set_option maxRecDepth 100000 in
/-- lo ≤ v ≤ hi -/
theorem c_X1_inRange (l : Launch) (u : jU) (v lo hi : Int) (hv : iR v) (hlo : iR lo) (hhi : iR hi) : jC l u yX1_inRange cX1_inRange 3 (some .boolean) 0 0 0 0 [iI v, iI lo, iI hi] [] (fun v_ w_ => ∃ (r : Int), ((r = 1 ∧ lo ≤ v ∧ v ≤ hi) ∨ (r = 0 ∧ ¬ (lo ≤ v ∧ v ≤ hi))) ∧ v_ = some (iI r) ∧ w_ = []) := by
  refine jC.of "FlashRatchet" (by decide +kernel) rfl (Nat.le_of_ble_eq_true rfl) [(0, iI v), (1, iI lo), (2, iI hi)] rfl (fun X G E I => ?_)
  refine j_iload_n G 0 rfl dX1_inRange_0 ?_
  refine j_iload_n G 1 rfl dX1_inRange_1 ?_
  refine j_icmp_lt 14 G hv hlo dX1_inRange_2 (by decide) (fun c_2 => ?_) (fun c_2 => ?_)
  · skip
    refine j_iconst G dX1_inRange_14 ?_
    exact j_zret G E (by (try unfold iR at *); omega) ⟨0, (by omega), rfl, rfl⟩ ⟨by omega, by omega⟩ dX1_inRange_15
  · skip
    refine j_iload_n G 0 rfl dX1_inRange_5 ?_
    refine j_iload_n G 2 rfl dX1_inRange_6 ?_
    refine j_icmp_gt 14 G hv hhi dX1_inRange_7 (by decide) (fun c_7 => ?_) (fun c_7 => ?_)
    · skip
      refine j_iconst G dX1_inRange_14 ?_
      exact j_zret G E (by (try unfold iR at *); omega) ⟨0, (by omega), rfl, rfl⟩ ⟨by omega, by omega⟩ dX1_inRange_15
    · skip
      refine j_iconst G dX1_inRange_10 ?_
      refine j_goto 15 G dX1_inRange_11 (by decide) ?_
      exact j_zret G E (by (try unfold iR at *); omega) ⟨1, (by omega), rfl, rfl⟩ ⟨by omega, by omega⟩ dX1_inRange_15
theorem hY_X1_isLever : jY yX1_isLever 1 := ⟨by decide +kernel, by decide +kernel, by decide +kernel⟩
set_option maxHeartbeats 4000000 in
set_option maxRecDepth 100000 in
theorem c_X1_isLever (l : Launch) (u : jU) (v : Int) (hv : iR v) : jC l u yX1_isLever cX1_isLever 1 (some .boolean) 1 22 0 0 [iI v] [] (fun v_ w_ => ∃ (r : Int), ((r = 1 ∧ 0 ≤ v ∧ v ≤ 2) ∨ (r = 0 ∧ ¬ (0 ≤ v ∧ v ≤ 2))) ∧ v_ = some (iI r) ∧ w_ = []) := by
  refine jC.of "FlashRatchet" (by decide +kernel) rfl (Nat.le_of_ble_eq_true rfl) [(0, iI v)] rfl (fun X G E I => ?_)
  refine j_iload_n G 0 rfl dX1_isLever_0 ?_
  refine j_iconst G dX1_isLever_1 ?_
  refine j_iconst G dX1_isLever_2 ?_
  refine j_callS (wr := []) (k' := 0) (n' := 0) G (c_X1_inRange l u v 0 2 hv (by unfold iR; omega) (by unfold iR; omega)) hY_X1_inRange q658 q659 q85 q660 (jcut 0 [] (by decide) rfl rfl) ⟨by omega, by omega, by omega, by omega, by omega, by omega⟩ (Nat.le_of_ble_eq_true rfl) dX1_isLever_3 rfl (fun v_ w_ hp => ?_)
  obtain ⟨r_3, h3_1, rfl, rfl⟩ := hp
  show jJ X u 1 [] [(0, iI v)] 0 0 6 [iI r_3]
  exact j_zret G E (by (try unfold iR at *); omega) ⟨r_3, (by omega), rfl, rfl⟩ ⟨by omega, by omega⟩ dX1_isLever_6
theorem hY_X1_isPosition : jY yX1_isPosition 1 := ⟨by decide +kernel, by decide +kernel, by decide +kernel⟩
set_option maxHeartbeats 4000000 in
set_option maxRecDepth 100000 in
theorem c_X1_isPosition (l : Launch) (u : jU) (x0 nu sb : Nat) (n gr pw pr ix po sd gn tk hs : Int) (v : Int) (hv : iR v) (hn : 2 ≤ n ∧ n ≤ 4) : jC l u yX1_isPosition cX1_isPosition 2 (some .boolean) 1 22 0 0 [.ref x0, iI v] [[(x0, jO 0 [iI n, .ref nu, iI gr, iI pw, iI pr, iI ix, iI po, iI sd, iI gn, iI tk, .ref sb, lI hs])]] (fun v_ w_ => ∃ (r : Int), ((r = 1 ∧ 0 ≤ v ∧ v < n) ∨ (r = 0 ∧ ¬ (0 ≤ v ∧ v < n))) ∧ v_ = some (iI r) ∧ w_ = [[(x0, jO 0 [iI n, .ref nu, iI gr, iI pw, iI pr, iI ix, iI po, iI sd, iI gn, iI tk, .ref sb, lI hs])]]) := by
  refine jC.of "FlashRatchet" (by decide +kernel) rfl (Nat.le_of_ble_eq_true rfl) [(0, .ref x0), (1, iI v)] rfl (fun X G E I => ?_)
  refine j_iload_n G 1 rfl dX1_isPosition_0 ?_
  refine j_iconst G dX1_isPosition_1 ?_
  refine j_aload_n G 0 rfl dX1_isPosition_2 ?_
  refine j_get G FX1 (jAt_1 0 rfl) 0 (by decide) q173 rfl dX1_isPosition_3 ?_
  refine j_iconst G dX1_isPosition_6 ?_
  refine j_isub G dX1_isPosition_7 ?_
  refine j_callS (wr := [[(x0, jO 0 [iI n, .ref nu, iI gr, iI pw, iI pr, iI ix, iI po, iI sd, iI gn, iI tk, .ref sb, lI hs])]]) (k' := 0) (n' := 0) G (c_X1_inRange l u v 0 (n - 1) hv (by unfold iR; omega) (by unfold iR at *; omega)) hY_X1_inRange q658 q659 q85 q660 (jcut 1 [0] (by decide) rfl rfl) ⟨by omega, by omega, by omega, by omega, by omega, by omega⟩ (Nat.le_of_ble_eq_true rfl) dX1_isPosition_8 rfl (fun v_ w_ hp => ?_)
  obtain ⟨r_8, h8_1, rfl, rfl⟩ := hp
  show jJ X u 2 [[(x0, jO 0 [iI n, .ref nu, iI gr, iI pw, iI pr, iI ix, iI po, iI sd, iI gn, iI tk, .ref sb, lI hs])]] [(0, .ref x0), (1, iI v)] 0 0 11 [iI r_8]
  exact j_zret G E (by (try unfold iR at *); omega) ⟨r_8, (by omega), rfl, rfl⟩ ⟨by omega, by omega⟩ dX1_isPosition_11
theorem hY_X1_isGeared : jY yX1_isGeared 1 := ⟨by decide +kernel, by decide +kernel, by decide +kernel⟩
set_option maxHeartbeats 4000000 in
set_option maxRecDepth 100000 in
theorem c_X1_isGeared (l : Launch) (u : jU) (x0 nu sb : Nat) (n gr pw pr ix po sd gn tk hs : Int) (v : Int) (hv : 0 ≤ v ∧ v ≤ 2) (hg : 0 ≤ gr ∧ gr ≤ 7) : jC l u yX1_isGeared cX1_isGeared 2 (some .boolean) 0 0 0 0 [.ref x0, iI v] [[(x0, jO 0 [iI n, .ref nu, iI gr, iI pw, iI pr, iI ix, iI po, iI sd, iI gn, iI tk, .ref sb, lI hs])]] (fun v_ w_ => ∃ (r : Int), r = sBit gr v ∧ (r = 0 ∨ r = 1) ∧ v_ = some (iI r) ∧ w_ = [[(x0, jO 0 [iI n, .ref nu, iI gr, iI pw, iI pr, iI ix, iI po, iI sd, iI gn, iI tk, .ref sb, lI hs])]]) := by
  refine jC.of "FlashRatchet" (by decide +kernel) rfl (Nat.le_of_ble_eq_true rfl) [(0, .ref x0), (1, iI v)] rfl (fun X G E I => ?_)
  refine j_aload_n G 0 rfl dX1_isGeared_0 ?_
  refine j_get G FX1 (jAt_1 0 rfl) 2 (by decide) q177 rfl dX1_isGeared_1 ?_
  refine j_iload_n G 1 rfl dX1_isGeared_4 ?_
  refine j_ishr G dX1_isGeared_5 ?_
  refine j_iconst G dX1_isGeared_6 ?_
  have hb := sBit_eq (s := gr) (i := v) (by omega) (by omega)
  have hb2 := sBit_01 gr v
  refine j_iand G dX1_isGeared_7 ?_
  refine j_eq (st' := [iI (sBit gr v)]) (by rw [hb]) ?_
  refine j_iconst G dX1_isGeared_8 ?_
  refine j_icmp_ne 16 G (by unfold iR at *; omega) (by unfold iR; omega) dX1_isGeared_9 (by decide) (fun c_9 => ?_) (fun c_9 => ?_)
  · skip
    refine j_iconst G dX1_isGeared_16 ?_
    exact j_zret G E (by (try unfold iR at *); omega) ⟨0, (by omega), (by omega), rfl, rfl⟩ ⟨by omega, by omega⟩ dX1_isGeared_17
  · skip
    refine j_iconst G dX1_isGeared_12 ?_
    refine j_goto 17 G dX1_isGeared_13 (by decide) ?_
    exact j_zret G E (by (try unfold iR at *); omega) ⟨1, (by omega), (by omega), rfl, rfl⟩ ⟨by omega, by omega⟩ dX1_isGeared_17
theorem hY_X1_number : jY yX1_number 2 := ⟨by decide +kernel, by decide +kernel, by decide +kernel⟩
set_option maxHeartbeats 4000000 in
set_option maxRecDepth 100000 in
theorem c_X1_number (l : Launch) (u : jU) (x0 nu sb : Nat) (n gr pw pr ix po sd gn tk hs : Int)(nm : Int → Int) (lv p : Int) (hl : 0 ≤ lv ∧ lv ≤ 2) (hp : 0 ≤ p ∧ p ≤ 3) : jC l u yX1_number cX1_number 3 (some .int) 0 0 0 0 [.ref x0, iI lv, iI p] [[(x0, jO 0 [iI n, .ref nu, iI gr, iI pw, iI pr, iI ix, iI po, iI sd, iI gn, iI tk, .ref sb, lI hs])], [(nu, cI u 12 nm)]] (fun v_ w_ => v_ = some (iI (nm (4 * lv + p))) ∧ w_ = [[(x0, jO 0 [iI n, .ref nu, iI gr, iI pw, iI pr, iI ix, iI po, iI sd, iI gn, iI tk, .ref sb, lI hs])], [(nu, cI u 12 nm)]]) := by
  refine jC.of "FlashRatchet" (by decide +kernel) rfl (Nat.le_of_ble_eq_true rfl) [(0, .ref x0), (1, iI lv), (2, iI p)] rfl (fun X G E I => ?_)
  refine j_aload_n G 0 rfl dX1_number_0 ?_
  refine j_get G FX1 (jAt_1 0 rfl) 1 (by decide) q175 rfl dX1_number_1 ?_
  refine j_iconst G dX1_number_4 ?_
  refine j_iload_n G 1 rfl dX1_number_5 ?_
  refine j_imul G dX1_number_6 ?_
  refine j_iload_n G 2 rfl dX1_number_7 ?_
  refine j_iadd G dX1_number_8 ?_
  refine j_iaload G (jAt_1 1 rfl) (by (try unfold iR at *); omega) (by (try unfold iR at *); omega) (by (try unfold iR at *); omega) dX1_number_9 ?_
  exact j_iret G E ⟨rfl, rfl⟩ ⟨by omega, by omega⟩ dX1_number_10
theorem hY_X1_moved : jY yX1_moved 2 := ⟨by decide +kernel, by decide +kernel, by decide +kernel⟩
set_option maxHeartbeats 4000000 in
set_option maxRecDepth 100000 in
theorem c_X1_moved (l : Launch) (u : jU) (x0 nu sb : Nat) (n gr pw pr ix po sd gn tk hs : Int) (p m : Int) (hn : 2 ≤ n ∧ n ≤ 4) (hp : 0 ≤ p ∧ p < n) (hm : -1 ≤ m ∧ m ≤ 1) : jC l u yX1_moved cX1_moved 3 (some .int) 0 0 0 0 [.ref x0, iI p, iI m] [[(x0, jO 0 [iI n, .ref nu, iI gr, iI pw, iI pr, iI ix, iI po, iI sd, iI gn, iI tk, .ref sb, lI hs])]] (fun v_ w_ => ∃ (r : Int), r = (p + m + n) % n ∧ (0 ≤ r ∧ r < n) ∧ v_ = some (iI r) ∧ w_ = [[(x0, jO 0 [iI n, .ref nu, iI gr, iI pw, iI pr, iI ix, iI po, iI sd, iI gn, iI tk, .ref sb, lI hs])]]) := by
  refine jC.of "FlashRatchet" (by decide +kernel) rfl (Nat.le_of_ble_eq_true rfl) [(0, .ref x0), (1, iI p), (2, iI m)] rfl (fun X G E I => ?_)
  refine j_iload_n G 1 rfl dX1_moved_0 ?_
  refine j_iload_n G 2 rfl dX1_moved_1 ?_
  refine j_iadd G dX1_moved_2 ?_
  refine j_aload_n G 0 rfl dX1_moved_3 ?_
  refine j_get G FX1 (jAt_1 0 rfl) 0 (by decide) q173 rfl dX1_moved_4 ?_
  refine j_iadd G dX1_moved_7 ?_
  refine j_aload_n G 0 rfl dX1_moved_8 ?_
  refine j_get G FX1 (jAt_1 0 rfl) 0 (by decide) q173 rfl dX1_moved_9 ?_
  refine j_iremN G (by (try unfold iR at *); omega) (by (try unfold iR at *); omega) dX1_moved_12 ?_
  exact j_iret G E ⟨(((p + m) + n) % n), rfl, ⟨Int.emod_nonneg _ (by omega), Int.emod_lt_of_pos _ (by omega)⟩, rfl, rfl⟩ ⟨by omega, by omega⟩ dX1_moved_13
theorem hY_X1_length : jY yX1_length 1 := ⟨by decide +kernel, by decide +kernel, by decide +kernel⟩
set_option maxHeartbeats 4000000 in
set_option maxRecDepth 100000 in
theorem c_X1_length (l : Launch) (u : jU) (p : Int) (hp : iR p) : jC l u yX1_length cX1_length 3 (some .int) 0 0 0 0 [iI p] [] (fun v_ w_ => ∃ (r : Int), r = sLen p ∧ (0 ≤ r ∧ r ≤ 16) ∧ v_ = some (iI r) ∧ w_ = []) := by
  refine jC.of "FlashRatchet" (by decide +kernel) rfl (Nat.le_of_ble_eq_true rfl) [(0, iI p)] rfl (fun X G E I => ?_)
  refine j_iconst G dX1_length_0 ?_
  refine j_istore_n G [(1, iI 0), (0, iI p)] rfl (by decide) dX1_length_1 ?_
  refine j_iload_n G 1 rfl dX1_length_2 ?_
  refine j_istore_n G [(2, iI p), (1, iI 0), (0, iI p)] rfl (by decide) dX1_length_3 ?_
  have L4 : ∀ (m : Nat) (c : Int) (r : Int), r.toNat < m → iR r → c + sLen r = sLen p → (0 ≤ c ∧ c ≤ 16) → jJ X u 3 [] [(0, iI p), (1, iI c), (2, iI r)] 0 0 4 [] := by
    intro m
    induction m with
    | zero =>
      intro c r g1 g2 g3 g4
      exfalso
      omega
    | succ m ih_L4 =>
      intro c r g1 g2 g3 g4
      refine j_iload_n G 2 rfl dX1_length_4 ?_
      refine j_if_le 18 G g2 dX1_length_5 (by decide) (fun c_5 => ?_) (fun c_5 => ?_)
      · skip
        refine j_iload_n G 1 rfl dX1_length_18 ?_
        exact j_iret G E ⟨c, (by have e := sLen_0 c_5; omega), (by have e := sLen_0 c_5; omega), rfl, rfl⟩ ⟨by omega, by omega⟩ dX1_length_19
      · skip
        refine j_iinc G 1 rfl [(1, iI (c + 1)), (0, iI p), (2, iI r)] rfl (by decide) dX1_length_8 ?_
        refine j_iload_n G 2 rfl dX1_length_11 ?_
        refine j_iconst G dX1_length_12 ?_
        refine j_idivN G (by (try unfold iR at *); omega) (by (try unfold iR at *); omega) dX1_length_13 ?_
        refine j_istore_n G [(2, iI (r / 4)), (1, iI (c + 1)), (0, iI p)] rfl (by decide) dX1_length_14 ?_
        refine j_goto 4 G dX1_length_15 (by decide) ?_
        refine j_lv [2, 1, 0] rfl ?_
        exact ih_L4 (c + 1) (r / 4) (by (try unfold iR at *); omega) (by unfold iR at *; omega) (by have e := sLen_s (r := r) (by omega) g2; omega) (by have e := sLen_s (r := r) (by omega) g2; have e2 := sLen_R p; have e3 := sLen_R (r / 4); omega)
  refine j_lv [2, 1, 0] rfl ?_
  exact L4 (p.toNat + 1) 0 p (by (try unfold iR at *); omega) hp (by omega) (by omega)
theorem hY_X1_lever : jY yX1_lever 2 := ⟨by decide +kernel, by decide +kernel, by decide +kernel⟩
set_option maxHeartbeats 4000000 in
set_option maxRecDepth 100000 in
theorem c_X1_lever (l : Launch) (u : jU) (p i : Int) (hp : sProg p = 1) (hi : 0 ≤ i ∧ i < sLen p) : jC l u yX1_lever cX1_lever 4 (some .int) 1 22 0 0 [iI p, iI i] [] (fun v_ w_ => ∃ (r : Int), r = sLev p i ∧ (0 ≤ r ∧ r ≤ 2) ∧ v_ = some (iI r) ∧ w_ = []) := by
  refine jC.of "FlashRatchet" (by decide +kernel) rfl (Nat.le_of_ble_eq_true rfl) [(0, iI p), (1, iI i)] rfl (fun X G E I => ?_)
  have hq := sProg_in hp
  have hl := sLen_prog hp
  refine j_iload_n G 0 rfl dX1_lever_0 ?_
  refine j_istore_n G [(2, iI p), (0, iI p), (1, iI i)] rfl (by decide) dX1_lever_1 ?_
  refine j_iload_n G 1 rfl dX1_lever_2 ?_
  refine j_callS (wr := []) (k' := 0) (n' := 0) G (c_X1_length l u p (by unfold iR at *; omega)) hY_X1_length q706 q679 q85 q680 (jcut 0 [] (by decide) rfl rfl) ⟨by omega, by omega, by omega, by omega, by omega, by omega⟩ (Nat.le_of_ble_eq_true rfl) dX1_lever_3 rfl (fun v_ w_ hp => ?_)
  obtain ⟨r_3, h3_1, h3_2, rfl, rfl⟩ := hp
  show jJ X u 4 [] [(2, iI p), (0, iI p), (1, iI i)] 0 0 6 [iI r_3]
  refine j_iconst G dX1_lever_6 ?_
  refine j_isub G dX1_lever_7 ?_
  refine j_istore_n G [(3, iI (r_3 - 1)), (2, iI p), (0, iI p), (1, iI i)] rfl (by decide) dX1_lever_8 ?_
  have L9 : ∀ (m : Nat) (j : Nat) (r : Int) (k : Int), k.toNat < m → k = sLen p - 1 - j → r = divF p j → i ≤ k → jJ X u 4 [] [(0, iI p), (1, iI i), (2, iI r), (3, iI k)] 0 0 9 [] := by
    intro m
    induction m with
    | zero =>
      intro j r k g1 g2 g3 g4
      exfalso
      omega
    | succ m ih_L9 =>
      intro j r k g1 g2 g3 g4
      have hr := divF_R (p := p) (by omega) j
      refine j_iload_n G 3 rfl dX1_lever_9 ?_
      refine j_iload_n G 1 rfl dX1_lever_10 ?_
      refine j_icmp_le 24 G (by unfold iR at *; omega) (by unfold iR at *; omega) dX1_lever_11 (by decide) (fun c_11 => ?_) (fun c_11 => ?_)
      · skip
        have hj : j = (sLen p - 1 - i).toNat := by omega
        have e : r % 4 - 1 = sLev p i := by rw [g3, hj]; rfl
        have e2 := sLev_R hp hi.1 hi.2
        refine j_iload_n G 2 rfl dX1_lever_24 ?_
        refine j_iconst G dX1_lever_25 ?_
        refine j_iremN G (by (try unfold iR at *); omega) (by (try unfold iR at *); omega) dX1_lever_26 ?_
        refine j_iconst G dX1_lever_27 ?_
        refine j_isub G dX1_lever_28 ?_
        exact j_iret G E ⟨((r % 4) - 1), (by omega), (by omega), rfl, rfl⟩ ⟨by omega, by omega⟩ dX1_lever_29
      · skip
        refine j_iload_n G 2 rfl dX1_lever_14 ?_
        refine j_iconst G dX1_lever_15 ?_
        refine j_idivN G (by (try unfold iR at *); omega) (by (try unfold iR at *); omega) dX1_lever_16 ?_
        refine j_istore_n G [(2, iI (r / 4)), (0, iI p), (1, iI i), (3, iI k)] rfl (by decide) dX1_lever_17 ?_
        refine j_iinc G 3 rfl [(3, iI (k + (-1))), (2, iI (r / 4)), (0, iI p), (1, iI i)] rfl (by decide) dX1_lever_18 ?_
        refine j_goto 9 G dX1_lever_21 (by decide) ?_
        refine j_lv [2, 3, 1, 0] rfl ?_
        exact ih_L9 (j + 1) (r / 4) (k + (-1)) (by (try unfold iR at *); omega) (by (try unfold iR at *); omega) (by rw [g3]; rfl) (by (try unfold iR at *); omega)
  refine j_lv [2, 3, 1, 0] rfl ?_
  exact L9 ((sLen p).toNat + 1) 0 p (r_3 - 1) (by (try unfold iR at *); omega) (by (try unfold iR at *); omega) rfl (by (try unfold iR at *); omega)
theorem hY_X1_isProgram : jY yX1_isProgram 1 := ⟨by decide +kernel, by decide +kernel, by decide +kernel⟩
set_option maxHeartbeats 4000000 in
set_option maxRecDepth 100000 in
theorem c_X1_isProgram (l : Launch) (u : jU) (p : Int) (hp : iR p) : jC l u yX1_isProgram cX1_isProgram 3 (some .boolean) 1 22 0 0 [iI p] [] (fun v_ w_ => ∃ (r : Int), r = sProg p ∧ (r = 0 ∨ r = 1) ∧ v_ = some (iI r) ∧ w_ = []) := by
  refine jC.of "FlashRatchet" (by decide +kernel) rfl (Nat.le_of_ble_eq_true rfl) [(0, iI p)] rfl (fun X G E I => ?_)
  have L20 : ∀ (m : Nat) (a : Int) (r : Int), r.toNat < m → iR r → ((a = 1 → sDig r = sProg p) ∧ (a = 0 → sProg p = 0)) → (a = 0 ∨ a = 1) → jJ X u 3 [] [(0, iI p), (1, iI a), (2, iI r)] 0 0 20 [] := by
    intro m
    induction m with
    | zero =>
      intro a r g1 g2 g3 g4
      exfalso
      omega
    | succ m ih_L20 =>
      intro a r g1 g2 g3 g4
      refine j_iload_n G 2 rfl dX1_isProgram_20 ?_
      refine j_if_le 45 G g2 dX1_isProgram_21 (by decide) (fun c_21 => ?_) (fun c_21 => ?_)
      · skip
        refine j_iload_n G 1 rfl dX1_isProgram_45 ?_
        exact j_zret G E (by (try unfold iR at *); omega) ⟨a, (by have e := sDig_0 (r := r) (by omega); omega), (by have e := sDig_0 (r := r) (by omega); omega), rfl, rfl⟩ ⟨by omega, by omega⟩ dX1_isProgram_46
      · skip
        refine j_iload_n G 1 rfl dX1_isProgram_24 ?_
        refine j_iload_n G 2 rfl dX1_isProgram_25 ?_
        refine j_iconst G dX1_isProgram_26 ?_
        refine j_iremN G (by (try unfold iR at *); omega) (by (try unfold iR at *); omega) dX1_isProgram_27 ?_
        refine j_if_le 35 G (by unfold iR at *; omega) dX1_isProgram_28 (by decide) (fun c_28 => ?_) (fun c_28 => ?_)
        · skip
          refine j_iconst G dX1_isProgram_35 ?_
          refine j_iand G dX1_isProgram_36 ?_
          refine j_eq (st' := [iI 0]) (by rw [jAnd_0 g4]) ?_
          refine j_istore_n G [(1, iI 0), (0, iI p), (2, iI r)] rfl (by decide) dX1_isProgram_37 ?_
          refine j_iload_n G 2 rfl dX1_isProgram_38 ?_
          refine j_iconst G dX1_isProgram_39 ?_
          refine j_idivN G (by (try unfold iR at *); omega) (by (try unfold iR at *); omega) dX1_isProgram_40 ?_
          refine j_istore_n G [(2, iI (r / 4)), (1, iI 0), (0, iI p)] rfl (by decide) dX1_isProgram_41 ?_
          refine j_goto 20 G dX1_isProgram_42 (by decide) ?_
          refine j_lv [2, 1, 0] rfl ?_
          exact ih_L20 0 (r / 4) (by (try unfold iR at *); omega) (by unfold iR at *; omega) (by have e := sDig_s (r := r) (by omega) g2; split at e <;> omega) (by (try unfold iR at *); omega)
        · skip
          refine j_iconst G dX1_isProgram_31 ?_
          refine j_goto 36 G dX1_isProgram_32 (by decide) ?_
          refine j_iand G dX1_isProgram_36 ?_
          refine j_eq (st' := [iI a]) (by rw [jAnd_1 g4]) ?_
          refine j_istore_n G [(1, iI a), (0, iI p), (2, iI r)] rfl (by decide) dX1_isProgram_37 ?_
          refine j_iload_n G 2 rfl dX1_isProgram_38 ?_
          refine j_iconst G dX1_isProgram_39 ?_
          refine j_idivN G (by (try unfold iR at *); omega) (by (try unfold iR at *); omega) dX1_isProgram_40 ?_
          refine j_istore_n G [(2, iI (r / 4)), (1, iI a), (0, iI p)] rfl (by decide) dX1_isProgram_41 ?_
          refine j_goto 20 G dX1_isProgram_42 (by decide) ?_
          refine j_lv [2, 1, 0] rfl ?_
          exact ih_L20 a (r / 4) (by (try unfold iR at *); omega) (by unfold iR at *; omega) (by have e := sDig_s (r := r) (by omega) g2; split at e <;> omega) (by (try unfold iR at *); omega)
  refine j_iload_n G 0 rfl dX1_isProgram_0 ?_
  refine j_if_le 16 G hp dX1_isProgram_1 (by decide) (fun c_1 => ?_) (fun c_1 => ?_)
  · skip
    refine j_iconst G dX1_isProgram_16 ?_
    refine j_istore_n G [(1, iI 0), (0, iI p)] rfl (by decide) dX1_isProgram_17 ?_
    refine j_iload_n G 1 rfl dX1_isProgram_18 ?_
    refine j_istore_n G [(2, iI p), (1, iI 0), (0, iI p)] rfl (by decide) dX1_isProgram_19 ?_
    refine j_lv [2, 1, 0] rfl ?_
    exact L20 (p.toNat + 1) 0 p (by (try unfold iR at *); omega) hp (by have e := sProg_y (p := p); have e2 := sProg_n (p := p); have e3 := sLen_4 (p := p); have e4 := sDig_01 p; omega) (by (try unfold iR at *); omega)
  · skip
    refine j_iload_n G 0 rfl dX1_isProgram_4 ?_
    refine j_callS (wr := []) (k' := 0) (n' := 0) G (c_X1_length l u p hp) hY_X1_length q706 q679 q85 q680 (jcut 0 [] (by decide) rfl rfl) ⟨by omega, by omega, by omega, by omega, by omega, by omega⟩ (Nat.le_of_ble_eq_true rfl) dX1_isProgram_5 rfl (fun v_ w_ hp => ?_)
    obtain ⟨r_5, h5_1, h5_2, rfl, rfl⟩ := hp
    show jJ X u 3 [] [(0, iI p)] 0 0 8 [iI r_5]
    refine j_iconst G dX1_isProgram_8 ?_
    refine j_icmp_gt 16 G (by unfold iR at *; omega) (by unfold iR; omega) dX1_isProgram_9 (by decide) (fun c_9 => ?_) (fun c_9 => ?_)
    · skip
      refine j_iconst G dX1_isProgram_16 ?_
      refine j_istore_n G [(1, iI 0), (0, iI p)] rfl (by decide) dX1_isProgram_17 ?_
      refine j_iload_n G 1 rfl dX1_isProgram_18 ?_
      refine j_istore_n G [(2, iI p), (1, iI 0), (0, iI p)] rfl (by decide) dX1_isProgram_19 ?_
      refine j_lv [2, 1, 0] rfl ?_
      exact L20 (p.toNat + 1) 0 p (by (try unfold iR at *); omega) hp (by have e := sProg_y (p := p); have e2 := sProg_n (p := p); have e3 := sLen_4 (p := p); have e4 := sDig_01 p; omega) (by (try unfold iR at *); omega)
    · skip
      refine j_iconst G dX1_isProgram_12 ?_
      refine j_goto 17 G dX1_isProgram_13 (by decide) ?_
      refine j_istore_n G [(1, iI 1), (0, iI p)] rfl (by decide) dX1_isProgram_17 ?_
      refine j_iload_n G 1 rfl dX1_isProgram_18 ?_
      refine j_istore_n G [(2, iI p), (1, iI 1), (0, iI p)] rfl (by decide) dX1_isProgram_19 ?_
      refine j_lv [2, 1, 0] rfl ?_
      exact L20 (p.toNat + 1) 1 p (by (try unfold iR at *); omega) hp (by have e := sProg_y (p := p); have e2 := sProg_n (p := p); have e3 := sLen_4 (p := p); have e4 := sDig_01 p; omega) (by (try unfold iR at *); omega)
theorem hY_X1_usesGeared : jY yX1_usesGeared 1 := ⟨by decide +kernel, by decide +kernel, by decide +kernel⟩
set_option maxHeartbeats 4000000 in
set_option maxRecDepth 100000 in
theorem c_X1_usesGeared (l : Launch) (u : jU) (x0 nu sb : Nat) (n gr pw pr ix po sd gn tk hs : Int) (p : Int) (hp : sProg p = 1) (hg : 0 ≤ gr ∧ gr ≤ 7) : jC l u yX1_usesGeared cX1_usesGeared 4 (some .boolean) 2 45 0 0 [.ref x0, iI p] [[(x0, jO 0 [iI n, .ref nu, iI gr, iI pw, iI pr, iI ix, iI po, iI sd, iI gn, iI tk, .ref sb, lI hs])]] (fun v_ w_ => ∃ (r : Int), r = sUses gr p ∧ (r = 0 ∨ r = 1) ∧ v_ = some (iI r) ∧ w_ = [[(x0, jO 0 [iI n, .ref nu, iI gr, iI pw, iI pr, iI ix, iI po, iI sd, iI gn, iI tk, .ref sb, lI hs])]]) := by
  refine jC.of "FlashRatchet" (by decide +kernel) rfl (Nat.le_of_ble_eq_true rfl) [(0, .ref x0), (1, iI p)] rfl (fun X G E I => ?_)
  have hq := sProg_in hp
  have hl := sLen_prog hp
  refine j_iconst G dX1_usesGeared_0 ?_
  refine j_istore_n G [(2, iI 1), (0, .ref x0), (1, iI p)] rfl (by decide) dX1_usesGeared_1 ?_
  refine j_iconst G dX1_usesGeared_2 ?_
  refine j_istore_n G [(3, iI 0), (2, iI 1), (0, .ref x0), (1, iI p)] rfl (by decide) dX1_usesGeared_3 ?_
  have L4 : ∀ (m : Nat) (j : Nat) (a : Int) (k : Int), (sLen p).toNat - j < m → k = j → a = usesF gr p j → j ≤ (sLen p).toNat → jJ X u 4 [[(x0, jO 0 [iI n, .ref nu, iI gr, iI pw, iI pr, iI ix, iI po, iI sd, iI gn, iI tk, .ref sb, lI hs])]] [(0, .ref x0), (1, iI p), (2, iI a), (3, iI k)] 0 0 4 [] := by
    intro m
    induction m with
    | zero =>
      intro j a k g1 g2 g3 g4
      exfalso
      omega
    | succ m ih_L4 =>
      intro j a k g1 g2 g3 g4
      have ga := usesF_01 gr p j
      refine j_iload_n G 3 rfl dX1_usesGeared_4 ?_
      refine j_iload_n G 1 rfl dX1_usesGeared_5 ?_
      refine j_callS (wr := [[(x0, jO 0 [iI n, .ref nu, iI gr, iI pw, iI pr, iI ix, iI po, iI sd, iI gn, iI tk, .ref sb, lI hs])]]) (k' := 0) (n' := 0) G (c_X1_length l u p (by unfold iR at *; omega)) hY_X1_length q706 q679 q85 q680 (jcut 1 [0] (by decide) rfl rfl) ⟨by omega, by omega, by omega, by omega, by omega, by omega⟩ (Nat.le_of_ble_eq_true rfl) dX1_usesGeared_6 rfl (fun v_ w_ hp => ?_)
      obtain ⟨r_6, h6_1, h6_2, rfl, rfl⟩ := hp
      show jJ X u 4 [[(x0, jO 0 [iI n, .ref nu, iI gr, iI pw, iI pr, iI ix, iI po, iI sd, iI gn, iI tk, .ref sb, lI hs])]] [(0, .ref x0), (1, iI p), (2, iI a), (3, iI k)] 0 0 9 [iI r_6, iI k]
      refine j_icmp_ge 30 G (by unfold iR at *; omega) (by unfold iR at *; omega) dX1_usesGeared_9 (by decide) (fun c_9 => ?_) (fun c_9 => ?_)
      · skip
        refine j_iload_n G 2 rfl dX1_usesGeared_30 ?_
        exact j_zret G E (by (try unfold iR at *); omega) ⟨a, (by have e : j = (sLen p).toNat := (by omega); rw [g3, e]; rfl), (by omega), rfl, rfl⟩ ⟨by omega, by omega⟩ dX1_usesGeared_31
      · skip
        refine j_iload_n G 2 rfl dX1_usesGeared_12 ?_
        refine j_aload_n G 0 rfl dX1_usesGeared_13 ?_
        refine j_iload_n G 1 rfl dX1_usesGeared_14 ?_
        refine j_iload_n G 3 rfl dX1_usesGeared_15 ?_
        refine j_callS (wr := [[(x0, jO 0 [iI n, .ref nu, iI gr, iI pw, iI pr, iI ix, iI po, iI sd, iI gn, iI tk, .ref sb, lI hs])]]) (k' := 0) (n' := 0) G (c_X1_lever l u p k hp (by omega)) hY_X1_lever q859 q704 q85 q705 (jcut 1 [0] (by decide) rfl rfl) ⟨by omega, by omega, by omega, by omega, by omega, by omega⟩ (Nat.le_of_ble_eq_true rfl) dX1_usesGeared_16 rfl (fun v_ w_ hp => ?_)
        obtain ⟨r_16, h16_1, h16_2, rfl, rfl⟩ := hp
        show jJ X u 4 [[(x0, jO 0 [iI n, .ref nu, iI gr, iI pw, iI pr, iI ix, iI po, iI sd, iI gn, iI tk, .ref sb, lI hs])]] [(0, .ref x0), (1, iI p), (2, iI a), (3, iI k)] 0 0 19 [iI r_16, .ref x0, iI a]
        refine j_callV (wr := []) (k' := 0) (n' := 0) G FX1 (c_X1_isGeared l u x0 nu sb n gr pw pr ix po sd gn tk hs r_16 h16_2 hg) (jAt_1 0 rfl) ⟨rfl, hY_X1_isGeared⟩ q720 q722 qs14 q85 q723 (jcut 1 [0] (by decide) rfl rfl) ⟨by omega, by omega, by omega, by omega, by omega, by omega⟩ (Nat.le_of_ble_eq_true rfl) dX1_usesGeared_19 rfl (fun v_ w_ hp => ?_)
        obtain ⟨r_19, h19_1, h19_2, rfl, rfl⟩ := hp
        show jJ X u 4 [[(x0, jO 0 [iI n, .ref nu, iI gr, iI pw, iI pr, iI ix, iI po, iI sd, iI gn, iI tk, .ref sb, lI hs])]] [(0, .ref x0), (1, iI p), (2, iI a), (3, iI k)] 0 0 22 [iI r_19, iI a]
        refine j_iand G dX1_usesGeared_22 ?_
        refine j_eq (st' := [iI (a * r_19)]) (by rw [jAnd_01 (by omega) h19_2]) ?_
        refine j_istore_n G [(2, iI (a * r_19)), (0, .ref x0), (1, iI p), (3, iI k)] rfl (by decide) dX1_usesGeared_23 ?_
        refine j_iinc G 3 rfl [(3, iI (k + 1)), (2, iI (a * r_19)), (0, .ref x0), (1, iI p)] rfl (by decide) dX1_usesGeared_24 ?_
        refine j_goto 4 G dX1_usesGeared_27 (by decide) ?_
        refine j_lv [2, 3, 1, 0] rfl ?_
        exact ih_L4 (j + 1) (a * r_19) (k + 1) (by (try unfold iR at *); omega) (by (try unfold iR at *); omega) (by subst g2; rw [h19_1, h16_1, g3]; rfl) (by (try unfold iR at *); omega)
  refine j_lv [2, 3, 1, 0] rfl ?_
  exact L4 ((sLen p).toNat + 1) 0 1 0 (by (try unfold iR at *); omega) rfl rfl (by (try unfold iR at *); omega)
theorem hY_X1_draws : jY yX1_draws 3 := ⟨by decide +kernel, by decide +kernel, by decide +kernel⟩
set_option maxHeartbeats 4000000 in
set_option maxRecDepth 100000 in
theorem c_X1_draws (l : Launch) (u : jU) (x0 nu sb : Nat) (n gr pw pr ix po sd gn tk hs : Int)(nm : Int → Int) (lv p m : Int) (hl : 0 ≤ lv ∧ lv ≤ 2) (hp : 0 ≤ p ∧ p ≤ 3) (hm : -1 ≤ m ∧ m ≤ 1) (hg : 0 ≤ gr ∧ gr ≤ 7) (hw : 0 ≤ pw ∧ pw ≤ 15) (hN : wN nm) : jC l u yX1_draws cX1_draws 6 (some .int) 1 22 0 0 [.ref x0, iI lv, iI p, iI m] [[(x0, jO 0 [iI n, .ref nu, iI gr, iI pw, iI pr, iI ix, iI po, iI sd, iI gn, iI tk, .ref sb, lI hs])], [(nu, cI u 12 nm)]] (fun v_ w_ => ∃ (r : Int), r = sDraw gr pw (hB nm) (hF nm) lv p m ∧ (0 ≤ r ∧ r ≤ 10) ∧ v_ = some (iI r) ∧ w_ = [[(x0, jO 0 [iI n, .ref nu, iI gr, iI pw, iI pr, iI ix, iI po, iI sd, iI gn, iI tk, .ref sb, lI hs])], [(nu, cI u 12 nm)]]) := by
  refine jC.of "FlashRatchet" (by decide +kernel) rfl (Nat.le_of_ble_eq_true rfl) [(0, .ref x0), (1, iI lv), (2, iI p), (3, iI m)] rfl (fun X G E I => ?_)
  have ht := hN (4 * lv + p) (by omega) (by omega)
  have hd := sDraw_R (gr := gr) (pw := pw) (wN_T hN) hl hp
  have L34 : ∀ (b : Int), b = sBack gr pw (hB nm) lv p → jJ X u 6 [[(x0, jO 0 [iI n, .ref nu, iI gr, iI pw, iI pr, iI ix, iI po, iI sd, iI gn, iI tk, .ref sb, lI hs])], [(nu, cI u 12 nm)]] [(0, .ref x0), (1, iI lv), (2, iI p), (3, iI m), (4, iI b)] 0 0 34 [] := by
    intro b g1
    have L57 : ∀ (f : Int), f = sForw gr (hF nm) lv p → jJ X u 6 [[(x0, jO 0 [iI n, .ref nu, iI gr, iI pw, iI pr, iI ix, iI po, iI sd, iI gn, iI tk, .ref sb, lI hs])], [(nu, cI u 12 nm)]] [(0, .ref x0), (1, iI lv), (2, iI p), (3, iI m), (4, iI b), (5, iI f)] 0 0 57 [] := by
      intro f g2
      refine j_iload_n G 3 rfl dX1_draws_57 ?_
      refine j_if_ge 66 G (by unfold iR at *; omega) dX1_draws_58 (by decide) (fun c_58 => ?_) (fun c_58 => ?_)
      · skip
        refine j_iload_n G 3 rfl dX1_draws_66 ?_
        refine j_if_le 75 G (by unfold iR at *; omega) dX1_draws_67 (by decide) (fun c_67 => ?_) (fun c_67 => ?_)
        · skip
          refine j_bipush G (by decide) dX1_draws_75 ?_
          refine j_iload G 4 rfl dX1_draws_77 ?_
          refine j_isub G dX1_draws_79 ?_
          refine j_iload G 5 rfl dX1_draws_80 ?_
          refine j_isub G dX1_draws_82 ?_
          exact j_iret G E ⟨((10 - b) - f), (by unfold sDraw; (repeat' split) <;> omega), (by omega), rfl, rfl⟩ ⟨by omega, by omega⟩ dX1_draws_83
        · skip
          refine j_iload G 5 rfl dX1_draws_70 ?_
          refine j_goto 83 G dX1_draws_72 (by decide) ?_
          exact j_iret G E ⟨f, (by unfold sDraw; (repeat' split) <;> omega), (by omega), rfl, rfl⟩ ⟨by omega, by omega⟩ dX1_draws_83
      · skip
        refine j_iload G 4 rfl dX1_draws_61 ?_
        refine j_goto 83 G dX1_draws_63 (by decide) ?_
        exact j_iret G E ⟨b, (by unfold sDraw; (repeat' split) <;> omega), (by omega), rfl, rfl⟩ ⟨by omega, by omega⟩ dX1_draws_83
    refine j_aload_n G 0 rfl dX1_draws_34 ?_
    refine j_iload_n G 1 rfl dX1_draws_35 ?_
    refine j_callV (wr := [[(nu, cI u 12 nm)]]) (k' := 0) (n' := 0) G FX1 (c_X1_isGeared l u x0 nu sb n gr pw pr ix po sd gn tk hs lv hl hg) (jAt_1 0 rfl) ⟨rfl, hY_X1_isGeared⟩ q720 q722 qs14 q85 q723 (jcut 2 [0, 1] (by decide) rfl rfl) ⟨by omega, by omega, by omega, by omega, by omega, by omega⟩ (Nat.le_of_ble_eq_true rfl) dX1_draws_36 rfl (fun v_ w_ hp => ?_)
    obtain ⟨r_36, h36_1, h36_2, rfl, rfl⟩ := hp
    show jJ X u 6 [[(x0, jO 0 [iI n, .ref nu, iI gr, iI pw, iI pr, iI ix, iI po, iI sd, iI gn, iI tk, .ref sb, lI hs])], [(nu, cI u 12 nm)]] [(0, .ref x0), (1, iI lv), (2, iI p), (3, iI m), (4, iI b)] 0 0 39 [iI r_36]
    refine j_if_eq 54 G (by unfold iR at *; omega) dX1_draws_39 (by decide) (fun c_39 => ?_) (fun c_39 => ?_)
    · skip
      refine j_iconst G dX1_draws_54 ?_
      refine j_istore G [(5, iI 0), (0, .ref x0), (1, iI lv), (2, iI p), (3, iI m), (4, iI b)] rfl (by decide) dX1_draws_55 ?_
      refine j_lv [1, 2, 3, 4, 5, 0] rfl ?_
      exact L57 0 (by simp only [sForw, hF]; (repeat' split) <;> omega)
    · skip
      refine j_aload_n G 0 rfl dX1_draws_42 ?_
      refine j_iload_n G 1 rfl dX1_draws_43 ?_
      refine j_iload_n G 2 rfl dX1_draws_44 ?_
      refine j_callV (wr := []) (k' := 0) (n' := 0) G FX1 (c_X1_number l u x0 nu sb n gr pw pr ix po sd gn tk hs nm lv p hl hp) (jAt_1 0 rfl) ⟨rfl, hY_X1_number⟩ q724 q726 qs15 q85 q727 (jcut 2 [0, 1] (by decide) rfl rfl) ⟨by omega, by omega, by omega, by omega, by omega, by omega⟩ (Nat.le_of_ble_eq_true rfl) dX1_draws_45 rfl (fun v_ w_ hp => ?_)
      obtain ⟨rfl, rfl⟩ := hp
      show jJ X u 6 [[(x0, jO 0 [iI n, .ref nu, iI gr, iI pw, iI pr, iI ix, iI po, iI sd, iI gn, iI tk, .ref sb, lI hs])], [(nu, cI u 12 nm)]] [(0, .ref x0), (1, iI lv), (2, iI p), (3, iI m), (4, iI b)] 0 0 48 [iI (nm (4 * lv + p))]
      refine j_bipush G (by decide) dX1_draws_48 ?_
      refine j_iremN G (by (try unfold iR at *); omega) (by (try unfold iR at *); omega) dX1_draws_50 ?_
      refine j_goto 55 G dX1_draws_51 (by decide) ?_
      refine j_istore G [(5, iI (nm (4 * lv + p) % 100)), (0, .ref x0), (1, iI lv), (2, iI p), (3, iI m), (4, iI b)] rfl (by decide) dX1_draws_55 ?_
      refine j_lv [1, 2, 3, 4, 5, 0] rfl ?_
      exact L57 (nm (4 * lv + p) % 100) (by simp only [sForw, hF]; (repeat' split) <;> omega)
  refine j_aload_n G 0 rfl dX1_draws_0 ?_
  refine j_iload_n G 1 rfl dX1_draws_1 ?_
  refine j_callV (wr := [[(nu, cI u 12 nm)]]) (k' := 0) (n' := 0) G FX1 (c_X1_isGeared l u x0 nu sb n gr pw pr ix po sd gn tk hs lv hl hg) (jAt_1 0 rfl) ⟨rfl, hY_X1_isGeared⟩ q720 q722 qs14 q85 q723 (jcut 2 [0, 1] (by decide) rfl rfl) ⟨by omega, by omega, by omega, by omega, by omega, by omega⟩ (Nat.le_of_ble_eq_true rfl) dX1_draws_2 rfl (fun v_ w_ hp => ?_)
  obtain ⟨r_2, h2_1, h2_2, rfl, rfl⟩ := hp
  show jJ X u 6 [[(x0, jO 0 [iI n, .ref nu, iI gr, iI pw, iI pr, iI ix, iI po, iI sd, iI gn, iI tk, .ref sb, lI hs])], [(nu, cI u 12 nm)]] [(0, .ref x0), (1, iI lv), (2, iI p), (3, iI m)] 0 0 5 [iI r_2]
  refine j_if_eq 31 G (by unfold iR at *; omega) dX1_draws_5 (by decide) (fun c_5 => ?_) (fun c_5 => ?_)
  · skip
    refine j_iconst G dX1_draws_31 ?_
    refine j_istore G [(4, iI 0), (0, .ref x0), (1, iI lv), (2, iI p), (3, iI m)] rfl (by decide) dX1_draws_32 ?_
    refine j_lv [1, 2, 3, 4, 0] rfl ?_
    exact L34 0 (by simp only [sBack, hB]; (repeat' split) <;> omega)
  · skip
    refine j_aload_n G 0 rfl dX1_draws_8 ?_
    refine j_get G FX1 (jAt_1 0 rfl) 3 (by decide) q178 rfl dX1_draws_9 ?_
    refine j_iload_n G 2 rfl dX1_draws_12 ?_
    refine j_ishr G dX1_draws_13 ?_
    refine j_iconst G dX1_draws_14 ?_
    have hb := sBit_eq (s := pw) (i := p) (by omega) (by omega)
    have hb2 := sBit_01 pw p
    refine j_iand G dX1_draws_15 ?_
    refine j_eq (st' := [iI (sBit pw p)]) (by rw [hb]) ?_
    refine j_if_ne 31 G (by unfold iR at *; omega) dX1_draws_16 (by decide) (fun c_16 => ?_) (fun c_16 => ?_)
    · skip
      refine j_iconst G dX1_draws_31 ?_
      refine j_istore G [(4, iI 0), (0, .ref x0), (1, iI lv), (2, iI p), (3, iI m)] rfl (by decide) dX1_draws_32 ?_
      refine j_lv [1, 2, 3, 4, 0] rfl ?_
      exact L34 0 (by simp only [sBack, hB]; (repeat' split) <;> omega)
    · skip
      refine j_aload_n G 0 rfl dX1_draws_19 ?_
      refine j_iload_n G 1 rfl dX1_draws_20 ?_
      refine j_iload_n G 2 rfl dX1_draws_21 ?_
      refine j_callV (wr := []) (k' := 0) (n' := 0) G FX1 (c_X1_number l u x0 nu sb n gr pw pr ix po sd gn tk hs nm lv p hl hp) (jAt_1 0 rfl) ⟨rfl, hY_X1_number⟩ q724 q726 qs15 q85 q727 (jcut 2 [0, 1] (by decide) rfl rfl) ⟨by omega, by omega, by omega, by omega, by omega, by omega⟩ (Nat.le_of_ble_eq_true rfl) dX1_draws_22 rfl (fun v_ w_ hp => ?_)
      obtain ⟨rfl, rfl⟩ := hp
      show jJ X u 6 [[(x0, jO 0 [iI n, .ref nu, iI gr, iI pw, iI pr, iI ix, iI po, iI sd, iI gn, iI tk, .ref sb, lI hs])], [(nu, cI u 12 nm)]] [(0, .ref x0), (1, iI lv), (2, iI p), (3, iI m)] 0 0 25 [iI (nm (4 * lv + p))]
      refine j_bipush G (by decide) dX1_draws_25 ?_
      refine j_idivN G (by (try unfold iR at *); omega) (by (try unfold iR at *); omega) dX1_draws_27 ?_
      refine j_goto 32 G dX1_draws_28 (by decide) ?_
      refine j_istore G [(4, iI (nm (4 * lv + p) / 100)), (0, .ref x0), (1, iI lv), (2, iI p), (3, iI m)] rfl (by decide) dX1_draws_32 ?_
      refine j_lv [1, 2, 3, 4, 0] rfl ?_
      exact L34 (nm (4 * lv + p) / 100) (by simp only [sBack, hB]; (repeat' split) <;> omega)
theorem hY_X1_moveBy : jY yX1_moveBy 3 := ⟨by decide +kernel, by decide +kernel, by decide +kernel⟩
set_option maxHeartbeats 4000000 in
set_option maxRecDepth 100000 in
theorem c_X1_moveBy (l : Launch) (u : jU) (x0 nu sb : Nat) (n gr pw pr ix po sd gn tk hs : Int)(nm : Int → Int) (lv p d : Int) (hl : 0 ≤ lv ∧ lv ≤ 2) (hp : 0 ≤ p ∧ p ≤ 3) (hd : 0 ≤ d ∧ d ≤ 9) (hg : 0 ≤ gr ∧ gr ≤ 7) (hw : 0 ≤ pw ∧ pw ≤ 15) (hN : wN nm) : jC l u yX1_moveBy cX1_moveBy 4 (some .int) 1 22 0 0 [.ref x0, iI lv, iI p, iI d] [[(x0, jO 0 [iI n, .ref nu, iI gr, iI pw, iI pr, iI ix, iI po, iI sd, iI gn, iI tk, .ref sb, lI hs])], [(nu, cI u 12 nm)]] (fun v_ w_ => ∃ (r : Int), r = sMove gr pw (hB nm) (hF nm) lv p d ∧ (-1 ≤ r ∧ r ≤ 1) ∧ v_ = some (iI r) ∧ w_ = [[(x0, jO 0 [iI n, .ref nu, iI gr, iI pw, iI pr, iI ix, iI po, iI sd, iI gn, iI tk, .ref sb, lI hs])], [(nu, cI u 12 nm)]]) := by
  refine jC.of "FlashRatchet" (by decide +kernel) rfl (Nat.le_of_ble_eq_true rfl) [(0, .ref x0), (1, iI lv), (2, iI p), (3, iI d)] rfl (fun X G E I => ?_)
  have ht := hN (4 * lv + p) (by omega) (by omega)
  refine j_aload_n G 0 rfl dX1_moveBy_0 ?_
  refine j_iload_n G 1 rfl dX1_moveBy_1 ?_
  refine j_callV (wr := [[(nu, cI u 12 nm)]]) (k' := 0) (n' := 0) G FX1 (c_X1_isGeared l u x0 nu sb n gr pw pr ix po sd gn tk hs lv hl hg) (jAt_1 0 rfl) ⟨rfl, hY_X1_isGeared⟩ q720 q722 qs14 q85 q723 (jcut 2 [0, 1] (by decide) rfl rfl) ⟨by omega, by omega, by omega, by omega, by omega, by omega⟩ (Nat.le_of_ble_eq_true rfl) dX1_moveBy_2 rfl (fun v_ w_ hp => ?_)
  obtain ⟨r_2, h2_1, h2_2, rfl, rfl⟩ := hp
  show jJ X u 4 [[(x0, jO 0 [iI n, .ref nu, iI gr, iI pw, iI pr, iI ix, iI po, iI sd, iI gn, iI tk, .ref sb, lI hs])], [(nu, cI u 12 nm)]] [(0, .ref x0), (1, iI lv), (2, iI p), (3, iI d)] 0 0 5 [iI r_2]
  refine j_if_ne 10 G (by unfold iR at *; omega) dX1_moveBy_5 (by decide) (fun c_5 => ?_) (fun c_5 => ?_)
  · skip
    refine j_iload_n G 3 rfl dX1_moveBy_10 ?_
    refine j_aload_n G 0 rfl dX1_moveBy_11 ?_
    refine j_iload_n G 1 rfl dX1_moveBy_12 ?_
    refine j_iload_n G 2 rfl dX1_moveBy_13 ?_
    refine j_callV (wr := []) (k' := 0) (n' := 0) G FX1 (c_X1_number l u x0 nu sb n gr pw pr ix po sd gn tk hs nm lv p hl hp) (jAt_1 0 rfl) ⟨rfl, hY_X1_number⟩ q724 q726 qs15 q85 q727 (jcut 2 [0, 1] (by decide) rfl rfl) ⟨by omega, by omega, by omega, by omega, by omega, by omega⟩ (Nat.le_of_ble_eq_true rfl) dX1_moveBy_14 rfl (fun v_ w_ hp => ?_)
    obtain ⟨rfl, rfl⟩ := hp
    show jJ X u 4 [[(x0, jO 0 [iI n, .ref nu, iI gr, iI pw, iI pr, iI ix, iI po, iI sd, iI gn, iI tk, .ref sb, lI hs])], [(nu, cI u 12 nm)]] [(0, .ref x0), (1, iI lv), (2, iI p), (3, iI d)] 0 0 17 [iI (nm (4 * lv + p)), iI d]
    refine j_bipush G (by decide) dX1_moveBy_17 ?_
    refine j_idivN G (by (try unfold iR at *); omega) (by (try unfold iR at *); omega) dX1_moveBy_19 ?_
    refine j_icmp_ge 41 G (by unfold iR at *; omega) (by unfold iR at *; omega) dX1_moveBy_20 (by decide) (fun c_20 => ?_) (fun c_20 => ?_)
    · skip
      refine j_iload_n G 3 rfl dX1_moveBy_41 ?_
      refine j_bipush G (by decide) dX1_moveBy_42 ?_
      refine j_aload_n G 0 rfl dX1_moveBy_44 ?_
      refine j_iload_n G 1 rfl dX1_moveBy_45 ?_
      refine j_iload_n G 2 rfl dX1_moveBy_46 ?_
      refine j_callV (wr := []) (k' := 0) (n' := 0) G FX1 (c_X1_number l u x0 nu sb n gr pw pr ix po sd gn tk hs nm lv p hl hp) (jAt_1 0 rfl) ⟨rfl, hY_X1_number⟩ q724 q726 qs15 q85 q727 (jcut 2 [0, 1] (by decide) rfl rfl) ⟨by omega, by omega, by omega, by omega, by omega, by omega⟩ (Nat.le_of_ble_eq_true rfl) dX1_moveBy_47 rfl (fun v_ w_ hp => ?_)
      obtain ⟨rfl, rfl⟩ := hp
      show jJ X u 4 [[(x0, jO 0 [iI n, .ref nu, iI gr, iI pw, iI pr, iI ix, iI po, iI sd, iI gn, iI tk, .ref sb, lI hs])], [(nu, cI u 12 nm)]] [(0, .ref x0), (1, iI lv), (2, iI p), (3, iI d)] 0 0 50 [iI (nm (4 * lv + p)), iI 10, iI d]
      refine j_bipush G (by decide) dX1_moveBy_50 ?_
      refine j_iremN G (by (try unfold iR at *); omega) (by (try unfold iR at *); omega) dX1_moveBy_52 ?_
      refine j_isub G dX1_moveBy_53 ?_
      refine j_icmp_lt 61 G (by unfold iR at *; omega) (by unfold iR at *; omega) dX1_moveBy_54 (by decide) (fun c_54 => ?_) (fun c_54 => ?_)
      · skip
        refine j_iconst G dX1_moveBy_61 ?_
        exact j_iret G E ⟨0, (by simp only [sMove, hB, hF]; (repeat' split) <;> omega), (by omega), rfl, rfl⟩ ⟨by omega, by omega⟩ dX1_moveBy_62
      · skip
        refine j_iconst G dX1_moveBy_57 ?_
        refine j_goto 62 G dX1_moveBy_58 (by decide) ?_
        exact j_iret G E ⟨1, (by simp only [sMove, hB, hF]; (repeat' split) <;> omega), (by omega), rfl, rfl⟩ ⟨by omega, by omega⟩ dX1_moveBy_62
    · skip
      refine j_aload_n G 0 rfl dX1_moveBy_23 ?_
      refine j_get G FX1 (jAt_1 0 rfl) 3 (by decide) q178 rfl dX1_moveBy_24 ?_
      refine j_iload_n G 2 rfl dX1_moveBy_27 ?_
      refine j_ishr G dX1_moveBy_28 ?_
      refine j_iconst G dX1_moveBy_29 ?_
      have hb := sBit_eq (s := pw) (i := p) (by omega) (by omega)
      have hb2 := sBit_01 pw p
      refine j_iand G dX1_moveBy_30 ?_
      refine j_eq (st' := [iI (sBit pw p)]) (by rw [hb]) ?_
      refine j_iconst G dX1_moveBy_31 ?_
      refine j_icmp_ne 39 G (by unfold iR at *; omega) (by unfold iR; omega) dX1_moveBy_32 (by decide) (fun c_32 => ?_) (fun c_32 => ?_)
      · skip
        refine j_iconst G dX1_moveBy_39 ?_
        exact j_iret G E ⟨(-1), (by simp only [sMove, hB, hF]; (repeat' split) <;> omega), (by omega), rfl, rfl⟩ ⟨by omega, by omega⟩ dX1_moveBy_40
      · skip
        refine j_iconst G dX1_moveBy_35 ?_
        refine j_goto 40 G dX1_moveBy_36 (by decide) ?_
        exact j_iret G E ⟨0, (by simp only [sMove, hB, hF]; (repeat' split) <;> omega), (by omega), rfl, rfl⟩ ⟨by omega, by omega⟩ dX1_moveBy_40
  · skip
    refine j_iconst G dX1_moveBy_8 ?_
    exact j_iret G E ⟨0, (by simp only [sMove, hB, hF]; (repeat' split) <;> omega), (by omega), rfl, rfl⟩ ⟨by omega, by omega⟩ dX1_moveBy_9
