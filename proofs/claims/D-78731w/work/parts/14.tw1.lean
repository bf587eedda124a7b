theorem hY_X2_within : jY yX2_within 3 := ⟨by decide +kernel, by decide +kernel, by decide +kernel⟩
set_option maxHeartbeats 4000000 in
set_option maxRecDepth 100000 in
theorem c_X2_within (l : Launch) (u : jU) (v lo hi : Int) (hv : iR v) (hlo : iR lo) (hhi : iR hi) : jC l u yX2_within cX2_within 3 (some .boolean) 0 0 0 0 [iI v, iI lo, iI hi] [] (fun v_ w_ => ∃ (r : Int), ((r = 1 ∧ lo ≤ v ∧ v ≤ hi) ∨ (r = 0 ∧ ¬ (lo ≤ v ∧ v ≤ hi))) ∧ v_ = some (iI r) ∧ w_ = []) := by
  refine jC.of "FlashRatchetModel" (by decide +kernel) rfl (Nat.le_of_ble_eq_true rfl) [(0, iI v), (1, iI lo), (2, iI hi)] rfl (fun X G E I => ?_)
  refine j_iload_n G 0 rfl dX2_within_0 ?_
  refine j_iload_n G 1 rfl dX2_within_1 ?_
  refine j_icmp_lt 14 G hv hlo dX2_within_2 (by decide) (fun c_2 => ?_) (fun c_2 => ?_)
  · skip
    refine j_iconst G dX2_within_14 ?_
    exact j_zret G E (by (try unfold iR at *); omega) ⟨0, (by omega), rfl, rfl⟩ ⟨by omega, by omega⟩ dX2_within_15
  · skip
    refine j_iload_n G 0 rfl dX2_within_5 ?_
    refine j_iload_n G 2 rfl dX2_within_6 ?_
    refine j_icmp_gt 14 G hv hhi dX2_within_7 (by decide) (fun c_7 => ?_) (fun c_7 => ?_)
    · skip
      refine j_iconst G dX2_within_14 ?_
      exact j_zret G E (by (try unfold iR at *); omega) ⟨0, (by omega), rfl, rfl⟩ ⟨by omega, by omega⟩ dX2_within_15
    · skip
      refine j_iconst G dX2_within_10 ?_
      refine j_goto 15 G dX2_within_11 (by decide) ?_
      exact j_zret G E (by (try unfold iR at *); omega) ⟨1, (by omega), rfl, rfl⟩ ⟨by omega, by omega⟩ dX2_within_15
theorem hY_X2_isPosition : jY yX2_isPosition 1 := ⟨by decide +kernel, by decide +kernel, by decide +kernel⟩
set_option maxHeartbeats 4000000 in
set_option maxRecDepth 100000 in
theorem c_X2_isPosition (l : Launch) (u : jU) (y0 aT aX aR aM aG aN aQ aO aS aH aU aW : Nat) (th n gr pw po pr ix sd gn tk ln zs zl za zf ze zi zc bp ls wn sc al nr dr ba bb hh : Int) (v : Int) (hv : iR v) (hn : 2 ≤ n ∧ n ≤ 4) : jC l u yX2_isPosition cX2_isPosition 2 (some .boolean) 1 22 0 0 [.ref y0, iI v] [[(y0, jO 1 [iI th, iI n, iI gr, iI pw, .ref aT, iI po, iI pr, iI ix, iI sd, iI gn, iI tk, iI ln, .ref aX, iI zs, iI zl, iI za, iI zf, iI ze, iI zi, .ref aR, .ref aM, .ref aG, .ref aN, .ref aQ, lI ls, lI wn, .ref aO, .ref aS, .ref aH, .ref aU, lI sc, iI zc, .ref aW, lI al, lI nr, lI dr, iI bp, lI ba, lI bb, lI hh])]] (fun v_ w_ => ∃ (r : Int), ((r = 1 ∧ 0 ≤ v ∧ v < n) ∨ (r = 0 ∧ ¬ (0 ≤ v ∧ v < n))) ∧ v_ = some (iI r) ∧ w_ = [[(y0, jO 1 [iI th, iI n, iI gr, iI pw, .ref aT, iI po, iI pr, iI ix, iI sd, iI gn, iI tk, iI ln, .ref aX, iI zs, iI zl, iI za, iI zf, iI ze, iI zi, .ref aR, .ref aM, .ref aG, .ref aN, .ref aQ, lI ls, lI wn, .ref aO, .ref aS, .ref aH, .ref aU, lI sc, iI zc, .ref aW, lI al, lI nr, lI dr, iI bp, lI ba, lI bb, lI hh])]]) := by
  refine jC.of "FlashRatchetModel" (by decide +kernel) rfl (Nat.le_of_ble_eq_true rfl) [(0, .ref y0), (1, iI v)] rfl (fun X G E I => ?_)
  refine j_iload_n G 1 rfl dX2_isPosition_0 ?_
  refine j_iconst G dX2_isPosition_1 ?_
  refine j_aload_n G 0 rfl dX2_isPosition_2 ?_
  refine j_get G FX2 (jAt_1 0 rfl) 1 (by decide) q1845 rfl dX2_isPosition_3 ?_
  refine j_iconst G dX2_isPosition_6 ?_
  refine j_isub G dX2_isPosition_7 ?_
  refine j_callS (wr := [[(y0, jO 1 [iI th, iI n, iI gr, iI pw, .ref aT, iI po, iI pr, iI ix, iI sd, iI gn, iI tk, iI ln, .ref aX, iI zs, iI zl, iI za, iI zf, iI ze, iI zi, .ref aR, .ref aM, .ref aG, .ref aN, .ref aQ, lI ls, lI wn, .ref aO, .ref aS, .ref aH, .ref aU, lI sc, iI zc, .ref aW, lI al, lI nr, lI dr, iI bp, lI ba, lI bb, lI hh])]]) (k' := 0) (n' := 0) G (c_X2_within l u v 0 (n - 1) hv (by unfold iR; omega) (by unfold iR at *; omega)) hY_X2_within q1973 q1974 q90 q1975 (jcut 1 [0] (by decide) rfl rfl) ⟨by omega, by omega, by omega, by omega, by omega, by omega⟩ (Nat.le_of_ble_eq_true rfl) dX2_isPosition_8 rfl (fun v_ w_ hp => ?_)
  obtain ⟨r_8, h8_1, rfl, rfl⟩ := hp
  show jJ X u 2 [[(y0, jO 1 [iI th, iI n, iI gr, iI pw, .ref aT, iI po, iI pr, iI ix, iI sd, iI gn, iI tk, iI ln, .ref aX, iI zs, iI zl, iI za, iI zf, iI ze, iI zi, .ref aR, .ref aM, .ref aG, .ref aN, .ref aQ, lI ls, lI wn, .ref aO, .ref aS, .ref aH, .ref aU, lI sc, iI zc, .ref aW, lI al, lI nr, lI dr, iI bp, lI ba, lI bb, lI hh])]] [(0, .ref y0), (1, iI v)] 0 0 11 [iI r_8]
  exact j_zret G E (by (try unfold iR at *); omega) ⟨r_8, (by omega), rfl, rfl⟩ ⟨by omega, by omega⟩ dX2_isPosition_11
theorem hY_X2_isLever : jY yX2_isLever 1 := ⟨by decide +kernel, by decide +kernel, by decide +kernel⟩
set_option maxHeartbeats 4000000 in
set_option maxRecDepth 100000 in
theorem c_X2_isLever (l : Launch) (u : jU) (v : Int) (hv : iR v) : jC l u yX2_isLever cX2_isLever 1 (some .boolean) 1 22 0 0 [iI v] [] (fun v_ w_ => ∃ (r : Int), ((r = 1 ∧ 0 ≤ v ∧ v ≤ 2) ∨ (r = 0 ∧ ¬ (0 ≤ v ∧ v ≤ 2))) ∧ v_ = some (iI r) ∧ w_ = []) := by
  refine jC.of "FlashRatchetModel" (by decide +kernel) rfl (Nat.le_of_ble_eq_true rfl) [(0, iI v)] rfl (fun X G E I => ?_)
  refine j_iload_n G 0 rfl dX2_isLever_0 ?_
  refine j_iconst G dX2_isLever_1 ?_
  refine j_iconst G dX2_isLever_2 ?_
  refine j_callS (wr := []) (k' := 0) (n' := 0) G (c_X2_within l u v 0 2 hv (by unfold iR; omega) (by unfold iR; omega)) hY_X2_within q1973 q1974 q90 q1975 (jcut 0 [] (by decide) rfl rfl) ⟨by omega, by omega, by omega, by omega, by omega, by omega⟩ (Nat.le_of_ble_eq_true rfl) dX2_isLever_3 rfl (fun v_ w_ hp => ?_)
  obtain ⟨r_3, h3_1, rfl, rfl⟩ := hp
  show jJ X u 1 [] [(0, iI v)] 0 0 6 [iI r_3]
  exact j_zret G E (by (try unfold iR at *); omega) ⟨r_3, (by omega), rfl, rfl⟩ ⟨by omega, by omega⟩ dX2_isLever_6
theorem hY_X2_size : jY yX2_size 1 := ⟨by decide +kernel, by decide +kernel, by decide +kernel⟩
set_option maxHeartbeats 4000000 in
set_option maxRecDepth 100000 in
theorem c_X2_size (l : Launch) (u : jU) (p : Int) (hp : iR p) : jC l u yX2_size cX2_size 3 (some .int) 0 0 0 0 [iI p] [] (fun v_ w_ => ∃ (r : Int), r = sLen p ∧ (0 ≤ r ∧ r ≤ 16) ∧ v_ = some (iI r) ∧ w_ = []) := by
  refine jC.of "FlashRatchetModel" (by decide +kernel) rfl (Nat.le_of_ble_eq_true rfl) [(0, iI p)] rfl (fun X G E I => ?_)
  refine j_iconst G dX2_size_0 ?_
  refine j_istore_n G [(1, iI 0), (0, iI p)] rfl (by decide) dX2_size_1 ?_
  refine j_iload_n G 1 rfl dX2_size_2 ?_
  refine j_istore_n G [(2, iI p), (1, iI 0), (0, iI p)] rfl (by decide) dX2_size_3 ?_
  have L4 : ∀ (m : Nat) (c : Int) (r : Int), r.toNat < m → iR r → c + sLen r = sLen p → (0 ≤ c ∧ c ≤ 16) → jJ X u 3 [] [(0, iI p), (1, iI c), (2, iI r)] 0 0 4 [] := by
    intro m
    induction m with
    | zero =>
      intro c r g1 g2 g3 g4
      exfalso
      omega
    | succ m ih_L4 =>
      intro c r g1 g2 g3 g4
      refine j_iload_n G 2 rfl dX2_size_4 ?_
      refine j_if_le 18 G g2 dX2_size_5 (by decide) (fun c_5 => ?_) (fun c_5 => ?_)
      · skip
        refine j_iload_n G 1 rfl dX2_size_18 ?_
        exact j_iret G E ⟨c, (by have e := sLen_0 c_5; omega), (by have e := sLen_0 c_5; omega), rfl, rfl⟩ ⟨by omega, by omega⟩ dX2_size_19
      · skip
        refine j_iinc G 1 rfl [(1, iI (c + 1)), (0, iI p), (2, iI r)] rfl (by decide) dX2_size_8 ?_
        refine j_iload_n G 2 rfl dX2_size_11 ?_
        refine j_iconst G dX2_size_12 ?_
        refine j_idivN G (by (try unfold iR at *); omega) (by (try unfold iR at *); omega) dX2_size_13 ?_
        refine j_istore_n G [(2, iI (r / 4)), (1, iI (c + 1)), (0, iI p)] rfl (by decide) dX2_size_14 ?_
        refine j_goto 4 G dX2_size_15 (by decide) ?_
        refine j_lv [2, 1, 0] rfl ?_
        exact ih_L4 (c + 1) (r / 4) (by (try unfold iR at *); omega) (by unfold iR at *; omega) (by have e := sLen_s (r := r) (by omega) g2; omega) (by have e := sLen_s (r := r) (by omega) g2; have e2 := sLen_R p; have e3 := sLen_R (r / 4); omega)
  refine j_lv [2, 1, 0] rfl ?_
  exact L4 (p.toNat + 1) 0 p (by (try unfold iR at *); omega) hp (by omega) (by omega)
theorem hY_X2_isProgram : jY yX2_isProgram 1 := ⟨by decide +kernel, by decide +kernel, by decide +kernel⟩
set_option maxHeartbeats 4000000 in
set_option maxRecDepth 100000 in
theorem c_X2_isProgram (l : Launch) (u : jU) (p : Int) (hp : iR p) : jC l u yX2_isProgram cX2_isProgram 3 (some .boolean) 1 22 0 0 [iI p] [] (fun v_ w_ => ∃ (r : Int), r = sProg p ∧ (r = 0 ∨ r = 1) ∧ v_ = some (iI r) ∧ w_ = []) := by
  refine jC.of "FlashRatchetModel" (by decide +kernel) rfl (Nat.le_of_ble_eq_true rfl) [(0, iI p)] rfl (fun X G E I => ?_)
  refine j_iload_n G 0 rfl dX2_isProgram_0 ?_
  refine j_iconst G dX2_isProgram_1 ?_
  refine j_sipush G (by decide) dX2_isProgram_2 ?_
  refine j_callS (wr := []) (k' := 0) (n' := 0) G (c_X2_within l u p 1 255 hp (by unfold iR; omega) (by unfold iR; omega)) hY_X2_within q1973 q1974 q90 q1975 (jcut 0 [] (by decide) rfl rfl) ⟨by omega, by omega, by omega, by omega, by omega, by omega⟩ (Nat.le_of_ble_eq_true rfl) dX2_isProgram_5 rfl (fun v_ w_ hp => ?_)
  obtain ⟨r_5, h5_1, rfl, rfl⟩ := hp
  show jJ X u 3 [] [(0, iI p)] 0 0 8 [iI r_5]
  refine j_if_ne 13 G (by unfold iR at *; omega) dX2_isProgram_8 (by decide) (fun c_8 => ?_) (fun c_8 => ?_)
  · skip
    refine j_iconst G dX2_isProgram_13 ?_
    refine j_istore_n G [(1, iI 1), (0, iI p)] rfl (by decide) dX2_isProgram_14 ?_
    refine j_iload_n G 1 rfl dX2_isProgram_15 ?_
    refine j_istore_n G [(2, iI p), (1, iI 1), (0, iI p)] rfl (by decide) dX2_isProgram_16 ?_
    have L17 : ∀ (m : Nat) (a : Int) (r : Int), r.toNat < m → iR r → ((a = 1 → sDig r = sProg p) ∧ (a = 0 → sProg p = 0)) → (a = 0 ∨ a = 1) → jJ X u 3 [] [(0, iI p), (1, iI a), (2, iI r)] 0 0 17 [] := by
      intro m
      induction m with
      | zero =>
        intro a r g1 g2 g3 g4
        exfalso
        omega
      | succ m ih_L17 =>
        intro a r g1 g2 g3 g4
        refine j_iload_n G 2 rfl dX2_isProgram_17 ?_
        refine j_if_le 44 G g2 dX2_isProgram_18 (by decide) (fun c_18 => ?_) (fun c_18 => ?_)
        · skip
          refine j_iload_n G 1 rfl dX2_isProgram_44 ?_
          exact j_zret G E (by (try unfold iR at *); omega) ⟨a, (by have e := sDig_0 (r := r) (by omega); omega), (by have e := sDig_0 (r := r) (by omega); omega), rfl, rfl⟩ ⟨by omega, by omega⟩ dX2_isProgram_45
        · skip
          refine j_iload_n G 1 rfl dX2_isProgram_21 ?_
          refine j_if_eq 35 G (by unfold iR at *; omega) dX2_isProgram_22 (by decide) (fun c_22 => ?_) (fun c_22 => ?_)
          · skip
            refine j_iconst G dX2_isProgram_35 ?_
            refine j_istore_n G [(1, iI 0), (0, iI p), (2, iI r)] rfl (by decide) dX2_isProgram_36 ?_
            refine j_iload_n G 2 rfl dX2_isProgram_37 ?_
            refine j_iconst G dX2_isProgram_38 ?_
            refine j_idivN G (by (try unfold iR at *); omega) (by (try unfold iR at *); omega) dX2_isProgram_39 ?_
            refine j_istore_n G [(2, iI (r / 4)), (1, iI 0), (0, iI p)] rfl (by decide) dX2_isProgram_40 ?_
            refine j_goto 17 G dX2_isProgram_41 (by decide) ?_
            refine j_lv [2, 1, 0] rfl ?_
            exact ih_L17 0 (r / 4) (by (try unfold iR at *); omega) (by unfold iR at *; omega) (by have e := sDig_s (r := r) (by omega) g2; split at e <;> omega) (by (try unfold iR at *); omega)
          · skip
            refine j_iload_n G 2 rfl dX2_isProgram_25 ?_
            refine j_iconst G dX2_isProgram_26 ?_
            refine j_iremN G (by (try unfold iR at *); omega) (by (try unfold iR at *); omega) dX2_isProgram_27 ?_
            refine j_if_le 35 G (by unfold iR at *; omega) dX2_isProgram_28 (by decide) (fun c_28 => ?_) (fun c_28 => ?_)
            · skip
              refine j_iconst G dX2_isProgram_35 ?_
              refine j_istore_n G [(1, iI 0), (0, iI p), (2, iI r)] rfl (by decide) dX2_isProgram_36 ?_
              refine j_iload_n G 2 rfl dX2_isProgram_37 ?_
              refine j_iconst G dX2_isProgram_38 ?_
              refine j_idivN G (by (try unfold iR at *); omega) (by (try unfold iR at *); omega) dX2_isProgram_39 ?_
              refine j_istore_n G [(2, iI (r / 4)), (1, iI 0), (0, iI p)] rfl (by decide) dX2_isProgram_40 ?_
              refine j_goto 17 G dX2_isProgram_41 (by decide) ?_
              refine j_lv [2, 1, 0] rfl ?_
              exact ih_L17 0 (r / 4) (by (try unfold iR at *); omega) (by unfold iR at *; omega) (by have e := sDig_s (r := r) (by omega) g2; split at e <;> omega) (by (try unfold iR at *); omega)
            · skip
              refine j_iconst G dX2_isProgram_31 ?_
              refine j_goto 36 G dX2_isProgram_32 (by decide) ?_
              refine j_istore_n G [(1, iI 1), (0, iI p), (2, iI r)] rfl (by decide) dX2_isProgram_36 ?_
              refine j_iload_n G 2 rfl dX2_isProgram_37 ?_
              refine j_iconst G dX2_isProgram_38 ?_
              refine j_idivN G (by (try unfold iR at *); omega) (by (try unfold iR at *); omega) dX2_isProgram_39 ?_
              refine j_istore_n G [(2, iI (r / 4)), (1, iI 1), (0, iI p)] rfl (by decide) dX2_isProgram_40 ?_
              refine j_goto 17 G dX2_isProgram_41 (by decide) ?_
              refine j_lv [2, 1, 0] rfl ?_
              exact ih_L17 1 (r / 4) (by (try unfold iR at *); omega) (by unfold iR at *; omega) (by have e := sDig_s (r := r) (by omega) g2; split at e <;> omega) (by (try unfold iR at *); omega)
    refine j_lv [2, 1, 0] rfl ?_
    exact L17 (p.toNat + 1) 1 p (by (try unfold iR at *); omega) hp (by have e := sProg_y (p := p); omega) (by (try unfold iR at *); omega)
  · skip
    refine j_iconst G dX2_isProgram_11 ?_
    exact j_zret G E (by (try unfold iR at *); omega) ⟨0, (by have e2 := sProg_n (p := p); omega), (by omega), rfl, rfl⟩ ⟨by omega, by omega⟩ dX2_isProgram_12
theorem hY_X2_leverAt : jY yX2_leverAt 2 := ⟨by decide +kernel, by decide +kernel, by decide +kernel⟩
set_option maxHeartbeats 4000000 in
set_option maxRecDepth 100000 in
theorem c_X2_leverAt (l : Launch) (u : jU) (p i : Int) (hp : sProg p = 1) (hi : 0 ≤ i ∧ i < sLen p) : jC l u yX2_leverAt cX2_leverAt 4 (some .int) 1 22 0 0 [iI p, iI i] [] (fun v_ w_ => ∃ (r : Int), r = sLev p i ∧ (0 ≤ r ∧ r ≤ 2) ∧ v_ = some (iI r) ∧ w_ = []) := by
  refine jC.of "FlashRatchetModel" (by decide +kernel) rfl (Nat.le_of_ble_eq_true rfl) [(0, iI p), (1, iI i)] rfl (fun X G E I => ?_)
  have hq := sProg_in hp
  have hl := sLen_prog hp
  refine j_iload_n G 0 rfl dX2_leverAt_0 ?_
  refine j_istore_n G [(2, iI p), (0, iI p), (1, iI i)] rfl (by decide) dX2_leverAt_1 ?_
  refine j_iload_n G 1 rfl dX2_leverAt_2 ?_
  refine j_callS (wr := []) (k' := 0) (n' := 0) G (c_X2_size l u p (by unfold iR at *; omega)) hY_X2_size q2029 q2030 q90 q2031 (jcut 0 [] (by decide) rfl rfl) ⟨by omega, by omega, by omega, by omega, by omega, by omega⟩ (Nat.le_of_ble_eq_true rfl) dX2_leverAt_3 rfl (fun v_ w_ hp => ?_)
  obtain ⟨r_3, h3_1, h3_2, rfl, rfl⟩ := hp
  show jJ X u 4 [] [(2, iI p), (0, iI p), (1, iI i)] 0 0 6 [iI r_3]
  refine j_iconst G dX2_leverAt_6 ?_
  refine j_isub G dX2_leverAt_7 ?_
  refine j_istore_n G [(3, iI (r_3 - 1)), (2, iI p), (0, iI p), (1, iI i)] rfl (by decide) dX2_leverAt_8 ?_
  have L9 : ∀ (m : Nat) (j : Nat) (r : Int) (k : Int), k.toNat < m → k = sLen p - 1 - j → r = divF p j → i ≤ k → jJ X u 4 [] [(0, iI p), (1, iI i), (2, iI r), (3, iI k)] 0 0 9 [] := by
    intro m
    induction m with
    | zero =>
      intro j r k g1 g2 g3 g4
      exfalso
      omega
    | succ m ih_L9 =>
      intro j r k g1 g2 g3 g4
      have hr := divF_R (p := p) (by omega) j
      refine j_iload_n G 3 rfl dX2_leverAt_9 ?_
      refine j_iload_n G 1 rfl dX2_leverAt_10 ?_
      refine j_icmp_le 24 G (by unfold iR at *; omega) (by unfold iR at *; omega) dX2_leverAt_11 (by decide) (fun c_11 => ?_) (fun c_11 => ?_)
      · skip
        have hj : j = (sLen p - 1 - i).toNat := by omega
        have e : r % 4 - 1 = sLev p i := by rw [g3, hj]; rfl
        have e2 := sLev_R hp hi.1 hi.2
        refine j_iload_n G 2 rfl dX2_leverAt_24 ?_
        refine j_iconst G dX2_leverAt_25 ?_
        refine j_iremN G (by (try unfold iR at *); omega) (by (try unfold iR at *); omega) dX2_leverAt_26 ?_
        refine j_iconst G dX2_leverAt_27 ?_
        refine j_isub G dX2_leverAt_28 ?_
        exact j_iret G E ⟨((r % 4) - 1), (by omega), (by omega), rfl, rfl⟩ ⟨by omega, by omega⟩ dX2_leverAt_29
      · skip
        refine j_iload_n G 2 rfl dX2_leverAt_14 ?_
        refine j_iconst G dX2_leverAt_15 ?_
        refine j_idivN G (by (try unfold iR at *); omega) (by (try unfold iR at *); omega) dX2_leverAt_16 ?_
        refine j_istore_n G [(2, iI (r / 4)), (0, iI p), (1, iI i), (3, iI k)] rfl (by decide) dX2_leverAt_17 ?_
        refine j_iinc G 3 rfl [(3, iI (k + (-1))), (2, iI (r / 4)), (0, iI p), (1, iI i)] rfl (by decide) dX2_leverAt_18 ?_
        refine j_goto 9 G dX2_leverAt_21 (by decide) ?_
        refine j_lv [2, 3, 1, 0] rfl ?_
        exact ih_L9 (j + 1) (r / 4) (k + (-1)) (by (try unfold iR at *); omega) (by (try unfold iR at *); omega) (by rw [g3]; rfl) (by (try unfold iR at *); omega)
  refine j_lv [2, 3, 1, 0] rfl ?_
  exact L9 ((sLen p).toNat + 1) 0 p (r_3 - 1) (by (try unfold iR at *); omega) (by (try unfold iR at *); omega) rfl (by (try unfold iR at *); omega)
theorem hY_X2_isIn : jY yX2_isIn 1 := ⟨by decide +kernel, by decide +kernel, by decide +kernel⟩
set_option maxHeartbeats 4000000 in
set_option maxRecDepth 100000 in
theorem c_X2_isIn (l : Launch) (u : jU) (y0 aT aX aR aM aG aN aQ aO aS aH aU aW : Nat) (th n gr pw po pr ix sd gn tk ln zs zl za zf ze zi zc bp ls wn sc al nr dr ba bb hh : Int) (v : Int) (hv : 0 ≤ v ∧ v ≤ 2) (hg : 0 ≤ gr ∧ gr ≤ 7) : jC l u yX2_isIn cX2_isIn 2 (some .boolean) 0 0 0 0 [.ref y0, iI v] [[(y0, jO 1 [iI th, iI n, iI gr, iI pw, .ref aT, iI po, iI pr, iI ix, iI sd, iI gn, iI tk, iI ln, .ref aX, iI zs, iI zl, iI za, iI zf, iI ze, iI zi, .ref aR, .ref aM, .ref aG, .ref aN, .ref aQ, lI ls, lI wn, .ref aO, .ref aS, .ref aH, .ref aU, lI sc, iI zc, .ref aW, lI al, lI nr, lI dr, iI bp, lI ba, lI bb, lI hh])]] (fun v_ w_ => ∃ (r : Int), r = sBit gr v ∧ (r = 0 ∨ r = 1) ∧ v_ = some (iI r) ∧ w_ = [[(y0, jO 1 [iI th, iI n, iI gr, iI pw, .ref aT, iI po, iI pr, iI ix, iI sd, iI gn, iI tk, iI ln, .ref aX, iI zs, iI zl, iI za, iI zf, iI ze, iI zi, .ref aR, .ref aM, .ref aG, .ref aN, .ref aQ, lI ls, lI wn, .ref aO, .ref aS, .ref aH, .ref aU, lI sc, iI zc, .ref aW, lI al, lI nr, lI dr, iI bp, lI ba, lI bb, lI hh])]]) := by
  refine jC.of "FlashRatchetModel" (by decide +kernel) rfl (Nat.le_of_ble_eq_true rfl) [(0, .ref y0), (1, iI v)] rfl (fun X G E I => ?_)
  refine j_aload_n G 0 rfl dX2_isIn_0 ?_
  refine j_get G FX2 (jAt_1 0 rfl) 2 (by decide) q1846 rfl dX2_isIn_1 ?_
  refine j_iload_n G 1 rfl dX2_isIn_4 ?_
  refine j_ishr G dX2_isIn_5 ?_
  refine j_iconst G dX2_isIn_6 ?_
  have hb := sBit_eq (s := gr) (i := v) (by omega) (by omega)
  have hb2 := sBit_01 gr v
  refine j_iand G dX2_isIn_7 ?_
  refine j_eq (st' := [iI (sBit gr v)]) (by rw [hb]) ?_
  refine j_iconst G dX2_isIn_8 ?_
  refine j_icmp_ne 16 G (by unfold iR at *; omega) (by unfold iR; omega) dX2_isIn_9 (by decide) (fun c_9 => ?_) (fun c_9 => ?_)
  · skip
    refine j_iconst G dX2_isIn_16 ?_
    exact j_zret G E (by (try unfold iR at *); omega) ⟨0, (by omega), (by omega), rfl, rfl⟩ ⟨by omega, by omega⟩ dX2_isIn_17
  · skip
    refine j_iconst G dX2_isIn_12 ?_
    refine j_goto 17 G dX2_isIn_13 (by decide) ?_
    exact j_zret G E (by (try unfold iR at *); omega) ⟨1, (by omega), (by omega), rfl, rfl⟩ ⟨by omega, by omega⟩ dX2_isIn_17
theorem hY_X2_back : jY yX2_back 2 := ⟨by decide +kernel, by decide +kernel, by decide +kernel⟩
set_option maxHeartbeats 4000000 in
set_option maxRecDepth 100000 in
theorem c_X2_back (l : Launch) (u : jU) (y0 aT aX aR aM aG aN aQ aO aS aH aU aW : Nat) (th n gr pw po pr ix sd gn tk ln zs zl za zf ze zi zc bp ls wn sc al nr dr ba bb hh : Int) (tb : Int → Int) (lv p : Int) (hl : 0 ≤ lv ∧ lv ≤ 2) (hp : 0 ≤ p ∧ p ≤ 3) (hg : 0 ≤ gr ∧ gr ≤ 7) (hw : 0 ≤ pw ∧ pw ≤ 15) : jC l u yX2_back cX2_back 3 (some .int) 1 21 0 0 [.ref y0, iI lv, iI p] [[(y0, jO 1 [iI th, iI n, iI gr, iI pw, .ref aT, iI po, iI pr, iI ix, iI sd, iI gn, iI tk, iI ln, .ref aX, iI zs, iI zl, iI za, iI zf, iI ze, iI zi, .ref aR, .ref aM, .ref aG, .ref aN, .ref aQ, lI ls, lI wn, .ref aO, .ref aS, .ref aH, .ref aU, lI sc, iI zc, .ref aW, lI al, lI nr, lI dr, iI bp, lI ba, lI bb, lI hh])], [(aT, cI u 24 tb)]] (fun v_ w_ => ∃ (r : Int), r = sBack gr pw (tB tb) lv p ∧ v_ = some (iI r) ∧ w_ = [[(y0, jO 1 [iI th, iI n, iI gr, iI pw, .ref aT, iI po, iI pr, iI ix, iI sd, iI gn, iI tk, iI ln, .ref aX, iI zs, iI zl, iI za, iI zf, iI ze, iI zi, .ref aR, .ref aM, .ref aG, .ref aN, .ref aQ, lI ls, lI wn, .ref aO, .ref aS, .ref aH, .ref aU, lI sc, iI zc, .ref aW, lI al, lI nr, lI dr, iI bp, lI ba, lI bb, lI hh])], [(aT, cI u 24 tb)]]) := by
  refine jC.of "FlashRatchetModel" (by decide +kernel) rfl (Nat.le_of_ble_eq_true rfl) [(0, .ref y0), (1, iI lv), (2, iI p)] rfl (fun X G E I => ?_)
  have e1 : tb (8 * lv + 2 * p) = tB tb (4 * lv + p) := congrArg tb (by omega)
  have e2 : tb (8 * lv + 2 * p + 1) = tF tb (4 * lv + p) := congrArg tb (by omega)
  refine j_aload_n G 0 rfl dX2_back_0 ?_
  refine j_iload_n G 1 rfl dX2_back_1 ?_
  refine j_callV (wr := [[(aT, cI u 24 tb)]]) (k' := 0) (n' := 0) G FX2 (c_X2_isIn l u y0 aT aX aR aM aG aN aQ aO aS aH aU aW th n gr pw po pr ix sd gn tk ln zs zl za zf ze zi zc bp ls wn sc al nr dr ba bb hh lv hl hg) (jAt_1 0 rfl) ⟨rfl, hY_X2_isIn⟩ q2032 q2034 qs48 q90 q2035 (jcut 2 [0, 1] (by decide) rfl rfl) ⟨by omega, by omega, by omega, by omega, by omega, by omega⟩ (Nat.le_of_ble_eq_true rfl) dX2_back_2 rfl (fun v_ w_ hp => ?_)
  obtain ⟨r_2, h2_1, h2_2, rfl, rfl⟩ := hp
  show jJ X u 3 [[(y0, jO 1 [iI th, iI n, iI gr, iI pw, .ref aT, iI po, iI pr, iI ix, iI sd, iI gn, iI tk, iI ln, .ref aX, iI zs, iI zl, iI za, iI zf, iI ze, iI zi, .ref aR, .ref aM, .ref aG, .ref aN, .ref aQ, lI ls, lI wn, .ref aO, .ref aS, .ref aH, .ref aU, lI sc, iI zc, .ref aW, lI al, lI nr, lI dr, iI bp, lI ba, lI bb, lI hh])], [(aT, cI u 24 tb)]] [(0, .ref y0), (1, iI lv), (2, iI p)] 0 0 5 [iI r_2]
  refine j_if_eq 35 G (by unfold iR at *; omega) dX2_back_5 (by decide) (fun c_5 => ?_) (fun c_5 => ?_)
  · skip
    refine j_iconst G dX2_back_35 ?_
    exact j_iret G E ⟨0, (by unfold sBack; (repeat' split) <;> omega), rfl, rfl⟩ ⟨by omega, by omega⟩ dX2_back_36
  · skip
    refine j_aload_n G 0 rfl dX2_back_8 ?_
    refine j_get G FX2 (jAt_1 0 rfl) 3 (by decide) q1847 rfl dX2_back_9 ?_
    refine j_iload_n G 2 rfl dX2_back_12 ?_
    refine j_ishr G dX2_back_13 ?_
    refine j_iconst G dX2_back_14 ?_
    have hb := sBit_eq (s := pw) (i := p) (by omega) (by omega)
    have hb2 := sBit_01 pw p
    refine j_iand G dX2_back_15 ?_
    refine j_eq (st' := [iI (sBit pw p)]) (by rw [hb]) ?_
    refine j_if_ne 35 G (by unfold iR at *; omega) dX2_back_16 (by decide) (fun c_16 => ?_) (fun c_16 => ?_)
    · skip
      refine j_iconst G dX2_back_35 ?_
      exact j_iret G E ⟨0, (by unfold sBack; (repeat' split) <;> omega), rfl, rfl⟩ ⟨by omega, by omega⟩ dX2_back_36
    · skip
      refine j_aload_n G 0 rfl dX2_back_19 ?_
      refine j_get G FX2 (jAt_1 0 rfl) 4 (by decide) q1848 rfl dX2_back_20 ?_
      refine j_bipush G (by decide) dX2_back_23 ?_
      refine j_iload_n G 1 rfl dX2_back_25 ?_
      refine j_imul G dX2_back_26 ?_
      refine j_iconst G dX2_back_27 ?_
      refine j_iload_n G 2 rfl dX2_back_28 ?_
      refine j_imul G dX2_back_29 ?_
      refine j_iadd G dX2_back_30 ?_
      refine j_iaload G (jAt_1 1 rfl) (by (try unfold iR at *); omega) (by (try unfold iR at *); omega) (by (try unfold iR at *); omega) dX2_back_31 ?_
      refine j_goto 36 G dX2_back_32 (by decide) ?_
      exact j_iret G E ⟨(tb ((8 * lv) + (2 * p))), (by unfold sBack; (repeat' split) <;> omega), rfl, rfl⟩ ⟨by omega, by omega⟩ dX2_back_36
theorem hY_X2_forward : jY yX2_forward 2 := ⟨by decide +kernel, by decide +kernel, by decide +kernel⟩
set_option maxHeartbeats 4000000 in
set_option maxRecDepth 100000 in
theorem c_X2_forward (l : Launch) (u : jU) (y0 aT aX aR aM aG aN aQ aO aS aH aU aW : Nat) (th n gr pw po pr ix sd gn tk ln zs zl za zf ze zi zc bp ls wn sc al nr dr ba bb hh : Int) (tb : Int → Int) (lv p : Int) (hl : 0 ≤ lv ∧ lv ≤ 2) (hp : 0 ≤ p ∧ p ≤ 3) (hg : 0 ≤ gr ∧ gr ≤ 7) (hw : 0 ≤ pw ∧ pw ≤ 15) : jC l u yX2_forward cX2_forward 3 (some .int) 1 21 0 0 [.ref y0, iI lv, iI p] [[(y0, jO 1 [iI th, iI n, iI gr, iI pw, .ref aT, iI po, iI pr, iI ix, iI sd, iI gn, iI tk, iI ln, .ref aX, iI zs, iI zl, iI za, iI zf, iI ze, iI zi, .ref aR, .ref aM, .ref aG, .ref aN, .ref aQ, lI ls, lI wn, .ref aO, .ref aS, .ref aH, .ref aU, lI sc, iI zc, .ref aW, lI al, lI nr, lI dr, iI bp, lI ba, lI bb, lI hh])], [(aT, cI u 24 tb)]] (fun v_ w_ => ∃ (r : Int), r = sForw gr (tF tb) lv p ∧ v_ = some (iI r) ∧ w_ = [[(y0, jO 1 [iI th, iI n, iI gr, iI pw, .ref aT, iI po, iI pr, iI ix, iI sd, iI gn, iI tk, iI ln, .ref aX, iI zs, iI zl, iI za, iI zf, iI ze, iI zi, .ref aR, .ref aM, .ref aG, .ref aN, .ref aQ, lI ls, lI wn, .ref aO, .ref aS, .ref aH, .ref aU, lI sc, iI zc, .ref aW, lI al, lI nr, lI dr, iI bp, lI ba, lI bb, lI hh])], [(aT, cI u 24 tb)]]) := by
  refine jC.of "FlashRatchetModel" (by decide +kernel) rfl (Nat.le_of_ble_eq_true rfl) [(0, .ref y0), (1, iI lv), (2, iI p)] rfl (fun X G E I => ?_)
  have e1 : tb (8 * lv + 2 * p) = tB tb (4 * lv + p) := congrArg tb (by omega)
  have e2 : tb (8 * lv + 2 * p + 1) = tF tb (4 * lv + p) := congrArg tb (by omega)
  refine j_aload_n G 0 rfl dX2_forward_0 ?_
  refine j_iload_n G 1 rfl dX2_forward_1 ?_
  refine j_callV (wr := [[(aT, cI u 24 tb)]]) (k' := 0) (n' := 0) G FX2 (c_X2_isIn l u y0 aT aX aR aM aG aN aQ aO aS aH aU aW th n gr pw po pr ix sd gn tk ln zs zl za zf ze zi zc bp ls wn sc al nr dr ba bb hh lv hl hg) (jAt_1 0 rfl) ⟨rfl, hY_X2_isIn⟩ q2032 q2034 qs48 q90 q2035 (jcut 2 [0, 1] (by decide) rfl rfl) ⟨by omega, by omega, by omega, by omega, by omega, by omega⟩ (Nat.le_of_ble_eq_true rfl) dX2_forward_2 rfl (fun v_ w_ hp => ?_)
  obtain ⟨r_2, h2_1, h2_2, rfl, rfl⟩ := hp
  show jJ X u 3 [[(y0, jO 1 [iI th, iI n, iI gr, iI pw, .ref aT, iI po, iI pr, iI ix, iI sd, iI gn, iI tk, iI ln, .ref aX, iI zs, iI zl, iI za, iI zf, iI ze, iI zi, .ref aR, .ref aM, .ref aG, .ref aN, .ref aQ, lI ls, lI wn, .ref aO, .ref aS, .ref aH, .ref aU, lI sc, iI zc, .ref aW, lI al, lI nr, lI dr, iI bp, lI ba, lI bb, lI hh])], [(aT, cI u 24 tb)]] [(0, .ref y0), (1, iI lv), (2, iI p)] 0 0 5 [iI r_2]
  refine j_if_eq 26 G (by unfold iR at *; omega) dX2_forward_5 (by decide) (fun c_5 => ?_) (fun c_5 => ?_)
  · skip
    refine j_iconst G dX2_forward_26 ?_
    exact j_iret G E ⟨0, (by unfold sForw; (repeat' split) <;> omega), rfl, rfl⟩ ⟨by omega, by omega⟩ dX2_forward_27
  · skip
    refine j_aload_n G 0 rfl dX2_forward_8 ?_
    refine j_get G FX2 (jAt_1 0 rfl) 4 (by decide) q1848 rfl dX2_forward_9 ?_
    refine j_bipush G (by decide) dX2_forward_12 ?_
    refine j_iload_n G 1 rfl dX2_forward_14 ?_
    refine j_imul G dX2_forward_15 ?_
    refine j_iconst G dX2_forward_16 ?_
    refine j_iload_n G 2 rfl dX2_forward_17 ?_
    refine j_imul G dX2_forward_18 ?_
    refine j_iadd G dX2_forward_19 ?_
    refine j_iconst G dX2_forward_20 ?_
    refine j_iadd G dX2_forward_21 ?_
    refine j_iaload G (jAt_1 1 rfl) (by (try unfold iR at *); omega) (by (try unfold iR at *); omega) (by (try unfold iR at *); omega) dX2_forward_22 ?_
    refine j_goto 27 G dX2_forward_23 (by decide) ?_
    exact j_iret G E ⟨(tb (((8 * lv) + (2 * p)) + 1)), (by unfold sForw; (repeat' split) <;> omega), rfl, rfl⟩ ⟨by omega, by omega⟩ dX2_forward_27
theorem hY_X2_moved : jY yX2_moved 2 := ⟨by decide +kernel, by decide +kernel, by decide +kernel⟩
set_option maxHeartbeats 4000000 in
set_option maxRecDepth 100000 in
theorem c_X2_moved (l : Launch) (u : jU) (y0 aT aX aR aM aG aN aQ aO aS aH aU aW : Nat) (th n gr pw po pr ix sd gn tk ln zs zl za zf ze zi zc bp ls wn sc al nr dr ba bb hh : Int) (p m : Int) (hn : 2 ≤ n ∧ n ≤ 4) (hp : 0 ≤ p ∧ p < n) (hm : -1 ≤ m ∧ m ≤ 1) : jC l u yX2_moved cX2_moved 3 (some .int) 0 0 0 0 [.ref y0, iI p, iI m] [[(y0, jO 1 [iI th, iI n, iI gr, iI pw, .ref aT, iI po, iI pr, iI ix, iI sd, iI gn, iI tk, iI ln, .ref aX, iI zs, iI zl, iI za, iI zf, iI ze, iI zi, .ref aR, .ref aM, .ref aG, .ref aN, .ref aQ, lI ls, lI wn, .ref aO, .ref aS, .ref aH, .ref aU, lI sc, iI zc, .ref aW, lI al, lI nr, lI dr, iI bp, lI ba, lI bb, lI hh])]] (fun v_ w_ => ∃ (r : Int), r = (p + m + n) % n ∧ (0 ≤ r ∧ r < n) ∧ v_ = some (iI r) ∧ w_ = [[(y0, jO 1 [iI th, iI n, iI gr, iI pw, .ref aT, iI po, iI pr, iI ix, iI sd, iI gn, iI tk, iI ln, .ref aX, iI zs, iI zl, iI za, iI zf, iI ze, iI zi, .ref aR, .ref aM, .ref aG, .ref aN, .ref aQ, lI ls, lI wn, .ref aO, .ref aS, .ref aH, .ref aU, lI sc, iI zc, .ref aW, lI al, lI nr, lI dr, iI bp, lI ba, lI bb, lI hh])]]) := by
  refine jC.of "FlashRatchetModel" (by decide +kernel) rfl (Nat.le_of_ble_eq_true rfl) [(0, .ref y0), (1, iI p), (2, iI m)] rfl (fun X G E I => ?_)
  refine j_iload_n G 1 rfl dX2_moved_0 ?_
  refine j_iload_n G 2 rfl dX2_moved_1 ?_
  refine j_iadd G dX2_moved_2 ?_
  refine j_aload_n G 0 rfl dX2_moved_3 ?_
  refine j_get G FX2 (jAt_1 0 rfl) 1 (by decide) q1845 rfl dX2_moved_4 ?_
  refine j_iadd G dX2_moved_7 ?_
  refine j_aload_n G 0 rfl dX2_moved_8 ?_
  refine j_get G FX2 (jAt_1 0 rfl) 1 (by decide) q1845 rfl dX2_moved_9 ?_
  refine j_iremN G (by (try unfold iR at *); omega) (by (try unfold iR at *); omega) dX2_moved_12 ?_
  exact j_iret G E ⟨(((p + m) + n) % n), rfl, ⟨Int.emod_nonneg _ (by omega), Int.emod_lt_of_pos _ (by omega)⟩, rfl, rfl⟩ ⟨by omega, by omega⟩ dX2_moved_13
theorem hY_X2_told : jY yX2_told 2 := ⟨by decide +kernel, by decide +kernel, by decide +kernel⟩
set_option maxHeartbeats 4000000 in
set_option maxRecDepth 100000 in
theorem c_X2_told (l : Launch) (u : jU) (y0 aT aX aR aM aG aN aQ aO aS aH aU aW : Nat) (th n gr pw po pr ix sd gn tk ln zs zl za zf ze zi zc bp ls wn sc al nr dr ba bb hh : Int) (tb : Int → Int) (lv p : Int) (hl : 0 ≤ lv ∧ lv ≤ 2) (hp : 0 ≤ p ∧ p ≤ 3) : jC l u yX2_told cX2_told 3 (some .int) 0 0 0 0 [.ref y0, iI lv, iI p] [[(y0, jO 1 [iI th, iI n, iI gr, iI pw, .ref aT, iI po, iI pr, iI ix, iI sd, iI gn, iI tk, iI ln, .ref aX, iI zs, iI zl, iI za, iI zf, iI ze, iI zi, .ref aR, .ref aM, .ref aG, .ref aN, .ref aQ, lI ls, lI wn, .ref aO, .ref aS, .ref aH, .ref aU, lI sc, iI zc, .ref aW, lI al, lI nr, lI dr, iI bp, lI ba, lI bb, lI hh])], [(aT, cI u 24 tb)]] (fun v_ w_ => ∃ (r : Int), r = 100 * tB tb (4 * lv + p) + tF tb (4 * lv + p) ∧ v_ = some (iI r) ∧ w_ = [[(y0, jO 1 [iI th, iI n, iI gr, iI pw, .ref aT, iI po, iI pr, iI ix, iI sd, iI gn, iI tk, iI ln, .ref aX, iI zs, iI zl, iI za, iI zf, iI ze, iI zi, .ref aR, .ref aM, .ref aG, .ref aN, .ref aQ, lI ls, lI wn, .ref aO, .ref aS, .ref aH, .ref aU, lI sc, iI zc, .ref aW, lI al, lI nr, lI dr, iI bp, lI ba, lI bb, lI hh])], [(aT, cI u 24 tb)]]) := by
  refine jC.of "FlashRatchetModel" (by decide +kernel) rfl (Nat.le_of_ble_eq_true rfl) [(0, .ref y0), (1, iI lv), (2, iI p)] rfl (fun X G E I => ?_)
  have e1 : tb (8 * lv + 2 * p) = tB tb (4 * lv + p) := congrArg tb (by omega)
  have e2 : tb (8 * lv + 2 * p + 1) = tF tb (4 * lv + p) := congrArg tb (by omega)
  refine j_bipush G (by decide) dX2_told_0 ?_
  refine j_aload_n G 0 rfl dX2_told_2 ?_
  refine j_get G FX2 (jAt_1 0 rfl) 4 (by decide) q1848 rfl dX2_told_3 ?_
  refine j_bipush G (by decide) dX2_told_6 ?_
  refine j_iload_n G 1 rfl dX2_told_8 ?_
  refine j_imul G dX2_told_9 ?_
  refine j_iconst G dX2_told_10 ?_
  refine j_iload_n G 2 rfl dX2_told_11 ?_
  refine j_imul G dX2_told_12 ?_
  refine j_iadd G dX2_told_13 ?_
  refine j_iaload G (jAt_1 1 rfl) (by (try unfold iR at *); omega) (by (try unfold iR at *); omega) (by (try unfold iR at *); omega) dX2_told_14 ?_
  refine j_imul G dX2_told_15 ?_
  refine j_aload_n G 0 rfl dX2_told_16 ?_
  refine j_get G FX2 (jAt_1 0 rfl) 4 (by decide) q1848 rfl dX2_told_17 ?_
  refine j_bipush G (by decide) dX2_told_20 ?_
  refine j_iload_n G 1 rfl dX2_told_22 ?_
  refine j_imul G dX2_told_23 ?_
  refine j_iconst G dX2_told_24 ?_
  refine j_iload_n G 2 rfl dX2_told_25 ?_
  refine j_imul G dX2_told_26 ?_
  refine j_iadd G dX2_told_27 ?_
  refine j_iconst G dX2_told_28 ?_
  refine j_iadd G dX2_told_29 ?_
  refine j_iaload G (jAt_1 1 rfl) (by (try unfold iR at *); omega) (by (try unfold iR at *); omega) (by (try unfold iR at *); omega) dX2_told_30 ?_
  refine j_iadd G dX2_told_31 ?_
  exact j_iret G E ⟨((100 * (tb ((8 * lv) + (2 * p)))) + (tb (((8 * lv) + (2 * p)) + 1))), (by omega), rfl, rfl⟩ ⟨by omega, by omega⟩ dX2_told_32
theorem hY_X2_put : jY yX2_put 4 := ⟨by decide +kernel, by decide +kernel, by decide +kernel⟩
set_option maxHeartbeats 4000000 in
set_option maxRecDepth 100000 in
theorem c_X2_put (l : Launch) (u : jU) (y0 aT aX aR aM aG aN aQ aO aS aH aU aW : Nat) (th n gr pw po pr ix sd gn tk ln zs zl za zf ze zi zc bp ls wn sc al nr dr ba bb hh : Int) (tb : Int → Int) (lv p b f : Int) (hl : 0 ≤ lv ∧ lv ≤ 2) (hp : 0 ≤ p ∧ p ≤ 3) : jC l u yX2_put cX2_put 5 none 0 0 0 0 [.ref y0, iI lv, iI p, iI b, iI f] [[(y0, jO 1 [iI th, iI n, iI gr, iI pw, .ref aT, iI po, iI pr, iI ix, iI sd, iI gn, iI tk, iI ln, .ref aX, iI zs, iI zl, iI za, iI zf, iI ze, iI zi, .ref aR, .ref aM, .ref aG, .ref aN, .ref aQ, lI ls, lI wn, .ref aO, .ref aS, .ref aH, .ref aU, lI sc, iI zc, .ref aW, lI al, lI nr, lI dr, iI bp, lI ba, lI bb, lI hh])], [(aT, cI u 24 tb)]] (fun v_ w_ => v_ = none ∧ w_ = [[(y0, jO 1 [iI th, iI n, iI gr, iI pw, .ref aT, iI po, iI pr, iI ix, iI sd, iI gn, iI tk, iI ln, .ref aX, iI zs, iI zl, iI za, iI zf, iI ze, iI zi, .ref aR, .ref aM, .ref aG, .ref aN, .ref aQ, lI ls, lI wn, .ref aO, .ref aS, .ref aH, .ref aU, lI sc, iI zc, .ref aW, lI al, lI nr, lI dr, iI bp, lI ba, lI bb, lI hh])], [(aT, cI u 24 (uZ (uZ tb (8 * lv + 2 * p) b) (8 * lv + 2 * p + 1) f))]]) := by
  refine jC.of "FlashRatchetModel" (by decide +kernel) rfl (Nat.le_of_ble_eq_true rfl) [(0, .ref y0), (1, iI lv), (2, iI p), (3, iI b), (4, iI f)] rfl (fun X G E I => ?_)
  refine j_aload_n G 0 rfl dX2_put_0 ?_
  refine j_get G FX2 (jAt_1 0 rfl) 4 (by decide) q1848 rfl dX2_put_1 ?_
  refine j_bipush G (by decide) dX2_put_4 ?_
  refine j_iload_n G 1 rfl dX2_put_6 ?_
  refine j_imul G dX2_put_7 ?_
  refine j_iconst G dX2_put_8 ?_
  refine j_iload_n G 2 rfl dX2_put_9 ?_
  refine j_imul G dX2_put_10 ?_
  refine j_iadd G dX2_put_11 ?_
  refine j_iload_n G 3 rfl dX2_put_12 ?_
  refine j_iastore (ws' := [[(y0, jO 1 [iI th, iI n, iI gr, iI pw, .ref aT, iI po, iI pr, iI ix, iI sd, iI gn, iI tk, iI ln, .ref aX, iI zs, iI zl, iI za, iI zf, iI ze, iI zi, .ref aR, .ref aM, .ref aG, .ref aN, .ref aQ, lI ls, lI wn, .ref aO, .ref aS, .ref aH, .ref aU, lI sc, iI zc, .ref aW, lI al, lI nr, lI dr, iI bp, lI ba, lI bb, lI hh])], [(aT, cI u 24 (uZ tb ((8 * lv) + (2 * p)) b))]]) G (jAt_1 1 rfl) (by (try unfold iR at *); omega) (by (try unfold iR at *); omega) (by (try unfold iR at *); omega) dX2_put_13 rfl ?_
  refine j_aload_n G 0 rfl dX2_put_14 ?_
  refine j_get G FX2 (jAt_1 0 rfl) 4 (by decide) q1848 rfl dX2_put_15 ?_
  refine j_bipush G (by decide) dX2_put_18 ?_
  refine j_iload_n G 1 rfl dX2_put_20 ?_
  refine j_imul G dX2_put_21 ?_
  refine j_iconst G dX2_put_22 ?_
  refine j_iload_n G 2 rfl dX2_put_23 ?_
  refine j_imul G dX2_put_24 ?_
  refine j_iadd G dX2_put_25 ?_
  refine j_iconst G dX2_put_26 ?_
  refine j_iadd G dX2_put_27 ?_
  refine j_iload G 4 rfl dX2_put_28 ?_
  refine j_iastore (ws' := [[(y0, jO 1 [iI th, iI n, iI gr, iI pw, .ref aT, iI po, iI pr, iI ix, iI sd, iI gn, iI tk, iI ln, .ref aX, iI zs, iI zl, iI za, iI zf, iI ze, iI zi, .ref aR, .ref aM, .ref aG, .ref aN, .ref aQ, lI ls, lI wn, .ref aO, .ref aS, .ref aH, .ref aU, lI sc, iI zc, .ref aW, lI al, lI nr, lI dr, iI bp, lI ba, lI bb, lI hh])], [(aT, cI u 24 (uZ (uZ tb ((8 * lv) + (2 * p)) b) (((8 * lv) + (2 * p)) + 1) f))]]) G (jAt_1 1 rfl) (by (try unfold iR at *); omega) (by (try unfold iR at *); omega) (by (try unfold iR at *); omega) dX2_put_30 rfl ?_
  exact j_vret G E ⟨rfl, rfl⟩ ⟨by omega, by omega⟩ dX2_put_31
theorem hY_X2_bits : jY yX2_bits 1 := ⟨by decide +kernel, by decide +kernel, by decide +kernel⟩
set_option maxHeartbeats 4000000 in
set_option maxRecDepth 100000 in
theorem c_X2_bits (l : Launch) (u : jU) (s : Int) (hs : 0 ≤ s ∧ s < 16) : jC l u yX2_bits cX2_bits 3 (some .int) 0 0 0 0 [iI s] [] (fun v_ w_ => v_ = some (iI (sBits s)) ∧ w_ = []) := by
  refine jC.of "FlashRatchetModel" (by decide +kernel) rfl (Nat.le_of_ble_eq_true rfl) [(0, iI s)] rfl (fun X G E I => ?_)
  refine j_iconst G dX2_bits_0 ?_
  refine j_istore_n G [(1, iI 0), (0, iI s)] rfl (by decide) dX2_bits_1 ?_
  refine j_iconst G dX2_bits_2 ?_
  refine j_istore_n G [(2, iI 0), (1, iI 0), (0, iI s)] rfl (by decide) dX2_bits_3 ?_
  have L4 : ∀ (m : Nat) (j : Nat) (a : Int) (k : Int), 8 - j < m → k = j → a = bitF s j → j ≤ 8 → jJ X u 3 [] [(0, iI s), (1, iI a), (2, iI k)] 0 0 4 [] := by
    intro m
    induction m with
    | zero =>
      intro j a k g1 g2 g3 g4
      exfalso
      omega
    | succ m ih_L4 =>
      intro j a k g1 g2 g3 g4
      refine j_iload_n G 2 rfl dX2_bits_4 ?_
      refine j_bipush G (by decide) dX2_bits_5 ?_
      refine j_icmp_ge 24 G (by unfold iR at *; omega) (by unfold iR; omega) dX2_bits_7 (by decide) (fun c_7 => ?_) (fun c_7 => ?_)
      · skip
        have hj : j = 8 := by omega
        subst hj
        have e := bitF_8 hs
        refine j_iload_n G 1 rfl dX2_bits_24 ?_
        exact j_iret G E ⟨(by rw [g3, e]), rfl⟩ ⟨by omega, by omega⟩ dX2_bits_25
      · skip
        refine j_iload_n G 1 rfl dX2_bits_10 ?_
        refine j_iload_n G 0 rfl dX2_bits_11 ?_
        refine j_iload_n G 2 rfl dX2_bits_12 ?_
        refine j_ishr G dX2_bits_13 ?_
        refine j_iconst G dX2_bits_14 ?_
        refine j_iand G dX2_bits_15 ?_
        refine j_iadd G dX2_bits_16 ?_
        refine j_istore_n G [(1, iI (a + (jAnd (jShr s k) 1))), (0, iI s), (2, iI k)] rfl (by decide) dX2_bits_17 ?_
        refine j_iinc G 2 rfl [(2, iI (k + 1)), (1, iI (a + (jAnd (jShr s k) 1))), (0, iI s)] rfl (by decide) dX2_bits_18 ?_
        refine j_goto 4 G dX2_bits_21 (by decide) ?_
        refine j_lv [2, 1, 0] rfl ?_
        exact ih_L4 (j + 1) (a + (jAnd (jShr s k) 1)) (k + 1) (by (try unfold iR at *); omega) (by (try unfold iR at *); omega) (by rw [g3, g2]; rfl) (by (try unfold iR at *); omega)
  refine j_lv [2, 1, 0] rfl ?_
  exact L4 9 0 0 0 (by (try unfold iR at *); omega) rfl rfl (by (try unfold iR at *); omega)
theorem hY_X2_fresh : jY yX2_fresh 1 := ⟨by decide +kernel, by decide +kernel, by decide +kernel⟩
set_option maxHeartbeats 4000000 in
set_option maxRecDepth 100000 in
theorem c_X2_fresh (l : Launch) (u : jU) (y0 aT aX aR aM aG aN aQ aO aS aH aU aW : Nat) (th n gr pw po pr ix sd gn tk ln zs zl za zf ze zi zc bp ls wn sc al nr dr ba bb hh : Int) (tb : Int → Int) (v : Int)  : jC l u yX2_fresh cX2_fresh 3 none 0 0 0 0 [.ref y0, iI v] [[(y0, jO 1 [iI th, iI n, iI gr, iI pw, .ref aT, iI po, iI pr, iI ix, iI sd, iI gn, iI tk, iI ln, .ref aX, iI zs, iI zl, iI za, iI zf, iI ze, iI zi, .ref aR, .ref aM, .ref aG, .ref aN, .ref aQ, lI ls, lI wn, .ref aO, .ref aS, .ref aH, .ref aU, lI sc, iI zc, .ref aW, lI al, lI nr, lI dr, iI bp, lI ba, lI bb, lI hh])], [(aT, cI u 24 tb)]] (fun v_ w_ => ∃ (tb2 : Int → Int), (∀ k : Int, 0 ≤ k → k < 24 → tb2 k = 0) ∧ v_ = none ∧ w_ = [[(y0, jO 1 [iI th, iI v, iI 7, iI 0, .ref aT, iI 0, iI 1, iI 0, iI 0, iI 0, iI 0, iI ln, .ref aX, iI zs, iI zl, iI za, iI zf, iI ze, iI zi, .ref aR, .ref aM, .ref aG, .ref aN, .ref aQ, lI ls, lI wn, .ref aO, .ref aS, .ref aH, .ref aU, lI sc, iI zc, .ref aW, lI al, lI nr, lI dr, iI bp, lI ba, lI bb, lI hh])], [(aT, cI u 24 tb2)]]) := by
  refine jC.of "FlashRatchetModel" (by decide +kernel) rfl (Nat.le_of_ble_eq_true rfl) [(0, .ref y0), (1, iI v)] rfl (fun X G E I => ?_)
  refine j_aload_n G 0 rfl dX2_fresh_0 ?_
  refine j_iload_n G 1 rfl dX2_fresh_1 ?_
  refine j_put (ws' := [[(y0, jO 1 [iI th, iI v, iI gr, iI pw, .ref aT, iI po, iI pr, iI ix, iI sd, iI gn, iI tk, iI ln, .ref aX, iI zs, iI zl, iI za, iI zf, iI ze, iI zi, .ref aR, .ref aM, .ref aG, .ref aN, .ref aQ, lI ls, lI wn, .ref aO, .ref aS, .ref aH, .ref aU, lI sc, iI zc, .ref aW, lI al, lI nr, lI dr, iI bp, lI ba, lI bb, lI hh])], [(aT, cI u 24 tb)]]) G FX2 (jAt_1 0 rfl) 1 (by decide) q1845 rfl rfl rfl (Nat.le_of_ble_eq_true rfl) dX2_fresh_2 rfl ?_
  refine j_aload_n G 0 rfl dX2_fresh_5 ?_
  refine j_bipush G (by decide) dX2_fresh_6 ?_
  refine j_put (ws' := [[(y0, jO 1 [iI th, iI v, iI 7, iI pw, .ref aT, iI po, iI pr, iI ix, iI sd, iI gn, iI tk, iI ln, .ref aX, iI zs, iI zl, iI za, iI zf, iI ze, iI zi, .ref aR, .ref aM, .ref aG, .ref aN, .ref aQ, lI ls, lI wn, .ref aO, .ref aS, .ref aH, .ref aU, lI sc, iI zc, .ref aW, lI al, lI nr, lI dr, iI bp, lI ba, lI bb, lI hh])], [(aT, cI u 24 tb)]]) G FX2 (jAt_1 0 rfl) 2 (by decide) q1846 rfl rfl rfl (Nat.le_of_ble_eq_true rfl) dX2_fresh_8 rfl ?_
  refine j_aload_n G 0 rfl dX2_fresh_11 ?_
  refine j_iconst G dX2_fresh_12 ?_
  refine j_put (ws' := [[(y0, jO 1 [iI th, iI v, iI 7, iI 0, .ref aT, iI po, iI pr, iI ix, iI sd, iI gn, iI tk, iI ln, .ref aX, iI zs, iI zl, iI za, iI zf, iI ze, iI zi, .ref aR, .ref aM, .ref aG, .ref aN, .ref aQ, lI ls, lI wn, .ref aO, .ref aS, .ref aH, .ref aU, lI sc, iI zc, .ref aW, lI al, lI nr, lI dr, iI bp, lI ba, lI bb, lI hh])], [(aT, cI u 24 tb)]]) G FX2 (jAt_1 0 rfl) 3 (by decide) q1847 rfl rfl rfl (Nat.le_of_ble_eq_true rfl) dX2_fresh_13 rfl ?_
  refine j_iconst G dX2_fresh_16 ?_
  refine j_istore_n G [(2, iI 0), (0, .ref y0), (1, iI v)] rfl (by decide) dX2_fresh_17 ?_
  have L18 : ∀ (m : Nat) (j : Nat) (g : Int → Int) (i : Int), 24 - j < m → i = j → (∀ q : Int, 0 ≤ q → q < i → g q = 0) → j ≤ 24 → jJ X u 3 [[(y0, jO 1 [iI th, iI v, iI 7, iI 0, .ref aT, iI po, iI pr, iI ix, iI sd, iI gn, iI tk, iI ln, .ref aX, iI zs, iI zl, iI za, iI zf, iI ze, iI zi, .ref aR, .ref aM, .ref aG, .ref aN, .ref aQ, lI ls, lI wn, .ref aO, .ref aS, .ref aH, .ref aU, lI sc, iI zc, .ref aW, lI al, lI nr, lI dr, iI bp, lI ba, lI bb, lI hh])], [(aT, cI u 24 g)]] [(0, .ref y0), (2, iI i)] 0 0 18 [] := by
    intro m
    induction m with
    | zero =>
      intro j g i g1 g2 g3 g4
      exfalso
      omega
    | succ m ih_L18 =>
      intro j g i g1 g2 g3 g4
      refine j_iload_n G 1 rfl dX2_fresh_18 ?_
      refine j_bipush G (by decide) dX2_fresh_19 ?_
      refine j_icmp_ge 37 G (by unfold iR at *; omega) (by unfold iR; omega) dX2_fresh_21 (by decide) (fun c_21 => ?_) (fun c_21 => ?_)
      · skip
        refine j_aload_n G 0 rfl dX2_fresh_37 ?_
        refine j_iconst G dX2_fresh_38 ?_
        refine j_put (ws' := [[(y0, jO 1 [iI th, iI v, iI 7, iI 0, .ref aT, iI 0, iI pr, iI ix, iI sd, iI gn, iI tk, iI ln, .ref aX, iI zs, iI zl, iI za, iI zf, iI ze, iI zi, .ref aR, .ref aM, .ref aG, .ref aN, .ref aQ, lI ls, lI wn, .ref aO, .ref aS, .ref aH, .ref aU, lI sc, iI zc, .ref aW, lI al, lI nr, lI dr, iI bp, lI ba, lI bb, lI hh])], [(aT, cI u 24 g)]]) G FX2 (jAt_1 0 rfl) 5 (by decide) q1849 rfl rfl rfl (Nat.le_of_ble_eq_true rfl) dX2_fresh_39 rfl ?_
        refine j_aload_n G 0 rfl dX2_fresh_42 ?_
        refine j_iconst G dX2_fresh_43 ?_
        refine j_put (ws' := [[(y0, jO 1 [iI th, iI v, iI 7, iI 0, .ref aT, iI 0, iI 1, iI ix, iI sd, iI gn, iI tk, iI ln, .ref aX, iI zs, iI zl, iI za, iI zf, iI ze, iI zi, .ref aR, .ref aM, .ref aG, .ref aN, .ref aQ, lI ls, lI wn, .ref aO, .ref aS, .ref aH, .ref aU, lI sc, iI zc, .ref aW, lI al, lI nr, lI dr, iI bp, lI ba, lI bb, lI hh])], [(aT, cI u 24 g)]]) G FX2 (jAt_1 0 rfl) 6 (by decide) q1850 rfl rfl rfl (Nat.le_of_ble_eq_true rfl) dX2_fresh_44 rfl ?_
        refine j_aload_n G 0 rfl dX2_fresh_47 ?_
        refine j_iconst G dX2_fresh_48 ?_
        refine j_put (ws' := [[(y0, jO 1 [iI th, iI v, iI 7, iI 0, .ref aT, iI 0, iI 1, iI 0, iI sd, iI gn, iI tk, iI ln, .ref aX, iI zs, iI zl, iI za, iI zf, iI ze, iI zi, .ref aR, .ref aM, .ref aG, .ref aN, .ref aQ, lI ls, lI wn, .ref aO, .ref aS, .ref aH, .ref aU, lI sc, iI zc, .ref aW, lI al, lI nr, lI dr, iI bp, lI ba, lI bb, lI hh])], [(aT, cI u 24 g)]]) G FX2 (jAt_1 0 rfl) 7 (by decide) q1851 rfl rfl rfl (Nat.le_of_ble_eq_true rfl) dX2_fresh_49 rfl ?_
        refine j_aload_n G 0 rfl dX2_fresh_52 ?_
        refine j_iconst G dX2_fresh_53 ?_
        refine j_put (ws' := [[(y0, jO 1 [iI th, iI v, iI 7, iI 0, .ref aT, iI 0, iI 1, iI 0, iI 0, iI gn, iI tk, iI ln, .ref aX, iI zs, iI zl, iI za, iI zf, iI ze, iI zi, .ref aR, .ref aM, .ref aG, .ref aN, .ref aQ, lI ls, lI wn, .ref aO, .ref aS, .ref aH, .ref aU, lI sc, iI zc, .ref aW, lI al, lI nr, lI dr, iI bp, lI ba, lI bb, lI hh])], [(aT, cI u 24 g)]]) G FX2 (jAt_1 0 rfl) 8 (by decide) q1852 rfl rfl rfl (Nat.le_of_ble_eq_true rfl) dX2_fresh_54 rfl ?_
        refine j_aload_n G 0 rfl dX2_fresh_57 ?_
        refine j_iconst G dX2_fresh_58 ?_
        refine j_put (ws' := [[(y0, jO 1 [iI th, iI v, iI 7, iI 0, .ref aT, iI 0, iI 1, iI 0, iI 0, iI 0, iI tk, iI ln, .ref aX, iI zs, iI zl, iI za, iI zf, iI ze, iI zi, .ref aR, .ref aM, .ref aG, .ref aN, .ref aQ, lI ls, lI wn, .ref aO, .ref aS, .ref aH, .ref aU, lI sc, iI zc, .ref aW, lI al, lI nr, lI dr, iI bp, lI ba, lI bb, lI hh])], [(aT, cI u 24 g)]]) G FX2 (jAt_1 0 rfl) 9 (by decide) q1853 rfl rfl rfl (Nat.le_of_ble_eq_true rfl) dX2_fresh_59 rfl ?_
        refine j_aload_n G 0 rfl dX2_fresh_62 ?_
        refine j_iconst G dX2_fresh_63 ?_
        refine j_put (ws' := [[(y0, jO 1 [iI th, iI v, iI 7, iI 0, .ref aT, iI 0, iI 1, iI 0, iI 0, iI 0, iI 0, iI ln, .ref aX, iI zs, iI zl, iI za, iI zf, iI ze, iI zi, .ref aR, .ref aM, .ref aG, .ref aN, .ref aQ, lI ls, lI wn, .ref aO, .ref aS, .ref aH, .ref aU, lI sc, iI zc, .ref aW, lI al, lI nr, lI dr, iI bp, lI ba, lI bb, lI hh])], [(aT, cI u 24 g)]]) G FX2 (jAt_1 0 rfl) 10 (by decide) q1854 rfl rfl rfl (Nat.le_of_ble_eq_true rfl) dX2_fresh_64 rfl ?_
        exact j_vret G E ⟨g, (fun q h0 h1 => g3 q h0 (by omega)), rfl, rfl⟩ ⟨by omega, by omega⟩ dX2_fresh_67
      · skip
        refine j_aload_n G 0 rfl dX2_fresh_24 ?_
        refine j_get G FX2 (jAt_1 0 rfl) 4 (by decide) q1848 rfl dX2_fresh_25 ?_
        refine j_iload_n G 1 rfl dX2_fresh_28 ?_
        refine j_iconst G dX2_fresh_29 ?_
        refine j_iastore (ws' := [[(y0, jO 1 [iI th, iI v, iI 7, iI 0, .ref aT, iI po, iI pr, iI ix, iI sd, iI gn, iI tk, iI ln, .ref aX, iI zs, iI zl, iI za, iI zf, iI ze, iI zi, .ref aR, .ref aM, .ref aG, .ref aN, .ref aQ, lI ls, lI wn, .ref aO, .ref aS, .ref aH, .ref aU, lI sc, iI zc, .ref aW, lI al, lI nr, lI dr, iI bp, lI ba, lI bb, lI hh])], [(aT, cI u 24 (uZ g i 0))]]) G (jAt_1 1 rfl) (by (try unfold iR at *); omega) (by (try unfold iR at *); omega) (by (try unfold iR at *); omega) dX2_fresh_30 rfl ?_
        refine j_iinc G 1 rfl [(2, iI (i + 1)), (0, .ref y0)] rfl (by decide) dX2_fresh_31 ?_
        refine j_goto 18 G dX2_fresh_34 (by decide) ?_
        refine j_lv [1, 0] rfl ?_
        exact ih_L18 (j + 1) (uZ g i 0) (i + 1) (by (try unfold iR at *); omega) (by (try unfold iR at *); omega) (fun q h0 h1 => by unfold uZ; split <;> first | rfl | exact g3 q h0 (by omega)) (by (try unfold iR at *); omega)
  refine j_lv [1, 0] rfl ?_
  exact L18 25 0 tb 0 (by (try unfold iR at *); omega) rfl (fun q h0 h1 => absurd h1 (by omega)) (by (try unfold iR at *); omega)
