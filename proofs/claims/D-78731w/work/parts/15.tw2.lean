theorem hY_X2_thrown : jY yX2_thrown 0 := ⟨by decide +kernel, by decide +kernel, by decide +kernel⟩
set_option maxHeartbeats 4000000 in
set_option maxRecDepth 100000 in
theorem c_X2_thrown (l : Launch) (u : jU) (y0 aT aX aR aM aG aN aQ aO aS aH aU aW : Nat) (th n gr pw po pr ix sd gn tk ln zs zl za zf ze zi zc bp ls wn sc al nr dr ba bb hh : Int)  : jC l u yX2_thrown cX2_thrown 1 (some .int) 0 0 0 0 [.ref y0] [[(y0, jO 1 [iI th, iI n, iI gr, iI pw, .ref aT, iI po, iI pr, iI ix, iI sd, iI gn, iI tk, iI ln, .ref aX, iI zs, iI zl, iI za, iI zf, iI ze, iI zi, .ref aR, .ref aM, .ref aG, .ref aN, .ref aQ, lI ls, lI wn, .ref aO, .ref aS, .ref aH, .ref aU, lI sc, iI zc, .ref aW, lI al, lI nr, lI dr, iI bp, lI ba, lI bb, lI hh])]] (fun v_ w_ => v_ = some (iI th) ∧ w_ = [[(y0, jO 1 [iI th, iI n, iI gr, iI pw, .ref aT, iI po, iI pr, iI ix, iI sd, iI gn, iI tk, iI ln, .ref aX, iI zs, iI zl, iI za, iI zf, iI ze, iI zi, .ref aR, .ref aM, .ref aG, .ref aN, .ref aQ, lI ls, lI wn, .ref aO, .ref aS, .ref aH, .ref aU, lI sc, iI zc, .ref aW, lI al, lI nr, lI dr, iI bp, lI ba, lI bb, lI hh])]]) := by
  refine jC.of "FlashRatchetModel" (by decide +kernel) rfl (Nat.le_of_ble_eq_true rfl) [(0, .ref y0)] rfl (fun X G E I => ?_)
  refine j_aload_n G 0 rfl dX2_thrown_0 ?_
  refine j_get G FX2 (jAt_1 0 rfl) 0 (by decide) q1844 rfl dX2_thrown_1 ?_
  exact j_iret G E ⟨rfl, rfl⟩ ⟨by omega, by omega⟩ dX2_thrown_4
theorem hY_X2_begin : jY yX2_begin 1 := ⟨by decide +kernel, by decide +kernel, by decide +kernel⟩
set_option maxHeartbeats 4000000 in
set_option maxRecDepth 100000 in
theorem c_X2_begin (l : Launch) (u : jU) (y0 aT aX aR aM aG aN aQ aO aS aH aU aW : Nat) (th n gr pw po pr ix sd gn tk ln zs zl za zf ze zi zc bp ls wn sc al nr dr ba bb hh : Int) (tb : Int → Int) (v : Int) (hRv : iR v) : jC l u yX2_begin cX2_begin 3 (some .int) 1 22 0 0 [.ref y0, iI v] [[(y0, jO 1 [iI th, iI n, iI gr, iI pw, .ref aT, iI po, iI pr, iI ix, iI sd, iI gn, iI tk, iI ln, .ref aX, iI zs, iI zl, iI za, iI zf, iI ze, iI zi, .ref aR, .ref aM, .ref aG, .ref aN, .ref aQ, lI ls, lI wn, .ref aO, .ref aS, .ref aH, .ref aU, lI sc, iI zc, .ref aW, lI al, lI nr, lI dr, iI bp, lI ba, lI bb, lI hh])], [(aT, cI u 24 tb)]] (fun v_ w_ => (∃ (tb2 : Int → Int), (2 ≤ v ∧ v ≤ 4) ∧ (∀ k : Int, 0 ≤ k → k < 24 → tb2 k = 0) ∧ v_ = some (iI n) ∧ w_ = [[(y0, jO 1 [iI 0, iI v, iI 7, iI 0, .ref aT, iI 0, iI 1, iI 0, iI 0, iI 0, iI 0, iI ln, .ref aX, iI zs, iI zl, iI za, iI zf, iI ze, iI zi, .ref aR, .ref aM, .ref aG, .ref aN, .ref aQ, lI ls, lI wn, .ref aO, .ref aS, .ref aH, .ref aU, lI sc, iI zc, .ref aW, lI al, lI nr, lI dr, iI bp, lI ba, lI bb, lI hh])], [(aT, cI u 24 tb2)]]) ∨ ((¬ (2 ≤ v ∧ v ≤ 4)) ∧ v_ = some (iI 0) ∧ w_ = [[(y0, jO 1 [iI 1, iI n, iI gr, iI pw, .ref aT, iI po, iI pr, iI ix, iI sd, iI gn, iI tk, iI ln, .ref aX, iI zs, iI zl, iI za, iI zf, iI ze, iI zi, .ref aR, .ref aM, .ref aG, .ref aN, .ref aQ, lI ls, lI wn, .ref aO, .ref aS, .ref aH, .ref aU, lI sc, iI zc, .ref aW, lI al, lI nr, lI dr, iI bp, lI ba, lI bb, lI hh])], [(aT, cI u 24 tb)]])) := by
  refine jC.of "FlashRatchetModel" (by decide +kernel) rfl (Nat.le_of_ble_eq_true rfl) [(0, .ref y0), (1, iI v)] rfl (fun X G E I => ?_)
  refine j_aload_n G 0 rfl dX2_begin_0 ?_
  refine j_iload_n G 1 rfl dX2_begin_1 ?_
  refine j_iconst G dX2_begin_2 ?_
  refine j_iconst G dX2_begin_3 ?_
  refine j_callS (wr := [[(y0, jO 1 [iI th, iI n, iI gr, iI pw, .ref aT, iI po, iI pr, iI ix, iI sd, iI gn, iI tk, iI ln, .ref aX, iI zs, iI zl, iI za, iI zf, iI ze, iI zi, .ref aR, .ref aM, .ref aG, .ref aN, .ref aQ, lI ls, lI wn, .ref aO, .ref aS, .ref aH, .ref aU, lI sc, iI zc, .ref aW, lI al, lI nr, lI dr, iI bp, lI ba, lI bb, lI hh])], [(aT, cI u 24 tb)]]) (k' := 0) (n' := 0) G (c_X2_within l u v 2 4 hRv (by unfold iR; omega) (by unfold iR; omega)) hY_X2_within q1973 q1974 q90 q1975 (jcut 2 [0, 1] (by decide) rfl rfl) ⟨by omega, by omega, by omega, by omega, by omega, by omega⟩ (Nat.le_of_ble_eq_true rfl) dX2_begin_4 rfl (fun v_ w_ hp => ?_)
  obtain ⟨r_4, h4_1, rfl, rfl⟩ := hp
  show jJ X u 3 [[(y0, jO 1 [iI th, iI n, iI gr, iI pw, .ref aT, iI po, iI pr, iI ix, iI sd, iI gn, iI tk, iI ln, .ref aX, iI zs, iI zl, iI za, iI zf, iI ze, iI zi, .ref aR, .ref aM, .ref aG, .ref aN, .ref aQ, lI ls, lI wn, .ref aO, .ref aS, .ref aH, .ref aU, lI sc, iI zc, .ref aW, lI al, lI nr, lI dr, iI bp, lI ba, lI bb, lI hh])], [(aT, cI u 24 tb)]] [(0, .ref y0), (1, iI v)] 0 0 7 [iI r_4, .ref y0]
  refine j_if_eq 14 G (by unfold iR at *; omega) dX2_begin_7 (by decide) (fun c_7 => ?_) (fun c_7 => ?_)
  · skip
    refine j_iconst G dX2_begin_14 ?_
    refine j_put (ws' := [[(y0, jO 1 [iI 1, iI n, iI gr, iI pw, .ref aT, iI po, iI pr, iI ix, iI sd, iI gn, iI tk, iI ln, .ref aX, iI zs, iI zl, iI za, iI zf, iI ze, iI zi, .ref aR, .ref aM, .ref aG, .ref aN, .ref aQ, lI ls, lI wn, .ref aO, .ref aS, .ref aH, .ref aU, lI sc, iI zc, .ref aW, lI al, lI nr, lI dr, iI bp, lI ba, lI bb, lI hh])], [(aT, cI u 24 tb)]]) G FX2 (jAt_1 0 rfl) 0 (by decide) q1844 rfl rfl rfl (Nat.le_of_ble_eq_true rfl) dX2_begin_15 rfl ?_
    refine j_aload_n G 0 rfl dX2_begin_18 ?_
    refine j_get G FX2 (jAt_1 0 rfl) 0 (by decide) q1844 rfl dX2_begin_19 ?_
    refine j_if_le 27 G (by unfold iR; omega) dX2_begin_22 (by decide) (fun c_22 => ?_) (fun c_22 => ?_)
    · exact absurd c_22 (by decide)
    · skip
      refine j_iconst G dX2_begin_25 ?_
      exact j_iret G E (Or.inr ⟨(by omega), rfl, rfl⟩) ⟨by omega, by omega⟩ dX2_begin_26
  · skip
    refine j_iconst G dX2_begin_10 ?_
    refine j_goto 15 G dX2_begin_11 (by decide) ?_
    refine j_put (ws' := [[(y0, jO 1 [iI 0, iI n, iI gr, iI pw, .ref aT, iI po, iI pr, iI ix, iI sd, iI gn, iI tk, iI ln, .ref aX, iI zs, iI zl, iI za, iI zf, iI ze, iI zi, .ref aR, .ref aM, .ref aG, .ref aN, .ref aQ, lI ls, lI wn, .ref aO, .ref aS, .ref aH, .ref aU, lI sc, iI zc, .ref aW, lI al, lI nr, lI dr, iI bp, lI ba, lI bb, lI hh])], [(aT, cI u 24 tb)]]) G FX2 (jAt_1 0 rfl) 0 (by decide) q1844 rfl rfl rfl (Nat.le_of_ble_eq_true rfl) dX2_begin_15 rfl ?_
    refine j_aload_n G 0 rfl dX2_begin_18 ?_
    refine j_get G FX2 (jAt_1 0 rfl) 0 (by decide) q1844 rfl dX2_begin_19 ?_
    refine j_if_le 27 G (by unfold iR; omega) dX2_begin_22 (by decide) (fun c_22 => ?_) (fun c_22 => ?_)
    · skip
      refine j_aload_n G 0 rfl dX2_begin_27 ?_
      refine j_get G FX2 (jAt_1 0 rfl) 1 (by decide) q1845 rfl dX2_begin_28 ?_
      refine j_istore_n G [(2, iI n), (0, .ref y0), (1, iI v)] rfl (by decide) dX2_begin_31 ?_
      refine j_aload_n G 1 rfl dX2_begin_32 ?_
      refine j_iload_n G 2 rfl dX2_begin_33 ?_
      refine j_callV (wr := []) (k' := 0) (n' := 0) G FX2 (c_X2_fresh l u y0 aT aX aR aM aG aN aQ aO aS aH aU aW 0 n gr pw po pr ix sd gn tk ln zs zl za zf ze zi zc bp ls wn sc al nr dr ba bb hh tb v ) (jAt_1 0 rfl) ⟨rfl, hY_X2_fresh⟩ q1840 q1842 qs43 q90 q1843 (jcut 2 [0, 1] (by decide) rfl rfl) ⟨by omega, by omega, by omega, by omega, by omega, by omega⟩ (Nat.le_of_ble_eq_true rfl) dX2_begin_34 rfl (fun v_ w_ hp => ?_)
      obtain ⟨tb2_34, h34_1, rfl, rfl⟩ := hp
      show jJ X u 3 [[(y0, jO 1 [iI 0, iI v, iI 7, iI 0, .ref aT, iI 0, iI 1, iI 0, iI 0, iI 0, iI 0, iI ln, .ref aX, iI zs, iI zl, iI za, iI zf, iI ze, iI zi, .ref aR, .ref aM, .ref aG, .ref aN, .ref aQ, lI ls, lI wn, .ref aO, .ref aS, .ref aH, .ref aU, lI sc, iI zc, .ref aW, lI al, lI nr, lI dr, iI bp, lI ba, lI bb, lI hh])], [(aT, cI u 24 tb2_34)]] [(2, iI n), (0, .ref y0), (1, iI v)] 0 0 37 []
      refine j_iload_n G 0 rfl dX2_begin_37 ?_
      exact j_iret G E (Or.inl ⟨tb2_34, (by omega), h34_1, rfl, rfl⟩) ⟨by omega, by omega⟩ dX2_begin_38
    · exact absurd c_22 (by decide)
theorem hY_X2_setTable : jY yX2_setTable 4 := ⟨by decide +kernel, by decide +kernel, by decide +kernel⟩
set_option maxHeartbeats 4000000 in
set_option maxRecDepth 100000 in
theorem c_X2_setTable (l : Launch) (u : jU) (y0 aT aX aR aM aG aN aQ aO aS aH aU aW : Nat) (th n gr pw po pr ix sd gn tk ln zs zl za zf ze zi zc bp ls wn sc al nr dr ba bb hh : Int) (tb : Int → Int) (lv p b f : Int) (hRlv : iR lv) (hRp : iR p) (hRb : iR b) (hRf : iR f) (hn : 2 ≤ n ∧ n ≤ 4) : jC l u yX2_setTable cX2_setTable 7 (some .int) 2 43 0 0 [.ref y0, iI lv, iI p, iI b, iI f] [[(y0, jO 1 [iI th, iI n, iI gr, iI pw, .ref aT, iI po, iI pr, iI ix, iI sd, iI gn, iI tk, iI ln, .ref aX, iI zs, iI zl, iI za, iI zf, iI ze, iI zi, .ref aR, .ref aM, .ref aG, .ref aN, .ref aQ, lI ls, lI wn, .ref aO, .ref aS, .ref aH, .ref aU, lI sc, iI zc, .ref aW, lI al, lI nr, lI dr, iI bp, lI ba, lI bb, lI hh])], [(aT, cI u 24 tb)]] (fun v_ w_ => ((0 ≤ lv ∧ lv ≤ 2 ∧ 0 ≤ p ∧ p < n) ∧ (0 ≤ b ∧ 0 ≤ f ∧ b + f ≤ 10) ∧ v_ = some (iI (100 * tB tb (4 * lv + p) + tF tb (4 * lv + p))) ∧ w_ = [[(y0, jO 1 [iI 0, iI n, iI gr, iI pw, .ref aT, iI po, iI pr, iI ix, iI sd, iI gn, iI tk, iI ln, .ref aX, iI zs, iI zl, iI za, iI zf, iI ze, iI zi, .ref aR, .ref aM, .ref aG, .ref aN, .ref aQ, lI ls, lI wn, .ref aO, .ref aS, .ref aH, .ref aU, lI sc, iI zc, .ref aW, lI al, lI nr, lI dr, iI bp, lI ba, lI bb, lI hh])], [(aT, cI u 24 (uZ (uZ tb (8 * lv + 2 * p) b) (8 * lv + 2 * p + 1) f))]]) ∨ ((¬ (0 ≤ lv ∧ lv ≤ 2 ∧ 0 ≤ p ∧ p < n)) ∧ v_ = some (iI 0) ∧ w_ = [[(y0, jO 1 [iI 1, iI n, iI gr, iI pw, .ref aT, iI po, iI pr, iI ix, iI sd, iI gn, iI tk, iI ln, .ref aX, iI zs, iI zl, iI za, iI zf, iI ze, iI zi, .ref aR, .ref aM, .ref aG, .ref aN, .ref aQ, lI ls, lI wn, .ref aO, .ref aS, .ref aH, .ref aU, lI sc, iI zc, .ref aW, lI al, lI nr, lI dr, iI bp, lI ba, lI bb, lI hh])], [(aT, cI u 24 tb)]]) ∨ ((0 ≤ lv ∧ lv ≤ 2 ∧ 0 ≤ p ∧ p < n) ∧ (¬ (0 ≤ b ∧ 0 ≤ f ∧ b + f ≤ 10)) ∧ v_ = some (iI 0) ∧ w_ = [[(y0, jO 1 [iI 2, iI n, iI gr, iI pw, .ref aT, iI po, iI pr, iI ix, iI sd, iI gn, iI tk, iI ln, .ref aX, iI zs, iI zl, iI za, iI zf, iI ze, iI zi, .ref aR, .ref aM, .ref aG, .ref aN, .ref aQ, lI ls, lI wn, .ref aO, .ref aS, .ref aH, .ref aU, lI sc, iI zc, .ref aW, lI al, lI nr, lI dr, iI bp, lI ba, lI bb, lI hh])], [(aT, cI u 24 tb)]])) := by
  refine jC.of "FlashRatchetModel" (by decide +kernel) rfl (Nat.le_of_ble_eq_true rfl) [(0, .ref y0), (1, iI lv), (2, iI p), (3, iI b), (4, iI f)] rfl (fun X G E I => ?_)
  have L37 : ∀ (z : Int), ((z = 1 ∧ 0 ≤ b ∧ 0 ≤ f ∧ b + f ≤ 10) ∨ (z = 0 ∧ ¬ (0 ≤ b ∧ 0 ≤ f ∧ b + f ≤ 10))) → jJ X u 7 [[(y0, jO 1 [iI th, iI n, iI gr, iI pw, .ref aT, iI po, iI pr, iI ix, iI sd, iI gn, iI tk, iI ln, .ref aX, iI zs, iI zl, iI za, iI zf, iI ze, iI zi, .ref aR, .ref aM, .ref aG, .ref aN, .ref aQ, lI ls, lI wn, .ref aO, .ref aS, .ref aH, .ref aU, lI sc, iI zc, .ref aW, lI al, lI nr, lI dr, iI bp, lI ba, lI bb, lI hh])], [(aT, cI u 24 tb)]] [(0, .ref y0), (1, iI lv), (2, iI p), (3, iI b), (4, iI f), (5, iI z)] 0 0 37 [] := by
    intro z g1
    refine j_aload_n G 0 rfl dX2_setTable_37 ?_
    refine j_iload_n G 1 rfl dX2_setTable_38 ?_
    refine j_callS (wr := [[(y0, jO 1 [iI th, iI n, iI gr, iI pw, .ref aT, iI po, iI pr, iI ix, iI sd, iI gn, iI tk, iI ln, .ref aX, iI zs, iI zl, iI za, iI zf, iI ze, iI zi, .ref aR, .ref aM, .ref aG, .ref aN, .ref aQ, lI ls, lI wn, .ref aO, .ref aS, .ref aH, .ref aU, lI sc, iI zc, .ref aW, lI al, lI nr, lI dr, iI bp, lI ba, lI bb, lI hh])], [(aT, cI u 24 tb)]]) (k' := 0) (n' := 0) G (c_X2_isLever l u lv hRlv) hY_X2_isLever q1980 q1981 q90 q1982 (jcut 2 [0, 1] (by decide) rfl rfl) ⟨by omega, by omega, by omega, by omega, by omega, by omega⟩ (Nat.le_of_ble_eq_true rfl) dX2_setTable_39 rfl (fun v_ w_ hp => ?_)
    obtain ⟨r_39, h39_1, rfl, rfl⟩ := hp
    show jJ X u 7 [[(y0, jO 1 [iI th, iI n, iI gr, iI pw, .ref aT, iI po, iI pr, iI ix, iI sd, iI gn, iI tk, iI ln, .ref aX, iI zs, iI zl, iI za, iI zf, iI ze, iI zi, .ref aR, .ref aM, .ref aG, .ref aN, .ref aQ, lI ls, lI wn, .ref aO, .ref aS, .ref aH, .ref aU, lI sc, iI zc, .ref aW, lI al, lI nr, lI dr, iI bp, lI ba, lI bb, lI hh])], [(aT, cI u 24 tb)]] [(0, .ref y0), (1, iI lv), (2, iI p), (3, iI b), (4, iI f), (5, iI z)] 0 0 42 [iI r_39, .ref y0]
    refine j_if_eq 53 G (by unfold iR at *; omega) dX2_setTable_42 (by decide) (fun c_42 => ?_) (fun c_42 => ?_)
    · skip
      refine j_iconst G dX2_setTable_53 ?_
      refine j_goto 67 G dX2_setTable_54 (by decide) ?_
      refine j_put (ws' := [[(y0, jO 1 [iI 1, iI n, iI gr, iI pw, .ref aT, iI po, iI pr, iI ix, iI sd, iI gn, iI tk, iI ln, .ref aX, iI zs, iI zl, iI za, iI zf, iI ze, iI zi, .ref aR, .ref aM, .ref aG, .ref aN, .ref aQ, lI ls, lI wn, .ref aO, .ref aS, .ref aH, .ref aU, lI sc, iI zc, .ref aW, lI al, lI nr, lI dr, iI bp, lI ba, lI bb, lI hh])], [(aT, cI u 24 tb)]]) G FX2 (jAt_1 0 rfl) 0 (by decide) q1844 rfl rfl rfl (Nat.le_of_ble_eq_true rfl) dX2_setTable_67 rfl ?_
      refine j_aload_n G 0 rfl dX2_setTable_70 ?_
      refine j_get G FX2 (jAt_1 0 rfl) 0 (by decide) q1844 rfl dX2_setTable_71 ?_
      refine j_if_le 79 G (by unfold iR; omega) dX2_setTable_74 (by decide) (fun c_74 => ?_) (fun c_74 => ?_)
      · exact absurd c_74 (by decide)
      · skip
        refine j_iconst G dX2_setTable_77 ?_
        exact j_iret G E (Or.inr (Or.inl ⟨(by omega), rfl, rfl⟩)) ⟨by omega, by omega⟩ dX2_setTable_78
    · skip
      refine j_aload_n G 0 rfl dX2_setTable_45 ?_
      refine j_iload_n G 2 rfl dX2_setTable_46 ?_
      refine j_callV (wr := [[(aT, cI u 24 tb)]]) (k' := 0) (n' := 0) G FX2 (c_X2_isPosition l u y0 aT aX aR aM aG aN aQ aO aS aH aU aW th n gr pw po pr ix sd gn tk ln zs zl za zf ze zi zc bp ls wn sc al nr dr ba bb hh p hRp hn) (jAt_1 0 rfl) ⟨rfl, hY_X2_isPosition⟩ q1983 q1985 qs44 q90 q1986 (jcut 2 [0, 1] (by decide) rfl rfl) ⟨by omega, by omega, by omega, by omega, by omega, by omega⟩ (Nat.le_of_ble_eq_true rfl) dX2_setTable_47 rfl (fun v_ w_ hp => ?_)
      obtain ⟨r_47, h47_1, rfl, rfl⟩ := hp
      show jJ X u 7 [[(y0, jO 1 [iI th, iI n, iI gr, iI pw, .ref aT, iI po, iI pr, iI ix, iI sd, iI gn, iI tk, iI ln, .ref aX, iI zs, iI zl, iI za, iI zf, iI ze, iI zi, .ref aR, .ref aM, .ref aG, .ref aN, .ref aQ, lI ls, lI wn, .ref aO, .ref aS, .ref aH, .ref aU, lI sc, iI zc, .ref aW, lI al, lI nr, lI dr, iI bp, lI ba, lI bb, lI hh])], [(aT, cI u 24 tb)]] [(0, .ref y0), (1, iI lv), (2, iI p), (3, iI b), (4, iI f), (5, iI z)] 0 0 50 [iI r_47, .ref y0]
      refine j_if_ne 57 G (by unfold iR at *; omega) dX2_setTable_50 (by decide) (fun c_50 => ?_) (fun c_50 => ?_)
      · skip
        refine j_iload G 5 rfl dX2_setTable_57 ?_
        refine j_if_eq 66 G (by unfold iR at *; omega) dX2_setTable_59 (by decide) (fun c_59 => ?_) (fun c_59 => ?_)
        · skip
          refine j_iconst G dX2_setTable_66 ?_
          refine j_put (ws' := [[(y0, jO 1 [iI 2, iI n, iI gr, iI pw, .ref aT, iI po, iI pr, iI ix, iI sd, iI gn, iI tk, iI ln, .ref aX, iI zs, iI zl, iI za, iI zf, iI ze, iI zi, .ref aR, .ref aM, .ref aG, .ref aN, .ref aQ, lI ls, lI wn, .ref aO, .ref aS, .ref aH, .ref aU, lI sc, iI zc, .ref aW, lI al, lI nr, lI dr, iI bp, lI ba, lI bb, lI hh])], [(aT, cI u 24 tb)]]) G FX2 (jAt_1 0 rfl) 0 (by decide) q1844 rfl rfl rfl (Nat.le_of_ble_eq_true rfl) dX2_setTable_67 rfl ?_
          refine j_aload_n G 0 rfl dX2_setTable_70 ?_
          refine j_get G FX2 (jAt_1 0 rfl) 0 (by decide) q1844 rfl dX2_setTable_71 ?_
          refine j_if_le 79 G (by unfold iR; omega) dX2_setTable_74 (by decide) (fun c_74 => ?_) (fun c_74 => ?_)
          · exact absurd c_74 (by decide)
          · skip
            refine j_iconst G dX2_setTable_77 ?_
            exact j_iret G E (Or.inr (Or.inr ⟨(by omega), (by omega), rfl, rfl⟩)) ⟨by omega, by omega⟩ dX2_setTable_78
        · skip
          refine j_iconst G dX2_setTable_62 ?_
          refine j_goto 67 G dX2_setTable_63 (by decide) ?_
          refine j_put (ws' := [[(y0, jO 1 [iI 0, iI n, iI gr, iI pw, .ref aT, iI po, iI pr, iI ix, iI sd, iI gn, iI tk, iI ln, .ref aX, iI zs, iI zl, iI za, iI zf, iI ze, iI zi, .ref aR, .ref aM, .ref aG, .ref aN, .ref aQ, lI ls, lI wn, .ref aO, .ref aS, .ref aH, .ref aU, lI sc, iI zc, .ref aW, lI al, lI nr, lI dr, iI bp, lI ba, lI bb, lI hh])], [(aT, cI u 24 tb)]]) G FX2 (jAt_1 0 rfl) 0 (by decide) q1844 rfl rfl rfl (Nat.le_of_ble_eq_true rfl) dX2_setTable_67 rfl ?_
          refine j_aload_n G 0 rfl dX2_setTable_70 ?_
          refine j_get G FX2 (jAt_1 0 rfl) 0 (by decide) q1844 rfl dX2_setTable_71 ?_
          refine j_if_le 79 G (by unfold iR; omega) dX2_setTable_74 (by decide) (fun c_74 => ?_) (fun c_74 => ?_)
          · skip
            refine j_aload_n G 0 rfl dX2_setTable_79 ?_
            refine j_iload_n G 1 rfl dX2_setTable_80 ?_
            refine j_iload_n G 2 rfl dX2_setTable_81 ?_
            refine j_callV (wr := []) (k' := 0) (n' := 0) G FX2 (c_X2_told l u y0 aT aX aR aM aG aN aQ aO aS aH aU aW 0 n gr pw po pr ix sd gn tk ln zs zl za zf ze zi zc bp ls wn sc al nr dr ba bb hh tb lv p (by (try unfold iR at *); omega) (by (try unfold iR at *); omega)) (jAt_1 0 rfl) ⟨rfl, hY_X2_told⟩ q1987 q1989 qs45 q90 q1990 (jcut 2 [0, 1] (by decide) rfl rfl) ⟨by omega, by omega, by omega, by omega, by omega, by omega⟩ (Nat.le_of_ble_eq_true rfl) dX2_setTable_82 rfl (fun v_ w_ hp => ?_)
            obtain ⟨r_82, h82_1, rfl, rfl⟩ := hp
            subst h82_1
            show jJ X u 7 [[(y0, jO 1 [iI 0, iI n, iI gr, iI pw, .ref aT, iI po, iI pr, iI ix, iI sd, iI gn, iI tk, iI ln, .ref aX, iI zs, iI zl, iI za, iI zf, iI ze, iI zi, .ref aR, .ref aM, .ref aG, .ref aN, .ref aQ, lI ls, lI wn, .ref aO, .ref aS, .ref aH, .ref aU, lI sc, iI zc, .ref aW, lI al, lI nr, lI dr, iI bp, lI ba, lI bb, lI hh])], [(aT, cI u 24 tb)]] [(0, .ref y0), (1, iI lv), (2, iI p), (3, iI b), (4, iI f), (5, iI z)] 0 0 85 [iI (100 * tB tb (4 * lv + p) + tF tb (4 * lv + p))]
            refine j_istore G [(6, iI (100 * tB tb (4 * lv + p) + tF tb (4 * lv + p))), (0, .ref y0), (1, iI lv), (2, iI p), (3, iI b), (4, iI f), (5, iI z)] rfl (by decide) dX2_setTable_85 ?_
            refine j_aload_n G 1 rfl dX2_setTable_87 ?_
            refine j_iload_n G 2 rfl dX2_setTable_88 ?_
            refine j_iload_n G 3 rfl dX2_setTable_89 ?_
            refine j_iload_n G 4 rfl dX2_setTable_90 ?_
            refine j_iload G 5 rfl dX2_setTable_91 ?_
            refine j_callV (wr := []) (k' := 0) (n' := 0) G FX2 (c_X2_put l u y0 aT aX aR aM aG aN aQ aO aS aH aU aW 0 n gr pw po pr ix sd gn tk ln zs zl za zf ze zi zc bp ls wn sc al nr dr ba bb hh tb lv p b f (by (try unfold iR at *); omega) (by (try unfold iR at *); omega)) (jAt_1 0 rfl) ⟨rfl, hY_X2_put⟩ q1991 q1993 qs46 q90 q1994 (jcut 2 [0, 1] (by decide) rfl rfl) ⟨by omega, by omega, by omega, by omega, by omega, by omega⟩ (Nat.le_of_ble_eq_true rfl) dX2_setTable_93 rfl (fun v_ w_ hp => ?_)
            obtain ⟨rfl, rfl⟩ := hp
            show jJ X u 7 [[(y0, jO 1 [iI 0, iI n, iI gr, iI pw, .ref aT, iI po, iI pr, iI ix, iI sd, iI gn, iI tk, iI ln, .ref aX, iI zs, iI zl, iI za, iI zf, iI ze, iI zi, .ref aR, .ref aM, .ref aG, .ref aN, .ref aQ, lI ls, lI wn, .ref aO, .ref aS, .ref aH, .ref aU, lI sc, iI zc, .ref aW, lI al, lI nr, lI dr, iI bp, lI ba, lI bb, lI hh])], [(aT, cI u 24 (uZ (uZ tb (8 * lv + 2 * p) b) (8 * lv + 2 * p + 1) f))]] [(6, iI (100 * tB tb (4 * lv + p) + tF tb (4 * lv + p))), (0, .ref y0), (1, iI lv), (2, iI p), (3, iI b), (4, iI f), (5, iI z)] 0 0 96 []
            refine j_iload G 0 rfl dX2_setTable_96 ?_
            exact j_iret G E (Or.inl ⟨(by omega), (by omega), rfl, rfl⟩) ⟨by omega, by omega⟩ dX2_setTable_98
          · exact absurd c_74 (by decide)
      · skip
        refine j_iconst G dX2_setTable_53 ?_
        refine j_goto 67 G dX2_setTable_54 (by decide) ?_
        refine j_put (ws' := [[(y0, jO 1 [iI 1, iI n, iI gr, iI pw, .ref aT, iI po, iI pr, iI ix, iI sd, iI gn, iI tk, iI ln, .ref aX, iI zs, iI zl, iI za, iI zf, iI ze, iI zi, .ref aR, .ref aM, .ref aG, .ref aN, .ref aQ, lI ls, lI wn, .ref aO, .ref aS, .ref aH, .ref aU, lI sc, iI zc, .ref aW, lI al, lI nr, lI dr, iI bp, lI ba, lI bb, lI hh])], [(aT, cI u 24 tb)]]) G FX2 (jAt_1 0 rfl) 0 (by decide) q1844 rfl rfl rfl (Nat.le_of_ble_eq_true rfl) dX2_setTable_67 rfl ?_
        refine j_aload_n G 0 rfl dX2_setTable_70 ?_
        refine j_get G FX2 (jAt_1 0 rfl) 0 (by decide) q1844 rfl dX2_setTable_71 ?_
        refine j_if_le 79 G (by unfold iR; omega) dX2_setTable_74 (by decide) (fun c_74 => ?_) (fun c_74 => ?_)
        · exact absurd c_74 (by decide)
        · skip
          refine j_iconst G dX2_setTable_77 ?_
          exact j_iret G E (Or.inr (Or.inl ⟨(by omega), rfl, rfl⟩)) ⟨by omega, by omega⟩ dX2_setTable_78
  refine j_iload_n G 3 rfl dX2_setTable_0 ?_
  refine j_iconst G dX2_setTable_1 ?_
  refine j_bipush G (by decide) dX2_setTable_2 ?_
  refine j_callS (wr := [[(y0, jO 1 [iI th, iI n, iI gr, iI pw, .ref aT, iI po, iI pr, iI ix, iI sd, iI gn, iI tk, iI ln, .ref aX, iI zs, iI zl, iI za, iI zf, iI ze, iI zi, .ref aR, .ref aM, .ref aG, .ref aN, .ref aQ, lI ls, lI wn, .ref aO, .ref aS, .ref aH, .ref aU, lI sc, iI zc, .ref aW, lI al, lI nr, lI dr, iI bp, lI ba, lI bb, lI hh])], [(aT, cI u 24 tb)]]) (k' := 0) (n' := 0) G (c_X2_within l u b 0 10 hRb (by unfold iR; omega) (by unfold iR; omega)) hY_X2_within q1973 q1974 q90 q1975 (jcut 2 [0, 1] (by decide) rfl rfl) ⟨by omega, by omega, by omega, by omega, by omega, by omega⟩ (Nat.le_of_ble_eq_true rfl) dX2_setTable_4 rfl (fun v_ w_ hp => ?_)
  obtain ⟨r_4, h4_1, rfl, rfl⟩ := hp
  show jJ X u 7 [[(y0, jO 1 [iI th, iI n, iI gr, iI pw, .ref aT, iI po, iI pr, iI ix, iI sd, iI gn, iI tk, iI ln, .ref aX, iI zs, iI zl, iI za, iI zf, iI ze, iI zi, .ref aR, .ref aM, .ref aG, .ref aN, .ref aQ, lI ls, lI wn, .ref aO, .ref aS, .ref aH, .ref aU, lI sc, iI zc, .ref aW, lI al, lI nr, lI dr, iI bp, lI ba, lI bb, lI hh])], [(aT, cI u 24 tb)]] [(0, .ref y0), (1, iI lv), (2, iI p), (3, iI b), (4, iI f)] 0 0 7 [iI r_4]
  refine j_if_eq 34 G (by unfold iR at *; omega) dX2_setTable_7 (by decide) (fun c_7 => ?_) (fun c_7 => ?_)
  · skip
    refine j_iconst G dX2_setTable_34 ?_
    refine j_istore G [(5, iI 0), (0, .ref y0), (1, iI lv), (2, iI p), (3, iI b), (4, iI f)] rfl (by decide) dX2_setTable_35 ?_
    refine j_lv [1, 2, 3, 4, 5, 0] rfl ?_
    exact L37 0 (by (try unfold iR at *); omega)
  · skip
    refine j_iload G 4 rfl dX2_setTable_10 ?_
    refine j_iconst G dX2_setTable_12 ?_
    refine j_bipush G (by decide) dX2_setTable_13 ?_
    refine j_callS (wr := [[(y0, jO 1 [iI th, iI n, iI gr, iI pw, .ref aT, iI po, iI pr, iI ix, iI sd, iI gn, iI tk, iI ln, .ref aX, iI zs, iI zl, iI za, iI zf, iI ze, iI zi, .ref aR, .ref aM, .ref aG, .ref aN, .ref aQ, lI ls, lI wn, .ref aO, .ref aS, .ref aH, .ref aU, lI sc, iI zc, .ref aW, lI al, lI nr, lI dr, iI bp, lI ba, lI bb, lI hh])], [(aT, cI u 24 tb)]]) (k' := 0) (n' := 0) G (c_X2_within l u f 0 10 hRf (by unfold iR; omega) (by unfold iR; omega)) hY_X2_within q1973 q1974 q90 q1975 (jcut 2 [0, 1] (by decide) rfl rfl) ⟨by omega, by omega, by omega, by omega, by omega, by omega⟩ (Nat.le_of_ble_eq_true rfl) dX2_setTable_15 rfl (fun v_ w_ hp => ?_)
    obtain ⟨r_15, h15_1, rfl, rfl⟩ := hp
    show jJ X u 7 [[(y0, jO 1 [iI th, iI n, iI gr, iI pw, .ref aT, iI po, iI pr, iI ix, iI sd, iI gn, iI tk, iI ln, .ref aX, iI zs, iI zl, iI za, iI zf, iI ze, iI zi, .ref aR, .ref aM, .ref aG, .ref aN, .ref aQ, lI ls, lI wn, .ref aO, .ref aS, .ref aH, .ref aU, lI sc, iI zc, .ref aW, lI al, lI nr, lI dr, iI bp, lI ba, lI bb, lI hh])], [(aT, cI u 24 tb)]] [(0, .ref y0), (1, iI lv), (2, iI p), (3, iI b), (4, iI f)] 0 0 18 [iI r_15]
    refine j_if_eq 34 G (by unfold iR at *; omega) dX2_setTable_18 (by decide) (fun c_18 => ?_) (fun c_18 => ?_)
    · skip
      refine j_iconst G dX2_setTable_34 ?_
      refine j_istore G [(5, iI 0), (0, .ref y0), (1, iI lv), (2, iI p), (3, iI b), (4, iI f)] rfl (by decide) dX2_setTable_35 ?_
      refine j_lv [1, 2, 3, 4, 5, 0] rfl ?_
      exact L37 0 (by (try unfold iR at *); omega)
    · skip
      refine j_iload_n G 3 rfl dX2_setTable_21 ?_
      refine j_iload G 4 rfl dX2_setTable_22 ?_
      refine j_iadd G dX2_setTable_24 ?_
      refine j_bipush G (by decide) dX2_setTable_25 ?_
      refine j_icmp_gt 34 G (by unfold iR at *; omega) (by unfold iR; omega) dX2_setTable_27 (by decide) (fun c_27 => ?_) (fun c_27 => ?_)
      · skip
        refine j_iconst G dX2_setTable_34 ?_
        refine j_istore G [(5, iI 0), (0, .ref y0), (1, iI lv), (2, iI p), (3, iI b), (4, iI f)] rfl (by decide) dX2_setTable_35 ?_
        refine j_lv [1, 2, 3, 4, 5, 0] rfl ?_
        exact L37 0 (by (try unfold iR at *); omega)
      · skip
        refine j_iconst G dX2_setTable_30 ?_
        refine j_goto 35 G dX2_setTable_31 (by decide) ?_
        refine j_istore G [(5, iI 1), (0, .ref y0), (1, iI lv), (2, iI p), (3, iI b), (4, iI f)] rfl (by decide) dX2_setTable_35 ?_
        refine j_lv [1, 2, 3, 4, 5, 0] rfl ?_
        exact L37 1 (by (try unfold iR at *); omega)
theorem hY_X2_gear : jY yX2_gear 2 := ⟨by decide +kernel, by decide +kernel, by decide +kernel⟩
set_option maxHeartbeats 4000000 in
set_option maxRecDepth 100000 in
theorem c_X2_gear (l : Launch) (u : jU) (y0 aT aX aR aM aG aN aQ aO aS aH aU aW : Nat) (th n gr pw po pr ix sd gn tk ln zs zl za zf ze zi zc bp ls wn sc al nr dr ba bb hh : Int) (lv b : Int) (hRlv : iR lv) (hRb : iR b) (hg : 0 ≤ gr ∧ gr ≤ 7) : jC l u yX2_gear cX2_gear 3 (some .int) 2 42 0 0 [.ref y0, iI lv, iI b] [[(y0, jO 1 [iI th, iI n, iI gr, iI pw, .ref aT, iI po, iI pr, iI ix, iI sd, iI gn, iI tk, iI ln, .ref aX, iI zs, iI zl, iI za, iI zf, iI ze, iI zi, .ref aR, .ref aM, .ref aG, .ref aN, .ref aQ, lI ls, lI wn, .ref aO, .ref aS, .ref aH, .ref aU, lI sc, iI zc, .ref aW, lI al, lI nr, lI dr, iI bp, lI ba, lI bb, lI hh])]] (fun v_ w_ => ((0 ≤ lv ∧ lv ≤ 2) ∧ v_ = some (iI (sBits (sWith gr lv b))) ∧ w_ = [[(y0, jO 1 [iI 0, iI n, iI (sWith gr lv b), iI pw, .ref aT, iI po, iI pr, iI ix, iI sd, iI gn, iI tk, iI ln, .ref aX, iI zs, iI zl, iI za, iI zf, iI ze, iI zi, .ref aR, .ref aM, .ref aG, .ref aN, .ref aQ, lI ls, lI wn, .ref aO, .ref aS, .ref aH, .ref aU, lI sc, iI zc, .ref aW, lI al, lI nr, lI dr, iI bp, lI ba, lI bb, lI hh])]]) ∨ ((¬ (0 ≤ lv ∧ lv ≤ 2)) ∧ v_ = some (iI 0) ∧ w_ = [[(y0, jO 1 [iI 1, iI n, iI gr, iI pw, .ref aT, iI po, iI pr, iI ix, iI sd, iI gn, iI tk, iI ln, .ref aX, iI zs, iI zl, iI za, iI zf, iI ze, iI zi, .ref aR, .ref aM, .ref aG, .ref aN, .ref aQ, lI ls, lI wn, .ref aO, .ref aS, .ref aH, .ref aU, lI sc, iI zc, .ref aW, lI al, lI nr, lI dr, iI bp, lI ba, lI bb, lI hh])]])) := by
  refine jC.of "FlashRatchetModel" (by decide +kernel) rfl (Nat.le_of_ble_eq_true rfl) [(0, .ref y0), (1, iI lv), (2, iI b)] rfl (fun X G E I => ?_)
  refine j_aload_n G 0 rfl dX2_gear_0 ?_
  refine j_iload_n G 1 rfl dX2_gear_1 ?_
  refine j_callS (wr := [[(y0, jO 1 [iI th, iI n, iI gr, iI pw, .ref aT, iI po, iI pr, iI ix, iI sd, iI gn, iI tk, iI ln, .ref aX, iI zs, iI zl, iI za, iI zf, iI ze, iI zi, .ref aR, .ref aM, .ref aG, .ref aN, .ref aQ, lI ls, lI wn, .ref aO, .ref aS, .ref aH, .ref aU, lI sc, iI zc, .ref aW, lI al, lI nr, lI dr, iI bp, lI ba, lI bb, lI hh])]]) (k' := 0) (n' := 0) G (c_X2_isLever l u lv hRlv) hY_X2_isLever q1980 q1981 q90 q1982 (jcut 1 [0] (by decide) rfl rfl) ⟨by omega, by omega, by omega, by omega, by omega, by omega⟩ (Nat.le_of_ble_eq_true rfl) dX2_gear_2 rfl (fun v_ w_ hp => ?_)
  obtain ⟨r_2, h2_1, rfl, rfl⟩ := hp
  show jJ X u 3 [[(y0, jO 1 [iI th, iI n, iI gr, iI pw, .ref aT, iI po, iI pr, iI ix, iI sd, iI gn, iI tk, iI ln, .ref aX, iI zs, iI zl, iI za, iI zf, iI ze, iI zi, .ref aR, .ref aM, .ref aG, .ref aN, .ref aQ, lI ls, lI wn, .ref aO, .ref aS, .ref aH, .ref aU, lI sc, iI zc, .ref aW, lI al, lI nr, lI dr, iI bp, lI ba, lI bb, lI hh])]] [(0, .ref y0), (1, iI lv), (2, iI b)] 0 0 5 [iI r_2, .ref y0]
  refine j_if_eq 12 G (by unfold iR at *; omega) dX2_gear_5 (by decide) (fun c_5 => ?_) (fun c_5 => ?_)
  · skip
    refine j_iconst G dX2_gear_12 ?_
    refine j_put (ws' := [[(y0, jO 1 [iI 1, iI n, iI gr, iI pw, .ref aT, iI po, iI pr, iI ix, iI sd, iI gn, iI tk, iI ln, .ref aX, iI zs, iI zl, iI za, iI zf, iI ze, iI zi, .ref aR, .ref aM, .ref aG, .ref aN, .ref aQ, lI ls, lI wn, .ref aO, .ref aS, .ref aH, .ref aU, lI sc, iI zc, .ref aW, lI al, lI nr, lI dr, iI bp, lI ba, lI bb, lI hh])]]) G FX2 (jAt_1 0 rfl) 0 (by decide) q1844 rfl rfl rfl (Nat.le_of_ble_eq_true rfl) dX2_gear_13 rfl ?_
    refine j_aload_n G 0 rfl dX2_gear_16 ?_
    refine j_get G FX2 (jAt_1 0 rfl) 0 (by decide) q1844 rfl dX2_gear_17 ?_
    refine j_if_le 25 G (by unfold iR; omega) dX2_gear_20 (by decide) (fun c_20 => ?_) (fun c_20 => ?_)
    · exact absurd c_20 (by decide)
    · skip
      refine j_iconst G dX2_gear_23 ?_
      exact j_iret G E (Or.inr ⟨(by omega), rfl, rfl⟩) ⟨by omega, by omega⟩ dX2_gear_24
  · skip
    refine j_iconst G dX2_gear_8 ?_
    refine j_goto 13 G dX2_gear_9 (by decide) ?_
    refine j_put (ws' := [[(y0, jO 1 [iI 0, iI n, iI gr, iI pw, .ref aT, iI po, iI pr, iI ix, iI sd, iI gn, iI tk, iI ln, .ref aX, iI zs, iI zl, iI za, iI zf, iI ze, iI zi, .ref aR, .ref aM, .ref aG, .ref aN, .ref aQ, lI ls, lI wn, .ref aO, .ref aS, .ref aH, .ref aU, lI sc, iI zc, .ref aW, lI al, lI nr, lI dr, iI bp, lI ba, lI bb, lI hh])]]) G FX2 (jAt_1 0 rfl) 0 (by decide) q1844 rfl rfl rfl (Nat.le_of_ble_eq_true rfl) dX2_gear_13 rfl ?_
    refine j_aload_n G 0 rfl dX2_gear_16 ?_
    refine j_get G FX2 (jAt_1 0 rfl) 0 (by decide) q1844 rfl dX2_gear_17 ?_
    refine j_if_le 25 G (by unfold iR; omega) dX2_gear_20 (by decide) (fun c_20 => ?_) (fun c_20 => ?_)
    · skip
      refine j_aload_n G 0 rfl dX2_gear_25 ?_
      refine j_iload_n G 2 rfl dX2_gear_26 ?_
      refine j_if_eq 41 G hRb dX2_gear_27 (by decide) (fun c_27 => ?_) (fun c_27 => ?_)
      · skip
        refine j_aload_n G 0 rfl dX2_gear_41 ?_
        refine j_get G FX2 (jAt_1 0 rfl) 2 (by decide) q1846 rfl dX2_gear_42 ?_
        refine j_iconst G dX2_gear_45 ?_
        refine j_iload_n G 1 rfl dX2_gear_46 ?_
        refine j_ishl G dX2_gear_47 ?_
        refine j_iconst G dX2_gear_48 ?_
        refine j_ixor G dX2_gear_49 ?_
        refine j_iand G dX2_gear_50 ?_
        refine j_eq (st' := [iI (sWith gr lv b), .ref y0]) (by first | (rw [(sWith_eq (s := gr) (i := lv) (by omega) (by omega)).2, c_27]) | (rw [(sWith_eq (s := gr) (i := lv) (by omega) (by omega)).1, sWith_on c_27])) ?_
        refine j_put (ws' := [[(y0, jO 1 [iI 0, iI n, iI (sWith gr lv b), iI pw, .ref aT, iI po, iI pr, iI ix, iI sd, iI gn, iI tk, iI ln, .ref aX, iI zs, iI zl, iI za, iI zf, iI ze, iI zi, .ref aR, .ref aM, .ref aG, .ref aN, .ref aQ, lI ls, lI wn, .ref aO, .ref aS, .ref aH, .ref aU, lI sc, iI zc, .ref aW, lI al, lI nr, lI dr, iI bp, lI ba, lI bb, lI hh])]]) G FX2 (jAt_1 0 rfl) 2 (by decide) q1846 rfl rfl rfl (Nat.le_of_ble_eq_true rfl) dX2_gear_51 rfl ?_
        refine j_aload_n G 0 rfl dX2_gear_54 ?_
        refine j_get G FX2 (jAt_1 0 rfl) 2 (by decide) q1846 rfl dX2_gear_55 ?_
        have hsr := sWith_R (s := gr) (i := lv) (on := b) (by omega) (by omega)
        refine j_callS (wr := [[(y0, jO 1 [iI 0, iI n, iI (sWith gr lv b), iI pw, .ref aT, iI po, iI pr, iI ix, iI sd, iI gn, iI tk, iI ln, .ref aX, iI zs, iI zl, iI za, iI zf, iI ze, iI zi, .ref aR, .ref aM, .ref aG, .ref aN, .ref aQ, lI ls, lI wn, .ref aO, .ref aS, .ref aH, .ref aU, lI sc, iI zc, .ref aW, lI al, lI nr, lI dr, iI bp, lI ba, lI bb, lI hh])]]) (k' := 0) (n' := 0) G (c_X2_bits l u (sWith gr lv b) (by (try unfold iR at *); omega)) hY_X2_bits q1999 q2000 q90 q2001 (jcut 1 [0] (by decide) rfl rfl) ⟨by omega, by omega, by omega, by omega, by omega, by omega⟩ (Nat.le_of_ble_eq_true rfl) dX2_gear_58 rfl (fun v_ w_ hp => ?_)
        obtain ⟨rfl, rfl⟩ := hp
        show jJ X u 3 [[(y0, jO 1 [iI 0, iI n, iI (sWith gr lv b), iI pw, .ref aT, iI po, iI pr, iI ix, iI sd, iI gn, iI tk, iI ln, .ref aX, iI zs, iI zl, iI za, iI zf, iI ze, iI zi, .ref aR, .ref aM, .ref aG, .ref aN, .ref aQ, lI ls, lI wn, .ref aO, .ref aS, .ref aH, .ref aU, lI sc, iI zc, .ref aW, lI al, lI nr, lI dr, iI bp, lI ba, lI bb, lI hh])]] [(0, .ref y0), (1, iI lv), (2, iI b)] 0 0 61 [iI (sBits (sWith gr lv b))]
        exact j_iret G E (Or.inl ⟨(by omega), rfl, rfl⟩) ⟨by omega, by omega⟩ dX2_gear_61
      · skip
        refine j_aload_n G 0 rfl dX2_gear_30 ?_
        refine j_get G FX2 (jAt_1 0 rfl) 2 (by decide) q1846 rfl dX2_gear_31 ?_
        refine j_iconst G dX2_gear_34 ?_
        refine j_iload_n G 1 rfl dX2_gear_35 ?_
        refine j_ishl G dX2_gear_36 ?_
        refine j_ior G dX2_gear_37 ?_
        refine j_goto 51 G dX2_gear_38 (by decide) ?_
        refine j_eq (st' := [iI (sWith gr lv b), .ref y0]) (by first | (rw [(sWith_eq (s := gr) (i := lv) (by omega) (by omega)).2, c_27]) | (rw [(sWith_eq (s := gr) (i := lv) (by omega) (by omega)).1, sWith_on c_27])) ?_
        refine j_put (ws' := [[(y0, jO 1 [iI 0, iI n, iI (sWith gr lv b), iI pw, .ref aT, iI po, iI pr, iI ix, iI sd, iI gn, iI tk, iI ln, .ref aX, iI zs, iI zl, iI za, iI zf, iI ze, iI zi, .ref aR, .ref aM, .ref aG, .ref aN, .ref aQ, lI ls, lI wn, .ref aO, .ref aS, .ref aH, .ref aU, lI sc, iI zc, .ref aW, lI al, lI nr, lI dr, iI bp, lI ba, lI bb, lI hh])]]) G FX2 (jAt_1 0 rfl) 2 (by decide) q1846 rfl rfl rfl (Nat.le_of_ble_eq_true rfl) dX2_gear_51 rfl ?_
        refine j_aload_n G 0 rfl dX2_gear_54 ?_
        refine j_get G FX2 (jAt_1 0 rfl) 2 (by decide) q1846 rfl dX2_gear_55 ?_
        have hsr := sWith_R (s := gr) (i := lv) (on := b) (by omega) (by omega)
        refine j_callS (wr := [[(y0, jO 1 [iI 0, iI n, iI (sWith gr lv b), iI pw, .ref aT, iI po, iI pr, iI ix, iI sd, iI gn, iI tk, iI ln, .ref aX, iI zs, iI zl, iI za, iI zf, iI ze, iI zi, .ref aR, .ref aM, .ref aG, .ref aN, .ref aQ, lI ls, lI wn, .ref aO, .ref aS, .ref aH, .ref aU, lI sc, iI zc, .ref aW, lI al, lI nr, lI dr, iI bp, lI ba, lI bb, lI hh])]]) (k' := 0) (n' := 0) G (c_X2_bits l u (sWith gr lv b) (by (try unfold iR at *); omega)) hY_X2_bits q1999 q2000 q90 q2001 (jcut 1 [0] (by decide) rfl rfl) ⟨by omega, by omega, by omega, by omega, by omega, by omega⟩ (Nat.le_of_ble_eq_true rfl) dX2_gear_58 rfl (fun v_ w_ hp => ?_)
        obtain ⟨rfl, rfl⟩ := hp
        show jJ X u 3 [[(y0, jO 1 [iI 0, iI n, iI (sWith gr lv b), iI pw, .ref aT, iI po, iI pr, iI ix, iI sd, iI gn, iI tk, iI ln, .ref aX, iI zs, iI zl, iI za, iI zf, iI ze, iI zi, .ref aR, .ref aM, .ref aG, .ref aN, .ref aQ, lI ls, lI wn, .ref aO, .ref aS, .ref aH, .ref aU, lI sc, iI zc, .ref aW, lI al, lI nr, lI dr, iI bp, lI ba, lI bb, lI hh])]] [(0, .ref y0), (1, iI lv), (2, iI b)] 0 0 61 [iI (sBits (sWith gr lv b))]
        exact j_iret G E (Or.inl ⟨(by omega), rfl, rfl⟩) ⟨by omega, by omega⟩ dX2_gear_61
    · exact absurd c_20 (by decide)
theorem hY_X2_pawl : jY yX2_pawl 2 := ⟨by decide +kernel, by decide +kernel, by decide +kernel⟩
set_option maxHeartbeats 4000000 in
set_option maxRecDepth 100000 in
theorem c_X2_pawl (l : Launch) (u : jU) (y0 aT aX aR aM aG aN aQ aO aS aH aU aW : Nat) (th n gr pw po pr ix sd gn tk ln zs zl za zf ze zi zc bp ls wn sc al nr dr ba bb hh : Int) (p b : Int) (hRp : iR p) (hRb : iR b) (hn : 2 ≤ n ∧ n ≤ 4) (hw : 0 ≤ pw ∧ pw ≤ 15) : jC l u yX2_pawl cX2_pawl 3 (some .int) 2 43 0 0 [.ref y0, iI p, iI b] [[(y0, jO 1 [iI th, iI n, iI gr, iI pw, .ref aT, iI po, iI pr, iI ix, iI sd, iI gn, iI tk, iI ln, .ref aX, iI zs, iI zl, iI za, iI zf, iI ze, iI zi, .ref aR, .ref aM, .ref aG, .ref aN, .ref aQ, lI ls, lI wn, .ref aO, .ref aS, .ref aH, .ref aU, lI sc, iI zc, .ref aW, lI al, lI nr, lI dr, iI bp, lI ba, lI bb, lI hh])]] (fun v_ w_ => ((0 ≤ p ∧ p < n) ∧ v_ = some (iI (sBits (sWith pw p b))) ∧ w_ = [[(y0, jO 1 [iI 0, iI n, iI gr, iI (sWith pw p b), .ref aT, iI po, iI pr, iI ix, iI sd, iI gn, iI tk, iI ln, .ref aX, iI zs, iI zl, iI za, iI zf, iI ze, iI zi, .ref aR, .ref aM, .ref aG, .ref aN, .ref aQ, lI ls, lI wn, .ref aO, .ref aS, .ref aH, .ref aU, lI sc, iI zc, .ref aW, lI al, lI nr, lI dr, iI bp, lI ba, lI bb, lI hh])]]) ∨ ((¬ (0 ≤ p ∧ p < n)) ∧ v_ = some (iI 0) ∧ w_ = [[(y0, jO 1 [iI 1, iI n, iI gr, iI pw, .ref aT, iI po, iI pr, iI ix, iI sd, iI gn, iI tk, iI ln, .ref aX, iI zs, iI zl, iI za, iI zf, iI ze, iI zi, .ref aR, .ref aM, .ref aG, .ref aN, .ref aQ, lI ls, lI wn, .ref aO, .ref aS, .ref aH, .ref aU, lI sc, iI zc, .ref aW, lI al, lI nr, lI dr, iI bp, lI ba, lI bb, lI hh])]])) := by
  refine jC.of "FlashRatchetModel" (by decide +kernel) rfl (Nat.le_of_ble_eq_true rfl) [(0, .ref y0), (1, iI p), (2, iI b)] rfl (fun X G E I => ?_)
  refine j_aload_n G 0 rfl dX2_pawl_0 ?_
  refine j_aload_n G 0 rfl dX2_pawl_1 ?_
  refine j_iload_n G 1 rfl dX2_pawl_2 ?_
  refine j_callV (wr := []) (k' := 0) (n' := 0) G FX2 (c_X2_isPosition l u y0 aT aX aR aM aG aN aQ aO aS aH aU aW th n gr pw po pr ix sd gn tk ln zs zl za zf ze zi zc bp ls wn sc al nr dr ba bb hh p hRp hn) (jAt_1 0 rfl) ⟨rfl, hY_X2_isPosition⟩ q1983 q1985 qs44 q90 q1986 (jcut 1 [0] (by decide) rfl rfl) ⟨by omega, by omega, by omega, by omega, by omega, by omega⟩ (Nat.le_of_ble_eq_true rfl) dX2_pawl_3 rfl (fun v_ w_ hp => ?_)
  obtain ⟨r_3, h3_1, rfl, rfl⟩ := hp
  show jJ X u 3 [[(y0, jO 1 [iI th, iI n, iI gr, iI pw, .ref aT, iI po, iI pr, iI ix, iI sd, iI gn, iI tk, iI ln, .ref aX, iI zs, iI zl, iI za, iI zf, iI ze, iI zi, .ref aR, .ref aM, .ref aG, .ref aN, .ref aQ, lI ls, lI wn, .ref aO, .ref aS, .ref aH, .ref aU, lI sc, iI zc, .ref aW, lI al, lI nr, lI dr, iI bp, lI ba, lI bb, lI hh])]] [(0, .ref y0), (1, iI p), (2, iI b)] 0 0 6 [iI r_3, .ref y0]
  refine j_if_eq 13 G (by unfold iR at *; omega) dX2_pawl_6 (by decide) (fun c_6 => ?_) (fun c_6 => ?_)
  · skip
    refine j_iconst G dX2_pawl_13 ?_
    refine j_put (ws' := [[(y0, jO 1 [iI 1, iI n, iI gr, iI pw, .ref aT, iI po, iI pr, iI ix, iI sd, iI gn, iI tk, iI ln, .ref aX, iI zs, iI zl, iI za, iI zf, iI ze, iI zi, .ref aR, .ref aM, .ref aG, .ref aN, .ref aQ, lI ls, lI wn, .ref aO, .ref aS, .ref aH, .ref aU, lI sc, iI zc, .ref aW, lI al, lI nr, lI dr, iI bp, lI ba, lI bb, lI hh])]]) G FX2 (jAt_1 0 rfl) 0 (by decide) q1844 rfl rfl rfl (Nat.le_of_ble_eq_true rfl) dX2_pawl_14 rfl ?_
    refine j_aload_n G 0 rfl dX2_pawl_17 ?_
    refine j_get G FX2 (jAt_1 0 rfl) 0 (by decide) q1844 rfl dX2_pawl_18 ?_
    refine j_if_le 26 G (by unfold iR; omega) dX2_pawl_21 (by decide) (fun c_21 => ?_) (fun c_21 => ?_)
    · exact absurd c_21 (by decide)
    · skip
      refine j_iconst G dX2_pawl_24 ?_
      exact j_iret G E (Or.inr ⟨(by omega), rfl, rfl⟩) ⟨by omega, by omega⟩ dX2_pawl_25
  · skip
    refine j_iconst G dX2_pawl_9 ?_
    refine j_goto 14 G dX2_pawl_10 (by decide) ?_
    refine j_put (ws' := [[(y0, jO 1 [iI 0, iI n, iI gr, iI pw, .ref aT, iI po, iI pr, iI ix, iI sd, iI gn, iI tk, iI ln, .ref aX, iI zs, iI zl, iI za, iI zf, iI ze, iI zi, .ref aR, .ref aM, .ref aG, .ref aN, .ref aQ, lI ls, lI wn, .ref aO, .ref aS, .ref aH, .ref aU, lI sc, iI zc, .ref aW, lI al, lI nr, lI dr, iI bp, lI ba, lI bb, lI hh])]]) G FX2 (jAt_1 0 rfl) 0 (by decide) q1844 rfl rfl rfl (Nat.le_of_ble_eq_true rfl) dX2_pawl_14 rfl ?_
    refine j_aload_n G 0 rfl dX2_pawl_17 ?_
    refine j_get G FX2 (jAt_1 0 rfl) 0 (by decide) q1844 rfl dX2_pawl_18 ?_
    refine j_if_le 26 G (by unfold iR; omega) dX2_pawl_21 (by decide) (fun c_21 => ?_) (fun c_21 => ?_)
    · skip
      refine j_aload_n G 0 rfl dX2_pawl_26 ?_
      refine j_iload_n G 2 rfl dX2_pawl_27 ?_
      refine j_if_eq 42 G hRb dX2_pawl_28 (by decide) (fun c_28 => ?_) (fun c_28 => ?_)
      · skip
        refine j_aload_n G 0 rfl dX2_pawl_42 ?_
        refine j_get G FX2 (jAt_1 0 rfl) 3 (by decide) q1847 rfl dX2_pawl_43 ?_
        refine j_iconst G dX2_pawl_46 ?_
        refine j_iload_n G 1 rfl dX2_pawl_47 ?_
        refine j_ishl G dX2_pawl_48 ?_
        refine j_iconst G dX2_pawl_49 ?_
        refine j_ixor G dX2_pawl_50 ?_
        refine j_iand G dX2_pawl_51 ?_
        refine j_eq (st' := [iI (sWith pw p b), .ref y0]) (by first | (rw [(sWith_eq (s := pw) (i := p) (by omega) (by omega)).2, c_28]) | (rw [(sWith_eq (s := pw) (i := p) (by omega) (by omega)).1, sWith_on c_28])) ?_
        refine j_put (ws' := [[(y0, jO 1 [iI 0, iI n, iI gr, iI (sWith pw p b), .ref aT, iI po, iI pr, iI ix, iI sd, iI gn, iI tk, iI ln, .ref aX, iI zs, iI zl, iI za, iI zf, iI ze, iI zi, .ref aR, .ref aM, .ref aG, .ref aN, .ref aQ, lI ls, lI wn, .ref aO, .ref aS, .ref aH, .ref aU, lI sc, iI zc, .ref aW, lI al, lI nr, lI dr, iI bp, lI ba, lI bb, lI hh])]]) G FX2 (jAt_1 0 rfl) 3 (by decide) q1847 rfl rfl rfl (Nat.le_of_ble_eq_true rfl) dX2_pawl_52 rfl ?_
        refine j_aload_n G 0 rfl dX2_pawl_55 ?_
        refine j_get G FX2 (jAt_1 0 rfl) 3 (by decide) q1847 rfl dX2_pawl_56 ?_
        have hsr := sWith_R (s := pw) (i := p) (on := b) (by omega) (by omega)
        refine j_callS (wr := [[(y0, jO 1 [iI 0, iI n, iI gr, iI (sWith pw p b), .ref aT, iI po, iI pr, iI ix, iI sd, iI gn, iI tk, iI ln, .ref aX, iI zs, iI zl, iI za, iI zf, iI ze, iI zi, .ref aR, .ref aM, .ref aG, .ref aN, .ref aQ, lI ls, lI wn, .ref aO, .ref aS, .ref aH, .ref aU, lI sc, iI zc, .ref aW, lI al, lI nr, lI dr, iI bp, lI ba, lI bb, lI hh])]]) (k' := 0) (n' := 0) G (c_X2_bits l u (sWith pw p b) (by (try unfold iR at *); omega)) hY_X2_bits q1999 q2000 q90 q2001 (jcut 1 [0] (by decide) rfl rfl) ⟨by omega, by omega, by omega, by omega, by omega, by omega⟩ (Nat.le_of_ble_eq_true rfl) dX2_pawl_59 rfl (fun v_ w_ hp => ?_)
        obtain ⟨rfl, rfl⟩ := hp
        show jJ X u 3 [[(y0, jO 1 [iI 0, iI n, iI gr, iI (sWith pw p b), .ref aT, iI po, iI pr, iI ix, iI sd, iI gn, iI tk, iI ln, .ref aX, iI zs, iI zl, iI za, iI zf, iI ze, iI zi, .ref aR, .ref aM, .ref aG, .ref aN, .ref aQ, lI ls, lI wn, .ref aO, .ref aS, .ref aH, .ref aU, lI sc, iI zc, .ref aW, lI al, lI nr, lI dr, iI bp, lI ba, lI bb, lI hh])]] [(0, .ref y0), (1, iI p), (2, iI b)] 0 0 62 [iI (sBits (sWith pw p b))]
        exact j_iret G E (Or.inl ⟨(by omega), rfl, rfl⟩) ⟨by omega, by omega⟩ dX2_pawl_62
      · skip
        refine j_aload_n G 0 rfl dX2_pawl_31 ?_
        refine j_get G FX2 (jAt_1 0 rfl) 3 (by decide) q1847 rfl dX2_pawl_32 ?_
        refine j_iconst G dX2_pawl_35 ?_
        refine j_iload_n G 1 rfl dX2_pawl_36 ?_
        refine j_ishl G dX2_pawl_37 ?_
        refine j_ior G dX2_pawl_38 ?_
        refine j_goto 52 G dX2_pawl_39 (by decide) ?_
        refine j_eq (st' := [iI (sWith pw p b), .ref y0]) (by first | (rw [(sWith_eq (s := pw) (i := p) (by omega) (by omega)).2, c_28]) | (rw [(sWith_eq (s := pw) (i := p) (by omega) (by omega)).1, sWith_on c_28])) ?_
        refine j_put (ws' := [[(y0, jO 1 [iI 0, iI n, iI gr, iI (sWith pw p b), .ref aT, iI po, iI pr, iI ix, iI sd, iI gn, iI tk, iI ln, .ref aX, iI zs, iI zl, iI za, iI zf, iI ze, iI zi, .ref aR, .ref aM, .ref aG, .ref aN, .ref aQ, lI ls, lI wn, .ref aO, .ref aS, .ref aH, .ref aU, lI sc, iI zc, .ref aW, lI al, lI nr, lI dr, iI bp, lI ba, lI bb, lI hh])]]) G FX2 (jAt_1 0 rfl) 3 (by decide) q1847 rfl rfl rfl (Nat.le_of_ble_eq_true rfl) dX2_pawl_52 rfl ?_
        refine j_aload_n G 0 rfl dX2_pawl_55 ?_
        refine j_get G FX2 (jAt_1 0 rfl) 3 (by decide) q1847 rfl dX2_pawl_56 ?_
        have hsr := sWith_R (s := pw) (i := p) (on := b) (by omega) (by omega)
        refine j_callS (wr := [[(y0, jO 1 [iI 0, iI n, iI gr, iI (sWith pw p b), .ref aT, iI po, iI pr, iI ix, iI sd, iI gn, iI tk, iI ln, .ref aX, iI zs, iI zl, iI za, iI zf, iI ze, iI zi, .ref aR, .ref aM, .ref aG, .ref aN, .ref aQ, lI ls, lI wn, .ref aO, .ref aS, .ref aH, .ref aU, lI sc, iI zc, .ref aW, lI al, lI nr, lI dr, iI bp, lI ba, lI bb, lI hh])]]) (k' := 0) (n' := 0) G (c_X2_bits l u (sWith pw p b) (by (try unfold iR at *); omega)) hY_X2_bits q1999 q2000 q90 q2001 (jcut 1 [0] (by decide) rfl rfl) ⟨by omega, by omega, by omega, by omega, by omega, by omega⟩ (Nat.le_of_ble_eq_true rfl) dX2_pawl_59 rfl (fun v_ w_ hp => ?_)
        obtain ⟨rfl, rfl⟩ := hp
        show jJ X u 3 [[(y0, jO 1 [iI 0, iI n, iI gr, iI (sWith pw p b), .ref aT, iI po, iI pr, iI ix, iI sd, iI gn, iI tk, iI ln, .ref aX, iI zs, iI zl, iI za, iI zf, iI ze, iI zi, .ref aR, .ref aM, .ref aG, .ref aN, .ref aQ, lI ls, lI wn, .ref aO, .ref aS, .ref aH, .ref aU, lI sc, iI zc, .ref aW, lI al, lI nr, lI dr, iI bp, lI ba, lI bb, lI hh])]] [(0, .ref y0), (1, iI p), (2, iI b)] 0 0 62 [iI (sBits (sWith pw p b))]
        exact j_iret G E (Or.inl ⟨(by omega), rfl, rfl⟩) ⟨by omega, by omega⟩ dX2_pawl_62
    · exact absurd c_21 (by decide)
theorem hY_X2_setProgram : jY yX2_setProgram 1 := ⟨by decide +kernel, by decide +kernel, by decide +kernel⟩
set_option maxHeartbeats 4000000 in
set_option maxRecDepth 100000 in
theorem c_X2_setProgram (l : Launch) (u : jU) (y0 aT aX aR aM aG aN aQ aO aS aH aU aW : Nat) (th n gr pw po pr ix sd gn tk ln zs zl za zf ze zi zc bp ls wn sc al nr dr ba bb hh : Int) (p : Int) (hRp : iR p) : jC l u yX2_setProgram cX2_setProgram 3 (some .int) 2 44 0 0 [.ref y0, iI p] [[(y0, jO 1 [iI th, iI n, iI gr, iI pw, .ref aT, iI po, iI pr, iI ix, iI sd, iI gn, iI tk, iI ln, .ref aX, iI zs, iI zl, iI za, iI zf, iI ze, iI zi, .ref aR, .ref aM, .ref aG, .ref aN, .ref aQ, lI ls, lI wn, .ref aO, .ref aS, .ref aH, .ref aU, lI sc, iI zc, .ref aW, lI al, lI nr, lI dr, iI bp, lI ba, lI bb, lI hh])]] (fun v_ w_ => (sProg p = 1 ∧ v_ = some (iI pr) ∧ w_ = [[(y0, jO 1 [iI 0, iI n, iI gr, iI pw, .ref aT, iI po, iI p, iI 0, iI sd, iI gn, iI tk, iI ln, .ref aX, iI zs, iI zl, iI za, iI zf, iI ze, iI zi, .ref aR, .ref aM, .ref aG, .ref aN, .ref aQ, lI ls, lI wn, .ref aO, .ref aS, .ref aH, .ref aU, lI sc, iI zc, .ref aW, lI al, lI nr, lI dr, iI bp, lI ba, lI bb, lI hh])]]) ∨ (sProg p = 0 ∧ v_ = some (iI 0) ∧ w_ = [[(y0, jO 1 [iI 1, iI n, iI gr, iI pw, .ref aT, iI po, iI pr, iI ix, iI sd, iI gn, iI tk, iI ln, .ref aX, iI zs, iI zl, iI za, iI zf, iI ze, iI zi, .ref aR, .ref aM, .ref aG, .ref aN, .ref aQ, lI ls, lI wn, .ref aO, .ref aS, .ref aH, .ref aU, lI sc, iI zc, .ref aW, lI al, lI nr, lI dr, iI bp, lI ba, lI bb, lI hh])]])) := by
  refine jC.of "FlashRatchetModel" (by decide +kernel) rfl (Nat.le_of_ble_eq_true rfl) [(0, .ref y0), (1, iI p)] rfl (fun X G E I => ?_)
  refine j_aload_n G 0 rfl dX2_setProgram_0 ?_
  refine j_iload_n G 1 rfl dX2_setProgram_1 ?_
  refine j_callS (wr := [[(y0, jO 1 [iI th, iI n, iI gr, iI pw, .ref aT, iI po, iI pr, iI ix, iI sd, iI gn, iI tk, iI ln, .ref aX, iI zs, iI zl, iI za, iI zf, iI ze, iI zi, .ref aR, .ref aM, .ref aG, .ref aN, .ref aQ, lI ls, lI wn, .ref aO, .ref aS, .ref aH, .ref aU, lI sc, iI zc, .ref aW, lI al, lI nr, lI dr, iI bp, lI ba, lI bb, lI hh])]]) (k' := 0) (n' := 0) G (c_X2_isProgram l u p hRp) hY_X2_isProgram q2010 q2011 q90 q2012 (jcut 1 [0] (by decide) rfl rfl) ⟨by omega, by omega, by omega, by omega, by omega, by omega⟩ (Nat.le_of_ble_eq_true rfl) dX2_setProgram_2 rfl (fun v_ w_ hp => ?_)
  obtain ⟨r_2, h2_1, h2_2, rfl, rfl⟩ := hp
  show jJ X u 3 [[(y0, jO 1 [iI th, iI n, iI gr, iI pw, .ref aT, iI po, iI pr, iI ix, iI sd, iI gn, iI tk, iI ln, .ref aX, iI zs, iI zl, iI za, iI zf, iI ze, iI zi, .ref aR, .ref aM, .ref aG, .ref aN, .ref aQ, lI ls, lI wn, .ref aO, .ref aS, .ref aH, .ref aU, lI sc, iI zc, .ref aW, lI al, lI nr, lI dr, iI bp, lI ba, lI bb, lI hh])]] [(0, .ref y0), (1, iI p)] 0 0 5 [iI r_2, .ref y0]
  refine j_if_eq 12 G (by unfold iR at *; omega) dX2_setProgram_5 (by decide) (fun c_5 => ?_) (fun c_5 => ?_)
  · skip
    refine j_iconst G dX2_setProgram_12 ?_
    refine j_put (ws' := [[(y0, jO 1 [iI 1, iI n, iI gr, iI pw, .ref aT, iI po, iI pr, iI ix, iI sd, iI gn, iI tk, iI ln, .ref aX, iI zs, iI zl, iI za, iI zf, iI ze, iI zi, .ref aR, .ref aM, .ref aG, .ref aN, .ref aQ, lI ls, lI wn, .ref aO, .ref aS, .ref aH, .ref aU, lI sc, iI zc, .ref aW, lI al, lI nr, lI dr, iI bp, lI ba, lI bb, lI hh])]]) G FX2 (jAt_1 0 rfl) 0 (by decide) q1844 rfl rfl rfl (Nat.le_of_ble_eq_true rfl) dX2_setProgram_13 rfl ?_
    refine j_aload_n G 0 rfl dX2_setProgram_16 ?_
    refine j_get G FX2 (jAt_1 0 rfl) 0 (by decide) q1844 rfl dX2_setProgram_17 ?_
    refine j_if_le 25 G (by unfold iR; omega) dX2_setProgram_20 (by decide) (fun c_20 => ?_) (fun c_20 => ?_)
    · exact absurd c_20 (by decide)
    · skip
      refine j_iconst G dX2_setProgram_23 ?_
      exact j_iret G E (Or.inr ⟨(by omega), rfl, rfl⟩) ⟨by omega, by omega⟩ dX2_setProgram_24
  · skip
    refine j_iconst G dX2_setProgram_8 ?_
    refine j_goto 13 G dX2_setProgram_9 (by decide) ?_
    refine j_put (ws' := [[(y0, jO 1 [iI 0, iI n, iI gr, iI pw, .ref aT, iI po, iI pr, iI ix, iI sd, iI gn, iI tk, iI ln, .ref aX, iI zs, iI zl, iI za, iI zf, iI ze, iI zi, .ref aR, .ref aM, .ref aG, .ref aN, .ref aQ, lI ls, lI wn, .ref aO, .ref aS, .ref aH, .ref aU, lI sc, iI zc, .ref aW, lI al, lI nr, lI dr, iI bp, lI ba, lI bb, lI hh])]]) G FX2 (jAt_1 0 rfl) 0 (by decide) q1844 rfl rfl rfl (Nat.le_of_ble_eq_true rfl) dX2_setProgram_13 rfl ?_
    refine j_aload_n G 0 rfl dX2_setProgram_16 ?_
    refine j_get G FX2 (jAt_1 0 rfl) 0 (by decide) q1844 rfl dX2_setProgram_17 ?_
    refine j_if_le 25 G (by unfold iR; omega) dX2_setProgram_20 (by decide) (fun c_20 => ?_) (fun c_20 => ?_)
    · skip
      refine j_aload_n G 0 rfl dX2_setProgram_25 ?_
      refine j_get G FX2 (jAt_1 0 rfl) 6 (by decide) q1850 rfl dX2_setProgram_26 ?_
      refine j_istore_n G [(2, iI pr), (0, .ref y0), (1, iI p)] rfl (by decide) dX2_setProgram_29 ?_
      refine j_aload_n G 1 rfl dX2_setProgram_30 ?_
      refine j_iload_n G 2 rfl dX2_setProgram_31 ?_
      refine j_put (ws' := [[(y0, jO 1 [iI 0, iI n, iI gr, iI pw, .ref aT, iI po, iI p, iI ix, iI sd, iI gn, iI tk, iI ln, .ref aX, iI zs, iI zl, iI za, iI zf, iI ze, iI zi, .ref aR, .ref aM, .ref aG, .ref aN, .ref aQ, lI ls, lI wn, .ref aO, .ref aS, .ref aH, .ref aU, lI sc, iI zc, .ref aW, lI al, lI nr, lI dr, iI bp, lI ba, lI bb, lI hh])]]) G FX2 (jAt_1 0 rfl) 6 (by decide) q1850 rfl rfl rfl (Nat.le_of_ble_eq_true rfl) dX2_setProgram_32 rfl ?_
      refine j_aload_n G 1 rfl dX2_setProgram_35 ?_
      refine j_iconst G dX2_setProgram_36 ?_
      refine j_put (ws' := [[(y0, jO 1 [iI 0, iI n, iI gr, iI pw, .ref aT, iI po, iI p, iI 0, iI sd, iI gn, iI tk, iI ln, .ref aX, iI zs, iI zl, iI za, iI zf, iI ze, iI zi, .ref aR, .ref aM, .ref aG, .ref aN, .ref aQ, lI ls, lI wn, .ref aO, .ref aS, .ref aH, .ref aU, lI sc, iI zc, .ref aW, lI al, lI nr, lI dr, iI bp, lI ba, lI bb, lI hh])]]) G FX2 (jAt_1 0 rfl) 7 (by decide) q1851 rfl rfl rfl (Nat.le_of_ble_eq_true rfl) dX2_setProgram_37 rfl ?_
      refine j_iload_n G 0 rfl dX2_setProgram_40 ?_
      exact j_iret G E (Or.inl ⟨(by omega), rfl, rfl⟩) ⟨by omega, by omega⟩ dX2_setProgram_41
    · exact absurd c_20 (by decide)
theorem hY_X2_restart : jY yX2_restart 2 := ⟨by decide +kernel, by decide +kernel, by decide +kernel⟩
set_option maxHeartbeats 4000000 in
set_option maxRecDepth 100000 in
theorem c_X2_restart (l : Launch) (u : jU) (y0 aT aX aR aM aG aN aQ aO aS aH aU aW : Nat) (th n gr pw po pr ix sd gn tk ln zs zl za zf ze zi zc bp ls wn sc al nr dr ba bb hh : Int) (p e : Int) (hRp : iR p) (hRe : iR e) (hn : 2 ≤ n ∧ n ≤ 4) : jC l u yX2_restart cX2_restart 4 (some .int) 2 43 0 0 [.ref y0, iI p, iI e] [[(y0, jO 1 [iI th, iI n, iI gr, iI pw, .ref aT, iI po, iI pr, iI ix, iI sd, iI gn, iI tk, iI ln, .ref aX, iI zs, iI zl, iI za, iI zf, iI ze, iI zi, .ref aR, .ref aM, .ref aG, .ref aN, .ref aQ, lI ls, lI wn, .ref aO, .ref aS, .ref aH, .ref aU, lI sc, iI zc, .ref aW, lI al, lI nr, lI dr, iI bp, lI ba, lI bb, lI hh])]] (fun v_ w_ => ((0 ≤ p ∧ p < n) ∧ (0 ≤ e ∧ e ≤ 999) ∧ v_ = some (iI gn) ∧ w_ = [[(y0, jO 1 [iI 0, iI n, iI gr, iI pw, .ref aT, iI p, iI pr, iI 0, iI e, iI 0, iI 0, iI ln, .ref aX, iI zs, iI zl, iI za, iI zf, iI ze, iI zi, .ref aR, .ref aM, .ref aG, .ref aN, .ref aQ, lI ls, lI wn, .ref aO, .ref aS, .ref aH, .ref aU, lI sc, iI zc, .ref aW, lI al, lI nr, lI dr, iI bp, lI ba, lI bb, lI hh])]]) ∨ ((¬ (0 ≤ p ∧ p < n)) ∧ v_ = some (iI 0) ∧ w_ = [[(y0, jO 1 [iI 1, iI n, iI gr, iI pw, .ref aT, iI po, iI pr, iI ix, iI sd, iI gn, iI tk, iI ln, .ref aX, iI zs, iI zl, iI za, iI zf, iI ze, iI zi, .ref aR, .ref aM, .ref aG, .ref aN, .ref aQ, lI ls, lI wn, .ref aO, .ref aS, .ref aH, .ref aU, lI sc, iI zc, .ref aW, lI al, lI nr, lI dr, iI bp, lI ba, lI bb, lI hh])]]) ∨ ((0 ≤ p ∧ p < n) ∧ (¬ (0 ≤ e ∧ e ≤ 999)) ∧ v_ = some (iI 0) ∧ w_ = [[(y0, jO 1 [iI 2, iI n, iI gr, iI pw, .ref aT, iI po, iI pr, iI ix, iI sd, iI gn, iI tk, iI ln, .ref aX, iI zs, iI zl, iI za, iI zf, iI ze, iI zi, .ref aR, .ref aM, .ref aG, .ref aN, .ref aQ, lI ls, lI wn, .ref aO, .ref aS, .ref aH, .ref aU, lI sc, iI zc, .ref aW, lI al, lI nr, lI dr, iI bp, lI ba, lI bb, lI hh])]])) := by
  refine jC.of "FlashRatchetModel" (by decide +kernel) rfl (Nat.le_of_ble_eq_true rfl) [(0, .ref y0), (1, iI p), (2, iI e)] rfl (fun X G E I => ?_)
  refine j_aload_n G 0 rfl dX2_restart_0 ?_
  refine j_aload_n G 0 rfl dX2_restart_1 ?_
  refine j_iload_n G 1 rfl dX2_restart_2 ?_
  refine j_callV (wr := []) (k' := 0) (n' := 0) G FX2 (c_X2_isPosition l u y0 aT aX aR aM aG aN aQ aO aS aH aU aW th n gr pw po pr ix sd gn tk ln zs zl za zf ze zi zc bp ls wn sc al nr dr ba bb hh p hRp hn) (jAt_1 0 rfl) ⟨rfl, hY_X2_isPosition⟩ q1983 q1985 qs44 q90 q1986 (jcut 1 [0] (by decide) rfl rfl) ⟨by omega, by omega, by omega, by omega, by omega, by omega⟩ (Nat.le_of_ble_eq_true rfl) dX2_restart_3 rfl (fun v_ w_ hp => ?_)
  obtain ⟨r_3, h3_1, rfl, rfl⟩ := hp
  show jJ X u 4 [[(y0, jO 1 [iI th, iI n, iI gr, iI pw, .ref aT, iI po, iI pr, iI ix, iI sd, iI gn, iI tk, iI ln, .ref aX, iI zs, iI zl, iI za, iI zf, iI ze, iI zi, .ref aR, .ref aM, .ref aG, .ref aN, .ref aQ, lI ls, lI wn, .ref aO, .ref aS, .ref aH, .ref aU, lI sc, iI zc, .ref aW, lI al, lI nr, lI dr, iI bp, lI ba, lI bb, lI hh])]] [(0, .ref y0), (1, iI p), (2, iI e)] 0 0 6 [iI r_3, .ref y0]
  refine j_if_ne 13 G (by unfold iR at *; omega) dX2_restart_6 (by decide) (fun c_6 => ?_) (fun c_6 => ?_)
  · skip
    refine j_iload_n G 2 rfl dX2_restart_13 ?_
    refine j_iconst G dX2_restart_14 ?_
    refine j_sipush G (by decide) dX2_restart_15 ?_
    refine j_callS (wr := [[(y0, jO 1 [iI th, iI n, iI gr, iI pw, .ref aT, iI po, iI pr, iI ix, iI sd, iI gn, iI tk, iI ln, .ref aX, iI zs, iI zl, iI za, iI zf, iI ze, iI zi, .ref aR, .ref aM, .ref aG, .ref aN, .ref aQ, lI ls, lI wn, .ref aO, .ref aS, .ref aH, .ref aU, lI sc, iI zc, .ref aW, lI al, lI nr, lI dr, iI bp, lI ba, lI bb, lI hh])]]) (k' := 0) (n' := 0) G (c_X2_within l u e 0 999 hRe (by unfold iR; omega) (by unfold iR; omega)) hY_X2_within q1973 q1974 q90 q1975 (jcut 1 [0] (by decide) rfl rfl) ⟨by omega, by omega, by omega, by omega, by omega, by omega⟩ (Nat.le_of_ble_eq_true rfl) dX2_restart_18 rfl (fun v_ w_ hp => ?_)
    obtain ⟨r_18, h18_1, rfl, rfl⟩ := hp
    show jJ X u 4 [[(y0, jO 1 [iI th, iI n, iI gr, iI pw, .ref aT, iI po, iI pr, iI ix, iI sd, iI gn, iI tk, iI ln, .ref aX, iI zs, iI zl, iI za, iI zf, iI ze, iI zi, .ref aR, .ref aM, .ref aG, .ref aN, .ref aQ, lI ls, lI wn, .ref aO, .ref aS, .ref aH, .ref aU, lI sc, iI zc, .ref aW, lI al, lI nr, lI dr, iI bp, lI ba, lI bb, lI hh])]] [(0, .ref y0), (1, iI p), (2, iI e)] 0 0 21 [iI r_18, .ref y0]
    refine j_if_eq 28 G (by unfold iR at *; omega) dX2_restart_21 (by decide) (fun c_21 => ?_) (fun c_21 => ?_)
    · skip
      refine j_iconst G dX2_restart_28 ?_
      refine j_put (ws' := [[(y0, jO 1 [iI 2, iI n, iI gr, iI pw, .ref aT, iI po, iI pr, iI ix, iI sd, iI gn, iI tk, iI ln, .ref aX, iI zs, iI zl, iI za, iI zf, iI ze, iI zi, .ref aR, .ref aM, .ref aG, .ref aN, .ref aQ, lI ls, lI wn, .ref aO, .ref aS, .ref aH, .ref aU, lI sc, iI zc, .ref aW, lI al, lI nr, lI dr, iI bp, lI ba, lI bb, lI hh])]]) G FX2 (jAt_1 0 rfl) 0 (by decide) q1844 rfl rfl rfl (Nat.le_of_ble_eq_true rfl) dX2_restart_29 rfl ?_
      refine j_aload_n G 0 rfl dX2_restart_32 ?_
      refine j_get G FX2 (jAt_1 0 rfl) 0 (by decide) q1844 rfl dX2_restart_33 ?_
      refine j_if_le 41 G (by unfold iR; omega) dX2_restart_36 (by decide) (fun c_36 => ?_) (fun c_36 => ?_)
      · exact absurd c_36 (by decide)
      · skip
        refine j_iconst G dX2_restart_39 ?_
        exact j_iret G E (Or.inr (Or.inr ⟨(by omega), (by omega), rfl, rfl⟩)) ⟨by omega, by omega⟩ dX2_restart_40
    · skip
      refine j_iconst G dX2_restart_24 ?_
      refine j_goto 29 G dX2_restart_25 (by decide) ?_
      refine j_put (ws' := [[(y0, jO 1 [iI 0, iI n, iI gr, iI pw, .ref aT, iI po, iI pr, iI ix, iI sd, iI gn, iI tk, iI ln, .ref aX, iI zs, iI zl, iI za, iI zf, iI ze, iI zi, .ref aR, .ref aM, .ref aG, .ref aN, .ref aQ, lI ls, lI wn, .ref aO, .ref aS, .ref aH, .ref aU, lI sc, iI zc, .ref aW, lI al, lI nr, lI dr, iI bp, lI ba, lI bb, lI hh])]]) G FX2 (jAt_1 0 rfl) 0 (by decide) q1844 rfl rfl rfl (Nat.le_of_ble_eq_true rfl) dX2_restart_29 rfl ?_
      refine j_aload_n G 0 rfl dX2_restart_32 ?_
      refine j_get G FX2 (jAt_1 0 rfl) 0 (by decide) q1844 rfl dX2_restart_33 ?_
      refine j_if_le 41 G (by unfold iR; omega) dX2_restart_36 (by decide) (fun c_36 => ?_) (fun c_36 => ?_)
      · skip
        refine j_aload_n G 0 rfl dX2_restart_41 ?_
        refine j_get G FX2 (jAt_1 0 rfl) 9 (by decide) q1853 rfl dX2_restart_42 ?_
        refine j_istore_n G [(3, iI gn), (0, .ref y0), (1, iI p), (2, iI e)] rfl (by decide) dX2_restart_45 ?_
        refine j_aload_n G 1 rfl dX2_restart_46 ?_
        refine j_iload_n G 2 rfl dX2_restart_47 ?_
        refine j_put (ws' := [[(y0, jO 1 [iI 0, iI n, iI gr, iI pw, .ref aT, iI p, iI pr, iI ix, iI sd, iI gn, iI tk, iI ln, .ref aX, iI zs, iI zl, iI za, iI zf, iI ze, iI zi, .ref aR, .ref aM, .ref aG, .ref aN, .ref aQ, lI ls, lI wn, .ref aO, .ref aS, .ref aH, .ref aU, lI sc, iI zc, .ref aW, lI al, lI nr, lI dr, iI bp, lI ba, lI bb, lI hh])]]) G FX2 (jAt_1 0 rfl) 5 (by decide) q1849 rfl rfl rfl (Nat.le_of_ble_eq_true rfl) dX2_restart_48 rfl ?_
        refine j_aload_n G 1 rfl dX2_restart_51 ?_
        refine j_iload_n G 3 rfl dX2_restart_52 ?_
        refine j_put (ws' := [[(y0, jO 1 [iI 0, iI n, iI gr, iI pw, .ref aT, iI p, iI pr, iI ix, iI e, iI gn, iI tk, iI ln, .ref aX, iI zs, iI zl, iI za, iI zf, iI ze, iI zi, .ref aR, .ref aM, .ref aG, .ref aN, .ref aQ, lI ls, lI wn, .ref aO, .ref aS, .ref aH, .ref aU, lI sc, iI zc, .ref aW, lI al, lI nr, lI dr, iI bp, lI ba, lI bb, lI hh])]]) G FX2 (jAt_1 0 rfl) 8 (by decide) q1852 rfl rfl rfl (Nat.le_of_ble_eq_true rfl) dX2_restart_53 rfl ?_
        refine j_aload_n G 1 rfl dX2_restart_56 ?_
        refine j_iconst G dX2_restart_57 ?_
        refine j_put (ws' := [[(y0, jO 1 [iI 0, iI n, iI gr, iI pw, .ref aT, iI p, iI pr, iI 0, iI e, iI gn, iI tk, iI ln, .ref aX, iI zs, iI zl, iI za, iI zf, iI ze, iI zi, .ref aR, .ref aM, .ref aG, .ref aN, .ref aQ, lI ls, lI wn, .ref aO, .ref aS, .ref aH, .ref aU, lI sc, iI zc, .ref aW, lI al, lI nr, lI dr, iI bp, lI ba, lI bb, lI hh])]]) G FX2 (jAt_1 0 rfl) 7 (by decide) q1851 rfl rfl rfl (Nat.le_of_ble_eq_true rfl) dX2_restart_58 rfl ?_
        refine j_aload_n G 1 rfl dX2_restart_61 ?_
        refine j_iconst G dX2_restart_62 ?_
        refine j_put (ws' := [[(y0, jO 1 [iI 0, iI n, iI gr, iI pw, .ref aT, iI p, iI pr, iI 0, iI e, iI 0, iI tk, iI ln, .ref aX, iI zs, iI zl, iI za, iI zf, iI ze, iI zi, .ref aR, .ref aM, .ref aG, .ref aN, .ref aQ, lI ls, lI wn, .ref aO, .ref aS, .ref aH, .ref aU, lI sc, iI zc, .ref aW, lI al, lI nr, lI dr, iI bp, lI ba, lI bb, lI hh])]]) G FX2 (jAt_1 0 rfl) 9 (by decide) q1853 rfl rfl rfl (Nat.le_of_ble_eq_true rfl) dX2_restart_63 rfl ?_
        refine j_aload_n G 1 rfl dX2_restart_66 ?_
        refine j_iconst G dX2_restart_67 ?_
        refine j_put (ws' := [[(y0, jO 1 [iI 0, iI n, iI gr, iI pw, .ref aT, iI p, iI pr, iI 0, iI e, iI 0, iI 0, iI ln, .ref aX, iI zs, iI zl, iI za, iI zf, iI ze, iI zi, .ref aR, .ref aM, .ref aG, .ref aN, .ref aQ, lI ls, lI wn, .ref aO, .ref aS, .ref aH, .ref aU, lI sc, iI zc, .ref aW, lI al, lI nr, lI dr, iI bp, lI ba, lI bb, lI hh])]]) G FX2 (jAt_1 0 rfl) 10 (by decide) q1854 rfl rfl rfl (Nat.le_of_ble_eq_true rfl) dX2_restart_68 rfl ?_
        refine j_iload_n G 0 rfl dX2_restart_71 ?_
        exact j_iret G E (Or.inl ⟨(by omega), (by omega), rfl, rfl⟩) ⟨by omega, by omega⟩ dX2_restart_72
      · exact absurd c_36 (by decide)
  · skip
    refine j_iconst G dX2_restart_9 ?_
    refine j_goto 29 G dX2_restart_10 (by decide) ?_
    refine j_put (ws' := [[(y0, jO 1 [iI 1, iI n, iI gr, iI pw, .ref aT, iI po, iI pr, iI ix, iI sd, iI gn, iI tk, iI ln, .ref aX, iI zs, iI zl, iI za, iI zf, iI ze, iI zi, .ref aR, .ref aM, .ref aG, .ref aN, .ref aQ, lI ls, lI wn, .ref aO, .ref aS, .ref aH, .ref aU, lI sc, iI zc, .ref aW, lI al, lI nr, lI dr, iI bp, lI ba, lI bb, lI hh])]]) G FX2 (jAt_1 0 rfl) 0 (by decide) q1844 rfl rfl rfl (Nat.le_of_ble_eq_true rfl) dX2_restart_29 rfl ?_
    refine j_aload_n G 0 rfl dX2_restart_32 ?_
    refine j_get G FX2 (jAt_1 0 rfl) 0 (by decide) q1844 rfl dX2_restart_33 ?_
    refine j_if_le 41 G (by unfold iR; omega) dX2_restart_36 (by decide) (fun c_36 => ?_) (fun c_36 => ?_)
    · exact absurd c_36 (by decide)
    · skip
      refine j_iconst G dX2_restart_39 ?_
      exact j_iret G E (Or.inr (Or.inl ⟨(by omega), rfl, rfl⟩)) ⟨by omega, by omega⟩ dX2_restart_40
theorem hY_X2_counted : jY yX2_counted 1 := ⟨by decide +kernel, by decide +kernel, by decide +kernel⟩
set_option maxHeartbeats 4000000 in
set_option maxRecDepth 100000 in
theorem c_X2_counted (l : Launch) (u : jU) (y0 aT aX aR aM aG aN aQ aO aS aH aU aW : Nat) (th n gr pw po pr ix sd gn tk ln zs zl za zf ze zi zc bp ls wn sc al nr dr ba bb hh : Int) (w : Int) (hw : 0 ≤ w ∧ w ≤ 9) (hp : iR pr) : jC l u yX2_counted cX2_counted 2 (some .int) 1 22 0 0 [.ref y0, iI w] [[(y0, jO 1 [iI th, iI n, iI gr, iI pw, .ref aT, iI po, iI pr, iI ix, iI sd, iI gn, iI tk, iI ln, .ref aX, iI zs, iI zl, iI za, iI zf, iI ze, iI zi, .ref aR, .ref aM, .ref aG, .ref aN, .ref aQ, lI ls, lI wn, .ref aO, .ref aS, .ref aH, .ref aU, lI sc, iI zc, .ref aW, lI al, lI nr, lI dr, iI bp, lI ba, lI bb, lI hh])]] (fun v_ w_ => ∃ (r : Int), r = sCount n po pr ix sd gn tk gr pw w ∧ v_ = some (iI r) ∧ w_ = [[(y0, jO 1 [iI th, iI n, iI gr, iI pw, .ref aT, iI po, iI pr, iI ix, iI sd, iI gn, iI tk, iI ln, .ref aX, iI zs, iI zl, iI za, iI zf, iI ze, iI zi, .ref aR, .ref aM, .ref aG, .ref aN, .ref aQ, lI ls, lI wn, .ref aO, .ref aS, .ref aH, .ref aU, lI sc, iI zc, .ref aW, lI al, lI nr, lI dr, iI bp, lI ba, lI bb, lI hh])]]) := by
  refine jC.of "FlashRatchetModel" (by decide +kernel) rfl (Nat.le_of_ble_eq_true rfl) [(0, .ref y0), (1, iI w)] rfl (fun X G E I => ?_)
  refine j_iload_n G 1 rfl dX2_counted_0 ?_
  by_cases c_1 : 0 ≤ w ∧ w ≤ 8
  · skip
    have d_1 : w = 0 ∨ w = 1 ∨ w = 2 ∨ w = 3 ∨ w = 4 ∨ w = 5 ∨ w = 6 ∨ w = 7 ∨ w = 8 := by omega
    rcases d_1 with e_1 | e_1 | e_1 | e_1 | e_1 | e_1 | e_1 | e_1 | e_1
    · skip
      refine j_tsIn 52 G (by unfold iR at *; omega) dX2_counted_1 (by omega) (by omega) (show _ = some (51 : Int) by rw [e_1]; rfl) (by decide) ?_
      refine j_aload_n G 0 rfl dX2_counted_52 ?_
      refine j_get G FX2 (jAt_1 0 rfl) 1 (by decide) q1845 rfl dX2_counted_53 ?_
      exact j_iret G E ⟨n, (by unfold sCount; (repeat' split) <;> omega), rfl, rfl⟩ ⟨by omega, by omega⟩ dX2_counted_56
    · skip
      refine j_tsIn 57 G (by unfold iR at *; omega) dX2_counted_1 (by omega) (by omega) (show _ = some (56 : Int) by rw [e_1]; rfl) (by decide) ?_
      refine j_aload_n G 0 rfl dX2_counted_57 ?_
      refine j_get G FX2 (jAt_1 0 rfl) 5 (by decide) q1849 rfl dX2_counted_58 ?_
      exact j_iret G E ⟨po, (by unfold sCount; (repeat' split) <;> omega), rfl, rfl⟩ ⟨by omega, by omega⟩ dX2_counted_61
    · skip
      refine j_tsIn 62 G (by unfold iR at *; omega) dX2_counted_1 (by omega) (by omega) (show _ = some (61 : Int) by rw [e_1]; rfl) (by decide) ?_
      refine j_aload_n G 0 rfl dX2_counted_62 ?_
      refine j_get G FX2 (jAt_1 0 rfl) 6 (by decide) q1850 rfl dX2_counted_63 ?_
      exact j_iret G E ⟨pr, (by unfold sCount; (repeat' split) <;> omega), rfl, rfl⟩ ⟨by omega, by omega⟩ dX2_counted_66
    · skip
      refine j_tsIn 67 G (by unfold iR at *; omega) dX2_counted_1 (by omega) (by omega) (show _ = some (66 : Int) by rw [e_1]; rfl) (by decide) ?_
      refine j_aload_n G 0 rfl dX2_counted_67 ?_
      refine j_get G FX2 (jAt_1 0 rfl) 7 (by decide) q1851 rfl dX2_counted_68 ?_
      exact j_iret G E ⟨ix, (by unfold sCount; (repeat' split) <;> omega), rfl, rfl⟩ ⟨by omega, by omega⟩ dX2_counted_71
    · skip
      refine j_tsIn 72 G (by unfold iR at *; omega) dX2_counted_1 (by omega) (by omega) (show _ = some (71 : Int) by rw [e_1]; rfl) (by decide) ?_
      refine j_aload_n G 0 rfl dX2_counted_72 ?_
      refine j_get G FX2 (jAt_1 0 rfl) 8 (by decide) q1852 rfl dX2_counted_73 ?_
      exact j_iret G E ⟨sd, (by unfold sCount; (repeat' split) <;> omega), rfl, rfl⟩ ⟨by omega, by omega⟩ dX2_counted_76
    · skip
      refine j_tsIn 77 G (by unfold iR at *; omega) dX2_counted_1 (by omega) (by omega) (show _ = some (76 : Int) by rw [e_1]; rfl) (by decide) ?_
      refine j_aload_n G 0 rfl dX2_counted_77 ?_
      refine j_get G FX2 (jAt_1 0 rfl) 9 (by decide) q1853 rfl dX2_counted_78 ?_
      exact j_iret G E ⟨gn, (by unfold sCount; (repeat' split) <;> omega), rfl, rfl⟩ ⟨by omega, by omega⟩ dX2_counted_81
    · skip
      refine j_tsIn 82 G (by unfold iR at *; omega) dX2_counted_1 (by omega) (by omega) (show _ = some (81 : Int) by rw [e_1]; rfl) (by decide) ?_
      refine j_aload_n G 0 rfl dX2_counted_82 ?_
      refine j_get G FX2 (jAt_1 0 rfl) 10 (by decide) q1854 rfl dX2_counted_83 ?_
      exact j_iret G E ⟨tk, (by unfold sCount; (repeat' split) <;> omega), rfl, rfl⟩ ⟨by omega, by omega⟩ dX2_counted_86
    · skip
      refine j_tsIn 87 G (by unfold iR at *; omega) dX2_counted_1 (by omega) (by omega) (show _ = some (86 : Int) by rw [e_1]; rfl) (by decide) ?_
      refine j_aload_n G 0 rfl dX2_counted_87 ?_
      refine j_get G FX2 (jAt_1 0 rfl) 2 (by decide) q1846 rfl dX2_counted_88 ?_
      exact j_iret G E ⟨gr, (by unfold sCount; (repeat' split) <;> omega), rfl, rfl⟩ ⟨by omega, by omega⟩ dX2_counted_91
    · skip
      refine j_tsIn 92 G (by unfold iR at *; omega) dX2_counted_1 (by omega) (by omega) (show _ = some (91 : Int) by rw [e_1]; rfl) (by decide) ?_
      refine j_aload_n G 0 rfl dX2_counted_92 ?_
      refine j_get G FX2 (jAt_1 0 rfl) 3 (by decide) q1847 rfl dX2_counted_93 ?_
      exact j_iret G E ⟨pw, (by unfold sCount; (repeat' split) <;> omega), rfl, rfl⟩ ⟨by omega, by omega⟩ dX2_counted_96
  · skip
    refine j_tsOut 97 G (by unfold iR at *; omega) dX2_counted_1 (by omega) (by decide) ?_
    refine j_aload_n G 0 rfl dX2_counted_97 ?_
    refine j_get G FX2 (jAt_1 0 rfl) 6 (by decide) q1850 rfl dX2_counted_98 ?_
    refine j_callS (wr := [[(y0, jO 1 [iI th, iI n, iI gr, iI pw, .ref aT, iI po, iI pr, iI ix, iI sd, iI gn, iI tk, iI ln, .ref aX, iI zs, iI zl, iI za, iI zf, iI ze, iI zi, .ref aR, .ref aM, .ref aG, .ref aN, .ref aQ, lI ls, lI wn, .ref aO, .ref aS, .ref aH, .ref aU, lI sc, iI zc, .ref aW, lI al, lI nr, lI dr, iI bp, lI ba, lI bb, lI hh])]]) (k' := 0) (n' := 0) G (c_X2_size l u pr hp) hY_X2_size q2029 q2030 q90 q2031 (jcut 1 [0] (by decide) rfl rfl) ⟨by omega, by omega, by omega, by omega, by omega, by omega⟩ (Nat.le_of_ble_eq_true rfl) dX2_counted_101 rfl (fun v_ w_ hp => ?_)
    obtain ⟨r_101, h101_1, h101_2, rfl, rfl⟩ := hp
    show jJ X u 2 [[(y0, jO 1 [iI th, iI n, iI gr, iI pw, .ref aT, iI po, iI pr, iI ix, iI sd, iI gn, iI tk, iI ln, .ref aX, iI zs, iI zl, iI za, iI zf, iI ze, iI zi, .ref aR, .ref aM, .ref aG, .ref aN, .ref aQ, lI ls, lI wn, .ref aO, .ref aS, .ref aH, .ref aU, lI sc, iI zc, .ref aW, lI al, lI nr, lI dr, iI bp, lI ba, lI bb, lI hh])]] [(0, .ref y0), (1, iI w)] 0 0 104 [iI r_101]
    exact j_iret G E ⟨r_101, (by unfold sCount; (repeat' split) <;> omega), rfl, rfl⟩ ⟨by omega, by omega⟩ dX2_counted_104
theorem hY_X2_count : jY yX2_count 1 := ⟨by decide +kernel, by decide +kernel, by decide +kernel⟩
set_option maxHeartbeats 4000000 in
set_option maxRecDepth 100000 in
theorem c_X2_count (l : Launch) (u : jU) (y0 aT aX aR aM aG aN aQ aO aS aH aU aW : Nat) (th n gr pw po pr ix sd gn tk ln zs zl za zf ze zi zc bp ls wn sc al nr dr ba bb hh : Int) (w : Int) (hRw : iR w) (hp : iR pr) : jC l u yX2_count cX2_count 2 (some .int) 2 43 0 0 [.ref y0, iI w] [[(y0, jO 1 [iI th, iI n, iI gr, iI pw, .ref aT, iI po, iI pr, iI ix, iI sd, iI gn, iI tk, iI ln, .ref aX, iI zs, iI zl, iI za, iI zf, iI ze, iI zi, .ref aR, .ref aM, .ref aG, .ref aN, .ref aQ, lI ls, lI wn, .ref aO, .ref aS, .ref aH, .ref aU, lI sc, iI zc, .ref aW, lI al, lI nr, lI dr, iI bp, lI ba, lI bb, lI hh])]] (fun v_ w_ => (∃ (r : Int), r = sCount n po pr ix sd gn tk gr pw w ∧ (0 ≤ w ∧ w ≤ 9) ∧ v_ = some (iI r) ∧ w_ = [[(y0, jO 1 [iI 0, iI n, iI gr, iI pw, .ref aT, iI po, iI pr, iI ix, iI sd, iI gn, iI tk, iI ln, .ref aX, iI zs, iI zl, iI za, iI zf, iI ze, iI zi, .ref aR, .ref aM, .ref aG, .ref aN, .ref aQ, lI ls, lI wn, .ref aO, .ref aS, .ref aH, .ref aU, lI sc, iI zc, .ref aW, lI al, lI nr, lI dr, iI bp, lI ba, lI bb, lI hh])]]) ∨ ((¬ (0 ≤ w ∧ w ≤ 9)) ∧ v_ = some (iI 0) ∧ w_ = [[(y0, jO 1 [iI 1, iI n, iI gr, iI pw, .ref aT, iI po, iI pr, iI ix, iI sd, iI gn, iI tk, iI ln, .ref aX, iI zs, iI zl, iI za, iI zf, iI ze, iI zi, .ref aR, .ref aM, .ref aG, .ref aN, .ref aQ, lI ls, lI wn, .ref aO, .ref aS, .ref aH, .ref aU, lI sc, iI zc, .ref aW, lI al, lI nr, lI dr, iI bp, lI ba, lI bb, lI hh])]])) := by
  refine jC.of "FlashRatchetModel" (by decide +kernel) rfl (Nat.le_of_ble_eq_true rfl) [(0, .ref y0), (1, iI w)] rfl (fun X G E I => ?_)
  refine j_aload_n G 0 rfl dX2_count_0 ?_
  refine j_iload_n G 1 rfl dX2_count_1 ?_
  refine j_iconst G dX2_count_2 ?_
  refine j_bipush G (by decide) dX2_count_3 ?_
  refine j_callS (wr := [[(y0, jO 1 [iI th, iI n, iI gr, iI pw, .ref aT, iI po, iI pr, iI ix, iI sd, iI gn, iI tk, iI ln, .ref aX, iI zs, iI zl, iI za, iI zf, iI ze, iI zi, .ref aR, .ref aM, .ref aG, .ref aN, .ref aQ, lI ls, lI wn, .ref aO, .ref aS, .ref aH, .ref aU, lI sc, iI zc, .ref aW, lI al, lI nr, lI dr, iI bp, lI ba, lI bb, lI hh])]]) (k' := 0) (n' := 0) G (c_X2_within l u w 0 9 hRw (by unfold iR; omega) (by unfold iR; omega)) hY_X2_within q1973 q1974 q90 q1975 (jcut 1 [0] (by decide) rfl rfl) ⟨by omega, by omega, by omega, by omega, by omega, by omega⟩ (Nat.le_of_ble_eq_true rfl) dX2_count_5 rfl (fun v_ w_ hp => ?_)
  obtain ⟨r_5, h5_1, rfl, rfl⟩ := hp
  show jJ X u 2 [[(y0, jO 1 [iI th, iI n, iI gr, iI pw, .ref aT, iI po, iI pr, iI ix, iI sd, iI gn, iI tk, iI ln, .ref aX, iI zs, iI zl, iI za, iI zf, iI ze, iI zi, .ref aR, .ref aM, .ref aG, .ref aN, .ref aQ, lI ls, lI wn, .ref aO, .ref aS, .ref aH, .ref aU, lI sc, iI zc, .ref aW, lI al, lI nr, lI dr, iI bp, lI ba, lI bb, lI hh])]] [(0, .ref y0), (1, iI w)] 0 0 8 [iI r_5, .ref y0]
  refine j_if_eq 15 G (by unfold iR at *; omega) dX2_count_8 (by decide) (fun c_8 => ?_) (fun c_8 => ?_)
  · skip
    refine j_iconst G dX2_count_15 ?_
    refine j_put (ws' := [[(y0, jO 1 [iI 1, iI n, iI gr, iI pw, .ref aT, iI po, iI pr, iI ix, iI sd, iI gn, iI tk, iI ln, .ref aX, iI zs, iI zl, iI za, iI zf, iI ze, iI zi, .ref aR, .ref aM, .ref aG, .ref aN, .ref aQ, lI ls, lI wn, .ref aO, .ref aS, .ref aH, .ref aU, lI sc, iI zc, .ref aW, lI al, lI nr, lI dr, iI bp, lI ba, lI bb, lI hh])]]) G FX2 (jAt_1 0 rfl) 0 (by decide) q1844 rfl rfl rfl (Nat.le_of_ble_eq_true rfl) dX2_count_16 rfl ?_
    refine j_aload_n G 0 rfl dX2_count_19 ?_
    refine j_get G FX2 (jAt_1 0 rfl) 0 (by decide) q1844 rfl dX2_count_20 ?_
    refine j_if_le 30 G (by unfold iR; omega) dX2_count_23 (by decide) (fun c_23 => ?_) (fun c_23 => ?_)
    · exact absurd c_23 (by decide)
    · skip
      refine j_iconst G dX2_count_26 ?_
      refine j_goto 35 G dX2_count_27 (by decide) ?_
      exact j_iret G E (Or.inr ⟨(by omega), rfl, rfl⟩) ⟨by omega, by omega⟩ dX2_count_35
  · skip
    refine j_iconst G dX2_count_11 ?_
    refine j_goto 16 G dX2_count_12 (by decide) ?_
    refine j_put (ws' := [[(y0, jO 1 [iI 0, iI n, iI gr, iI pw, .ref aT, iI po, iI pr, iI ix, iI sd, iI gn, iI tk, iI ln, .ref aX, iI zs, iI zl, iI za, iI zf, iI ze, iI zi, .ref aR, .ref aM, .ref aG, .ref aN, .ref aQ, lI ls, lI wn, .ref aO, .ref aS, .ref aH, .ref aU, lI sc, iI zc, .ref aW, lI al, lI nr, lI dr, iI bp, lI ba, lI bb, lI hh])]]) G FX2 (jAt_1 0 rfl) 0 (by decide) q1844 rfl rfl rfl (Nat.le_of_ble_eq_true rfl) dX2_count_16 rfl ?_
    refine j_aload_n G 0 rfl dX2_count_19 ?_
    refine j_get G FX2 (jAt_1 0 rfl) 0 (by decide) q1844 rfl dX2_count_20 ?_
    refine j_if_le 30 G (by unfold iR; omega) dX2_count_23 (by decide) (fun c_23 => ?_) (fun c_23 => ?_)
    · skip
      refine j_aload_n G 0 rfl dX2_count_30 ?_
      refine j_iload_n G 1 rfl dX2_count_31 ?_
      refine j_callV (wr := []) (k' := 0) (n' := 0) G FX2 (c_X2_counted l u y0 aT aX aR aM aG aN aQ aO aS aH aU aW 0 n gr pw po pr ix sd gn tk ln zs zl za zf ze zi zc bp ls wn sc al nr dr ba bb hh w (by (try unfold iR at *); omega) hp) (jAt_1 0 rfl) ⟨rfl, hY_X2_counted⟩ q2235 q2237 qs81 q90 q2238 (jcut 1 [0] (by decide) rfl rfl) ⟨by omega, by omega, by omega, by omega, by omega, by omega⟩ (Nat.le_of_ble_eq_true rfl) dX2_count_32 rfl (fun v_ w_ hp => ?_)
      obtain ⟨r_32, h32_1, rfl, rfl⟩ := hp
      show jJ X u 2 [[(y0, jO 1 [iI 0, iI n, iI gr, iI pw, .ref aT, iI po, iI pr, iI ix, iI sd, iI gn, iI tk, iI ln, .ref aX, iI zs, iI zl, iI za, iI zf, iI ze, iI zi, .ref aR, .ref aM, .ref aG, .ref aN, .ref aQ, lI ls, lI wn, .ref aO, .ref aS, .ref aH, .ref aU, lI sc, iI zc, .ref aW, lI al, lI nr, lI dr, iI bp, lI ba, lI bb, lI hh])]] [(0, .ref y0), (1, iI w)] 0 0 35 [iI r_32]
      exact j_iret G E (Or.inl ⟨r_32, (by omega), (by omega), rfl, rfl⟩) ⟨by omega, by omega⟩ dX2_count_35
    · exact absurd c_23 (by decide)
theorem hY_X2_table : jY yX2_table 2 := ⟨by decide +kernel, by decide +kernel, by decide +kernel⟩
set_option maxHeartbeats 4000000 in
set_option maxRecDepth 100000 in
theorem c_X2_table (l : Launch) (u : jU) (y0 aT aX aR aM aG aN aQ aO aS aH aU aW : Nat) (th n gr pw po pr ix sd gn tk ln zs zl za zf ze zi zc bp ls wn sc al nr dr ba bb hh : Int) (tb : Int → Int) (lv p : Int) (hRlv : iR lv) (hRp : iR p) (hn : 2 ≤ n ∧ n ≤ 4) : jC l u yX2_table cX2_table 3 (some .int) 2 43 0 0 [.ref y0, iI lv, iI p] [[(y0, jO 1 [iI th, iI n, iI gr, iI pw, .ref aT, iI po, iI pr, iI ix, iI sd, iI gn, iI tk, iI ln, .ref aX, iI zs, iI zl, iI za, iI zf, iI ze, iI zi, .ref aR, .ref aM, .ref aG, .ref aN, .ref aQ, lI ls, lI wn, .ref aO, .ref aS, .ref aH, .ref aU, lI sc, iI zc, .ref aW, lI al, lI nr, lI dr, iI bp, lI ba, lI bb, lI hh])], [(aT, cI u 24 tb)]] (fun v_ w_ => (∃ (r : Int), r = 100 * tB tb (4 * lv + p) + tF tb (4 * lv + p) ∧ (0 ≤ lv ∧ lv ≤ 2 ∧ 0 ≤ p ∧ p < n) ∧ v_ = some (iI r) ∧ w_ = [[(y0, jO 1 [iI 0, iI n, iI gr, iI pw, .ref aT, iI po, iI pr, iI ix, iI sd, iI gn, iI tk, iI ln, .ref aX, iI zs, iI zl, iI za, iI zf, iI ze, iI zi, .ref aR, .ref aM, .ref aG, .ref aN, .ref aQ, lI ls, lI wn, .ref aO, .ref aS, .ref aH, .ref aU, lI sc, iI zc, .ref aW, lI al, lI nr, lI dr, iI bp, lI ba, lI bb, lI hh])], [(aT, cI u 24 tb)]]) ∨ ((¬ (0 ≤ lv ∧ lv ≤ 2 ∧ 0 ≤ p ∧ p < n)) ∧ v_ = some (iI 0) ∧ w_ = [[(y0, jO 1 [iI 1, iI n, iI gr, iI pw, .ref aT, iI po, iI pr, iI ix, iI sd, iI gn, iI tk, iI ln, .ref aX, iI zs, iI zl, iI za, iI zf, iI ze, iI zi, .ref aR, .ref aM, .ref aG, .ref aN, .ref aQ, lI ls, lI wn, .ref aO, .ref aS, .ref aH, .ref aU, lI sc, iI zc, .ref aW, lI al, lI nr, lI dr, iI bp, lI ba, lI bb, lI hh])], [(aT, cI u 24 tb)]])) := by
  refine jC.of "FlashRatchetModel" (by decide +kernel) rfl (Nat.le_of_ble_eq_true rfl) [(0, .ref y0), (1, iI lv), (2, iI p)] rfl (fun X G E I => ?_)
  refine j_aload_n G 0 rfl dX2_table_0 ?_
  refine j_iload_n G 1 rfl dX2_table_1 ?_
  refine j_callS (wr := [[(y0, jO 1 [iI th, iI n, iI gr, iI pw, .ref aT, iI po, iI pr, iI ix, iI sd, iI gn, iI tk, iI ln, .ref aX, iI zs, iI zl, iI za, iI zf, iI ze, iI zi, .ref aR, .ref aM, .ref aG, .ref aN, .ref aQ, lI ls, lI wn, .ref aO, .ref aS, .ref aH, .ref aU, lI sc, iI zc, .ref aW, lI al, lI nr, lI dr, iI bp, lI ba, lI bb, lI hh])], [(aT, cI u 24 tb)]]) (k' := 0) (n' := 0) G (c_X2_isLever l u lv hRlv) hY_X2_isLever q1980 q1981 q90 q1982 (jcut 2 [0, 1] (by decide) rfl rfl) ⟨by omega, by omega, by omega, by omega, by omega, by omega⟩ (Nat.le_of_ble_eq_true rfl) dX2_table_2 rfl (fun v_ w_ hp => ?_)
  obtain ⟨r_2, h2_1, rfl, rfl⟩ := hp
  show jJ X u 3 [[(y0, jO 1 [iI th, iI n, iI gr, iI pw, .ref aT, iI po, iI pr, iI ix, iI sd, iI gn, iI tk, iI ln, .ref aX, iI zs, iI zl, iI za, iI zf, iI ze, iI zi, .ref aR, .ref aM, .ref aG, .ref aN, .ref aQ, lI ls, lI wn, .ref aO, .ref aS, .ref aH, .ref aU, lI sc, iI zc, .ref aW, lI al, lI nr, lI dr, iI bp, lI ba, lI bb, lI hh])], [(aT, cI u 24 tb)]] [(0, .ref y0), (1, iI lv), (2, iI p)] 0 0 5 [iI r_2, .ref y0]
  refine j_if_eq 20 G (by unfold iR at *; omega) dX2_table_5 (by decide) (fun c_5 => ?_) (fun c_5 => ?_)
  · skip
    refine j_iconst G dX2_table_20 ?_
    refine j_put (ws' := [[(y0, jO 1 [iI 1, iI n, iI gr, iI pw, .ref aT, iI po, iI pr, iI ix, iI sd, iI gn, iI tk, iI ln, .ref aX, iI zs, iI zl, iI za, iI zf, iI ze, iI zi, .ref aR, .ref aM, .ref aG, .ref aN, .ref aQ, lI ls, lI wn, .ref aO, .ref aS, .ref aH, .ref aU, lI sc, iI zc, .ref aW, lI al, lI nr, lI dr, iI bp, lI ba, lI bb, lI hh])], [(aT, cI u 24 tb)]]) G FX2 (jAt_1 0 rfl) 0 (by decide) q1844 rfl rfl rfl (Nat.le_of_ble_eq_true rfl) dX2_table_21 rfl ?_
    refine j_aload_n G 0 rfl dX2_table_24 ?_
    refine j_get G FX2 (jAt_1 0 rfl) 0 (by decide) q1844 rfl dX2_table_25 ?_
    refine j_if_le 35 G (by unfold iR; omega) dX2_table_28 (by decide) (fun c_28 => ?_) (fun c_28 => ?_)
    · exact absurd c_28 (by decide)
    · skip
      refine j_iconst G dX2_table_31 ?_
      refine j_goto 41 G dX2_table_32 (by decide) ?_
      exact j_iret G E (Or.inr ⟨(by omega), rfl, rfl⟩) ⟨by omega, by omega⟩ dX2_table_41
  · skip
    refine j_aload_n G 0 rfl dX2_table_8 ?_
    refine j_iload_n G 2 rfl dX2_table_9 ?_
    refine j_callV (wr := [[(aT, cI u 24 tb)]]) (k' := 0) (n' := 0) G FX2 (c_X2_isPosition l u y0 aT aX aR aM aG aN aQ aO aS aH aU aW th n gr pw po pr ix sd gn tk ln zs zl za zf ze zi zc bp ls wn sc al nr dr ba bb hh p hRp hn) (jAt_1 0 rfl) ⟨rfl, hY_X2_isPosition⟩ q1983 q1985 qs44 q90 q1986 (jcut 2 [0, 1] (by decide) rfl rfl) ⟨by omega, by omega, by omega, by omega, by omega, by omega⟩ (Nat.le_of_ble_eq_true rfl) dX2_table_10 rfl (fun v_ w_ hp => ?_)
    obtain ⟨r_10, h10_1, rfl, rfl⟩ := hp
    show jJ X u 3 [[(y0, jO 1 [iI th, iI n, iI gr, iI pw, .ref aT, iI po, iI pr, iI ix, iI sd, iI gn, iI tk, iI ln, .ref aX, iI zs, iI zl, iI za, iI zf, iI ze, iI zi, .ref aR, .ref aM, .ref aG, .ref aN, .ref aQ, lI ls, lI wn, .ref aO, .ref aS, .ref aH, .ref aU, lI sc, iI zc, .ref aW, lI al, lI nr, lI dr, iI bp, lI ba, lI bb, lI hh])], [(aT, cI u 24 tb)]] [(0, .ref y0), (1, iI lv), (2, iI p)] 0 0 13 [iI r_10, .ref y0]
    refine j_if_eq 20 G (by unfold iR at *; omega) dX2_table_13 (by decide) (fun c_13 => ?_) (fun c_13 => ?_)
    · skip
      refine j_iconst G dX2_table_20 ?_
      refine j_put (ws' := [[(y0, jO 1 [iI 1, iI n, iI gr, iI pw, .ref aT, iI po, iI pr, iI ix, iI sd, iI gn, iI tk, iI ln, .ref aX, iI zs, iI zl, iI za, iI zf, iI ze, iI zi, .ref aR, .ref aM, .ref aG, .ref aN, .ref aQ, lI ls, lI wn, .ref aO, .ref aS, .ref aH, .ref aU, lI sc, iI zc, .ref aW, lI al, lI nr, lI dr, iI bp, lI ba, lI bb, lI hh])], [(aT, cI u 24 tb)]]) G FX2 (jAt_1 0 rfl) 0 (by decide) q1844 rfl rfl rfl (Nat.le_of_ble_eq_true rfl) dX2_table_21 rfl ?_
      refine j_aload_n G 0 rfl dX2_table_24 ?_
      refine j_get G FX2 (jAt_1 0 rfl) 0 (by decide) q1844 rfl dX2_table_25 ?_
      refine j_if_le 35 G (by unfold iR; omega) dX2_table_28 (by decide) (fun c_28 => ?_) (fun c_28 => ?_)
      · exact absurd c_28 (by decide)
      · skip
        refine j_iconst G dX2_table_31 ?_
        refine j_goto 41 G dX2_table_32 (by decide) ?_
        exact j_iret G E (Or.inr ⟨(by omega), rfl, rfl⟩) ⟨by omega, by omega⟩ dX2_table_41
    · skip
      refine j_iconst G dX2_table_16 ?_
      refine j_goto 21 G dX2_table_17 (by decide) ?_
      refine j_put (ws' := [[(y0, jO 1 [iI 0, iI n, iI gr, iI pw, .ref aT, iI po, iI pr, iI ix, iI sd, iI gn, iI tk, iI ln, .ref aX, iI zs, iI zl, iI za, iI zf, iI ze, iI zi, .ref aR, .ref aM, .ref aG, .ref aN, .ref aQ, lI ls, lI wn, .ref aO, .ref aS, .ref aH, .ref aU, lI sc, iI zc, .ref aW, lI al, lI nr, lI dr, iI bp, lI ba, lI bb, lI hh])], [(aT, cI u 24 tb)]]) G FX2 (jAt_1 0 rfl) 0 (by decide) q1844 rfl rfl rfl (Nat.le_of_ble_eq_true rfl) dX2_table_21 rfl ?_
      refine j_aload_n G 0 rfl dX2_table_24 ?_
      refine j_get G FX2 (jAt_1 0 rfl) 0 (by decide) q1844 rfl dX2_table_25 ?_
      refine j_if_le 35 G (by unfold iR; omega) dX2_table_28 (by decide) (fun c_28 => ?_) (fun c_28 => ?_)
      · skip
        refine j_aload_n G 0 rfl dX2_table_35 ?_
        refine j_iload_n G 1 rfl dX2_table_36 ?_
        refine j_iload_n G 2 rfl dX2_table_37 ?_
        refine j_callV (wr := []) (k' := 0) (n' := 0) G FX2 (c_X2_told l u y0 aT aX aR aM aG aN aQ aO aS aH aU aW 0 n gr pw po pr ix sd gn tk ln zs zl za zf ze zi zc bp ls wn sc al nr dr ba bb hh tb lv p (by (try unfold iR at *); omega) (by (try unfold iR at *); omega)) (jAt_1 0 rfl) ⟨rfl, hY_X2_told⟩ q1987 q1989 qs45 q90 q1990 (jcut 2 [0, 1] (by decide) rfl rfl) ⟨by omega, by omega, by omega, by omega, by omega, by omega⟩ (Nat.le_of_ble_eq_true rfl) dX2_table_38 rfl (fun v_ w_ hp => ?_)
        obtain ⟨r_38, h38_1, rfl, rfl⟩ := hp
        show jJ X u 3 [[(y0, jO 1 [iI 0, iI n, iI gr, iI pw, .ref aT, iI po, iI pr, iI ix, iI sd, iI gn, iI tk, iI ln, .ref aX, iI zs, iI zl, iI za, iI zf, iI ze, iI zi, .ref aR, .ref aM, .ref aG, .ref aN, .ref aQ, lI ls, lI wn, .ref aO, .ref aS, .ref aH, .ref aU, lI sc, iI zc, .ref aW, lI al, lI nr, lI dr, iI bp, lI ba, lI bb, lI hh])], [(aT, cI u 24 tb)]] [(0, .ref y0), (1, iI lv), (2, iI p)] 0 0 41 [iI r_38]
        exact j_iret G E (Or.inl ⟨r_38, (by omega), (by omega), rfl, rfl⟩) ⟨by omega, by omega⟩ dX2_table_41
      · exact absurd c_28 (by decide)
theorem hY_X2_mix : jY yX2_mix 1 := ⟨by decide +kernel, by decide +kernel, by decide +kernel⟩
set_option maxHeartbeats 4000000 in
set_option maxRecDepth 100000 in
theorem c_X2_mix (l : Launch) (u : jU) (y0 aT aX aR aM aG aN aQ aO aS aH aU aW : Nat) (th n gr pw po pr ix sd gn tk ln zs zl za zf ze zi zc bp ls wn sc al nr dr ba bb hh : Int) (v : Int)  : jC l u yX2_mix cX2_mix 3 none 0 0 0 0 [.ref y0, lI v] [[(y0, jO 1 [iI th, iI n, iI gr, iI pw, .ref aT, iI po, iI pr, iI ix, iI sd, iI gn, iI tk, iI ln, .ref aX, iI zs, iI zl, iI za, iI zf, iI ze, iI zi, .ref aR, .ref aM, .ref aG, .ref aN, .ref aQ, lI ls, lI wn, .ref aO, .ref aS, .ref aH, .ref aU, lI sc, iI zc, .ref aW, lI al, lI nr, lI dr, iI bp, lI ba, lI bb, lI hh])]] (fun v_ w_ => v_ = none ∧ w_ = [[(y0, jO 1 [iI th, iI n, iI gr, iI pw, .ref aT, iI po, iI pr, iI ix, iI sd, iI gn, iI tk, iI ln, .ref aX, iI zs, iI zl, iI za, iI zf, iI ze, iI zi, .ref aR, .ref aM, .ref aG, .ref aN, .ref aQ, lI ls, lI wn, .ref aO, .ref aS, .ref aH, .ref aU, lI sc, iI zc, .ref aW, lI al, lI nr, lI dr, iI bp, lI ba, lI bb, lI (31 * hh + v)])]]) := by
  refine jC.of "FlashRatchetModel" (by decide +kernel) rfl (Nat.le_of_ble_eq_true rfl) [(0, .ref y0), (1, lI v)] rfl (fun X G E I => ?_)
  refine j_aload_n G 0 rfl dX2_mix_0 ?_
  refine j_ldc2 31 G q2256 (by decide) dX2_mix_1 ?_
  refine j_aload_n G 0 rfl dX2_mix_4 ?_
  refine j_get G FX2 (jAt_1 0 rfl) 39 (by decide) q1883 rfl dX2_mix_5 ?_
  refine j_lmul G dX2_mix_8 ?_
  refine j_lload_n G 1 rfl dX2_mix_9 ?_
  refine j_ladd G dX2_mix_10 ?_
  refine j_put (ws' := [[(y0, jO 1 [iI th, iI n, iI gr, iI pw, .ref aT, iI po, iI pr, iI ix, iI sd, iI gn, iI tk, iI ln, .ref aX, iI zs, iI zl, iI za, iI zf, iI ze, iI zi, .ref aR, .ref aM, .ref aG, .ref aN, .ref aQ, lI ls, lI wn, .ref aO, .ref aS, .ref aH, .ref aU, lI sc, iI zc, .ref aW, lI al, lI nr, lI dr, iI bp, lI ba, lI bb, lI ((31 * hh) + v)])]]) G FX2 (jAt_1 0 rfl) 39 (by decide) q1883 rfl rfl rfl (Nat.le_of_ble_eq_true rfl) dX2_mix_11 rfl ?_
  exact j_vret G E ⟨rfl, rfl⟩ ⟨by omega, by omega⟩ dX2_mix_14
theorem hY_X2_tick : jY yX2_tick 0 := ⟨by decide +kernel, by decide +kernel, by decide +kernel⟩
set_option maxHeartbeats 4000000 in
set_option maxRecDepth 100000 in
theorem c_X2_tick (l : Launch) (u : jU) (y0 aT aX aR aM aG aN aQ aO aS aH aU aW : Nat) (th n gr pw po pr ix sd gn tk ln zs zl za zf ze zi zc bp ls wn sc al nr dr ba bb hh : Int) (tb : Int → Int) (hn : 2 ≤ n ∧ n ≤ 4) (hg : 0 ≤ gr ∧ gr ≤ 7) (hw : 0 ≤ pw ∧ pw ≤ 15) (hp : sProg pr = 1) (hT : wT (tB tb) (tF tb)) (hq : wQ (n, gr, pw, pr, tB tb, tF tb) (po, ix, sd)) : jC l u yX2_tick cX2_tick 7 (some .int) 2 45 0 0 [.ref y0] [[(y0, jO 1 [iI th, iI n, iI gr, iI pw, .ref aT, iI po, iI pr, iI ix, iI sd, iI gn, iI tk, iI ln, .ref aX, iI zs, iI zl, iI za, iI zf, iI ze, iI zi, .ref aR, .ref aM, .ref aG, .ref aN, .ref aQ, lI ls, lI wn, .ref aO, .ref aS, .ref aH, .ref aU, lI sc, iI zc, .ref aW, lI al, lI nr, lI dr, iI bp, lI ba, lI bb, lI hh])], [(aT, cI u 24 tb)]] (fun v_ w_ => ∃ (a2 b2 d2 mv : Int), (a2, b2, d2) = tNx (n, gr, pw, pr, tB tb, tF tb) (po, ix, sd) ∧ mv = tMv (n, gr, pw, pr, tB tb, tF tb) (po, ix, sd) ∧ wQ (n, gr, pw, pr, tB tb, tF tb) (a2, b2, d2) ∧ v_ = some (iI mv) ∧ w_ = [[(y0, jO 1 [iI th, iI n, iI gr, iI pw, .ref aT, iI a2, iI pr, iI b2, iI d2, iI gn, iI tk, iI ln, .ref aX, iI zs, iI zl, iI za, iI zf, iI ze, iI zi, .ref aR, .ref aM, .ref aG, .ref aN, .ref aQ, lI ls, lI wn, .ref aO, .ref aS, .ref aH, .ref aU, lI sc, iI zc, .ref aW, lI al, lI nr, lI dr, iI bp, lI ba, lI bb, lI hh])], [(aT, cI u 24 tb)]]) := by
  refine jC.of "FlashRatchetModel" (by decide +kernel) rfl (Nat.le_of_ble_eq_true rfl) [(0, .ref y0)] rfl (fun X G E I => ?_)
  have hpi := sProg_in hp
  have hpl := sLen_prog hp
  obtain ⟨hq_1, hq_2, hq_3, hq_4, hq_5, hq_6⟩ := id hq
  refine j_aload_n G 0 rfl dX2_tick_0 ?_
  refine j_sipush G (by decide) dX2_tick_1 ?_
  refine j_aload_n G 0 rfl dX2_tick_4 ?_
  refine j_get G FX2 (jAt_1 0 rfl) 8 (by decide) q1852 rfl dX2_tick_5 ?_
  refine j_imul G dX2_tick_8 ?_
  refine j_sipush G (by decide) dX2_tick_9 ?_
  refine j_iadd G dX2_tick_12 ?_
  refine j_sipush G (by decide) dX2_tick_13 ?_
  refine j_iremN G (by (try unfold iR at *); omega) (by (try unfold iR at *); omega) dX2_tick_16 ?_
  refine j_put (ws' := [[(y0, jO 1 [iI th, iI n, iI gr, iI pw, .ref aT, iI po, iI pr, iI ix, iI (((141 * sd) + 187) % 1000), iI gn, iI tk, iI ln, .ref aX, iI zs, iI zl, iI za, iI zf, iI ze, iI zi, .ref aR, .ref aM, .ref aG, .ref aN, .ref aQ, lI ls, lI wn, .ref aO, .ref aS, .ref aH, .ref aU, lI sc, iI zc, .ref aW, lI al, lI nr, lI dr, iI bp, lI ba, lI bb, lI hh])], [(aT, cI u 24 tb)]]) G FX2 (jAt_1 0 rfl) 8 (by decide) q1852 rfl rfl rfl (Nat.le_of_ble_eq_true rfl) dX2_tick_17 rfl ?_
  refine j_aload_n G 0 rfl dX2_tick_20 ?_
  refine j_get G FX2 (jAt_1 0 rfl) 8 (by decide) q1852 rfl dX2_tick_21 ?_
  refine j_bipush G (by decide) dX2_tick_24 ?_
  refine j_idivN G (by (try unfold iR at *); omega) (by (try unfold iR at *); omega) dX2_tick_26 ?_
  refine j_istore_n G [(1, iI ((((141 * sd) + 187) % 1000) / 100)), (0, .ref y0)] rfl (by decide) dX2_tick_27 ?_
  refine j_aload_n G 1 rfl dX2_tick_28 ?_
  refine j_get G FX2 (jAt_1 0 rfl) 6 (by decide) q1850 rfl dX2_tick_29 ?_
  refine j_aload_n G 1 rfl dX2_tick_32 ?_
  refine j_get G FX2 (jAt_1 0 rfl) 7 (by decide) q1851 rfl dX2_tick_33 ?_
  refine j_callS (wr := [[(y0, jO 1 [iI th, iI n, iI gr, iI pw, .ref aT, iI po, iI pr, iI ix, iI (((141 * sd) + 187) % 1000), iI gn, iI tk, iI ln, .ref aX, iI zs, iI zl, iI za, iI zf, iI ze, iI zi, .ref aR, .ref aM, .ref aG, .ref aN, .ref aQ, lI ls, lI wn, .ref aO, .ref aS, .ref aH, .ref aU, lI sc, iI zc, .ref aW, lI al, lI nr, lI dr, iI bp, lI ba, lI bb, lI hh])], [(aT, cI u 24 tb)]]) (k' := 0) (n' := 0) G (c_X2_leverAt l u pr ix hp ⟨hq_3, hq_4⟩) hY_X2_leverAt q2026 q2027 q90 q2028 (jcut 2 [0, 1] (by decide) rfl rfl) ⟨by omega, by omega, by omega, by omega, by omega, by omega⟩ (Nat.le_of_ble_eq_true rfl) dX2_tick_36 rfl (fun v_ w_ hp => ?_)
  obtain ⟨r_36, h36_1, h36_2, rfl, rfl⟩ := hp
  show jJ X u 7 [[(y0, jO 1 [iI th, iI n, iI gr, iI pw, .ref aT, iI po, iI pr, iI ix, iI (((141 * sd) + 187) % 1000), iI gn, iI tk, iI ln, .ref aX, iI zs, iI zl, iI za, iI zf, iI ze, iI zi, .ref aR, .ref aM, .ref aG, .ref aN, .ref aQ, lI ls, lI wn, .ref aO, .ref aS, .ref aH, .ref aU, lI sc, iI zc, .ref aW, lI al, lI nr, lI dr, iI bp, lI ba, lI bb, lI hh])], [(aT, cI u 24 tb)]] [(1, iI ((((141 * sd) + 187) % 1000) / 100)), (0, .ref y0)] 0 0 39 [iI r_36]
  have ht := hT (4 * r_36 + po) (by omega) (by omega)
  have e1 : tb (8 * r_36 + 2 * po) = tB tb (4 * r_36 + po) := congrArg tb (by omega)
  have e2 : tb (8 * r_36 + 2 * po + 1) = tF tb (4 * r_36 + po) := congrArg tb (by omega)
  refine j_istore_n G [(2, iI r_36), (1, iI ((((141 * sd) + 187) % 1000) / 100)), (0, .ref y0)] rfl (by decide) dX2_tick_39 ?_
  have L66 : ∀ (z : Int), ((z = 1 ∧ (((141 * sd + 187) % 1000) / 100) < tB tb (4 * r_36 + po)) ∨ (z = 0 ∧ ¬ (((141 * sd + 187) % 1000) / 100) < tB tb (4 * r_36 + po))) → jJ X u 7 [[(y0, jO 1 [iI th, iI n, iI gr, iI pw, .ref aT, iI po, iI pr, iI ix, iI (((141 * sd) + 187) % 1000), iI gn, iI tk, iI ln, .ref aX, iI zs, iI zl, iI za, iI zf, iI ze, iI zi, .ref aR, .ref aM, .ref aG, .ref aN, .ref aQ, lI ls, lI wn, .ref aO, .ref aS, .ref aH, .ref aU, lI sc, iI zc, .ref aW, lI al, lI nr, lI dr, iI bp, lI ba, lI bb, lI hh])], [(aT, cI u 24 tb)]] [(0, .ref y0), (1, iI (((141 * sd + 187) % 1000) / 100)), (2, iI r_36), (3, iI z)] 0 0 66 [] := by
    intro z g1
    have L102 : ∀ (o : Int), ((o = 1 ∧ z = 0 ∧ 10 - tF tb (4 * r_36 + po) ≤ (((141 * sd + 187) % 1000) / 100)) ∨ (o = 0 ∧ ¬ (z = 0 ∧ 10 - tF tb (4 * r_36 + po) ≤ (((141 * sd + 187) % 1000) / 100)))) → jJ X u 7 [[(y0, jO 1 [iI th, iI n, iI gr, iI pw, .ref aT, iI po, iI pr, iI ix, iI (((141 * sd) + 187) % 1000), iI gn, iI tk, iI ln, .ref aX, iI zs, iI zl, iI za, iI zf, iI ze, iI zi, .ref aR, .ref aM, .ref aG, .ref aN, .ref aQ, lI ls, lI wn, .ref aO, .ref aS, .ref aH, .ref aU, lI sc, iI zc, .ref aW, lI al, lI nr, lI dr, iI bp, lI ba, lI bb, lI hh])], [(aT, cI u 24 tb)]] [(0, .ref y0), (1, iI (((141 * sd + 187) % 1000) / 100)), (2, iI r_36), (3, iI z), (4, iI o)] 0 0 102 [] := by
      intro o g2
      have L136 : ∀ (h : Int), ((h = 1 ∧ (sBit gr r_36 = 0 ∨ (z = 1 ∧ sBit pw po = 1))) ∨ (h = 0 ∧ ¬ (sBit gr r_36 = 0 ∨ (z = 1 ∧ sBit pw po = 1)))) → jJ X u 7 [[(y0, jO 1 [iI th, iI n, iI gr, iI pw, .ref aT, iI po, iI pr, iI ix, iI (((141 * sd) + 187) % 1000), iI gn, iI tk, iI ln, .ref aX, iI zs, iI zl, iI za, iI zf, iI ze, iI zi, .ref aR, .ref aM, .ref aG, .ref aN, .ref aQ, lI ls, lI wn, .ref aO, .ref aS, .ref aH, .ref aU, lI sc, iI zc, .ref aW, lI al, lI nr, lI dr, iI bp, lI ba, lI bb, lI hh])], [(aT, cI u 24 tb)]] [(0, .ref y0), (2, iI r_36), (3, iI z), (4, iI o), (5, iI h)] 0 0 136 [] := by
        intro h g3
        have L165 : ∀ (mv : Int), mv = sMove gr pw (tB tb) (tF tb) r_36 po (((141 * sd + 187) % 1000) / 100) → (-1 ≤ mv ∧ mv ≤ 1) → jJ X u 7 [[(y0, jO 1 [iI th, iI n, iI gr, iI pw, .ref aT, iI po, iI pr, iI ix, iI (((141 * sd) + 187) % 1000), iI gn, iI tk, iI ln, .ref aX, iI zs, iI zl, iI za, iI zf, iI ze, iI zi, .ref aR, .ref aM, .ref aG, .ref aN, .ref aQ, lI ls, lI wn, .ref aO, .ref aS, .ref aH, .ref aU, lI sc, iI zc, .ref aW, lI al, lI nr, lI dr, iI bp, lI ba, lI bb, lI hh])], [(aT, cI u 24 tb)]] [(0, .ref y0), (6, iI mv)] 0 0 165 [] := by
          intro mv g4 g5
          refine j_aload_n G 0 rfl dX2_tick_165 ?_
          refine j_aload_n G 0 rfl dX2_tick_166 ?_
          refine j_aload_n G 0 rfl dX2_tick_167 ?_
          refine j_get G FX2 (jAt_1 0 rfl) 5 (by decide) q1849 rfl dX2_tick_168 ?_
          refine j_iload G 1 rfl dX2_tick_171 ?_
          refine j_callV (wr := [[(aT, cI u 24 tb)]]) (k' := 0) (n' := 0) G FX2 (c_X2_moved l u y0 aT aX aR aM aG aN aQ aO aS aH aU aW th n gr pw po pr ix (((141 * sd) + 187) % 1000) gn tk ln zs zl za zf ze zi zc bp ls wn sc al nr dr ba bb hh po mv hn (by omega) (by omega)) (jAt_1 0 rfl) ⟨rfl, hY_X2_moved⟩ q2036 q2038 qs49 q90 q2039 (jcut 2 [0, 1] (by decide) rfl rfl) ⟨by omega, by omega, by omega, by omega, by omega, by omega⟩ (Nat.le_of_ble_eq_true rfl) dX2_tick_173 rfl (fun v_ w_ hp => ?_)
          obtain ⟨r_173, h173_1, h173_2, rfl, rfl⟩ := hp
          show jJ X u 7 [[(y0, jO 1 [iI th, iI n, iI gr, iI pw, .ref aT, iI po, iI pr, iI ix, iI (((141 * sd) + 187) % 1000), iI gn, iI tk, iI ln, .ref aX, iI zs, iI zl, iI za, iI zf, iI ze, iI zi, .ref aR, .ref aM, .ref aG, .ref aN, .ref aQ, lI ls, lI wn, .ref aO, .ref aS, .ref aH, .ref aU, lI sc, iI zc, .ref aW, lI al, lI nr, lI dr, iI bp, lI ba, lI bb, lI hh])], [(aT, cI u 24 tb)]] [(0, .ref y0), (6, iI mv)] 0 0 176 [iI r_173, .ref y0]
          refine j_put (ws' := [[(y0, jO 1 [iI th, iI n, iI gr, iI pw, .ref aT, iI r_173, iI pr, iI ix, iI (((141 * sd) + 187) % 1000), iI gn, iI tk, iI ln, .ref aX, iI zs, iI zl, iI za, iI zf, iI ze, iI zi, .ref aR, .ref aM, .ref aG, .ref aN, .ref aQ, lI ls, lI wn, .ref aO, .ref aS, .ref aH, .ref aU, lI sc, iI zc, .ref aW, lI al, lI nr, lI dr, iI bp, lI ba, lI bb, lI hh])], [(aT, cI u 24 tb)]]) G FX2 (jAt_1 0 rfl) 5 (by decide) q1849 rfl rfl rfl (Nat.le_of_ble_eq_true rfl) dX2_tick_176 rfl ?_
          refine j_aload_n G 0 rfl dX2_tick_179 ?_
          refine j_aload_n G 0 rfl dX2_tick_180 ?_
          refine j_get G FX2 (jAt_1 0 rfl) 7 (by decide) q1851 rfl dX2_tick_181 ?_
          refine j_iconst G dX2_tick_184 ?_
          refine j_iadd G dX2_tick_185 ?_
          refine j_aload_n G 0 rfl dX2_tick_186 ?_
          refine j_get G FX2 (jAt_1 0 rfl) 6 (by decide) q1850 rfl dX2_tick_187 ?_
          refine j_callS (wr := [[(y0, jO 1 [iI th, iI n, iI gr, iI pw, .ref aT, iI r_173, iI pr, iI ix, iI (((141 * sd) + 187) % 1000), iI gn, iI tk, iI ln, .ref aX, iI zs, iI zl, iI za, iI zf, iI ze, iI zi, .ref aR, .ref aM, .ref aG, .ref aN, .ref aQ, lI ls, lI wn, .ref aO, .ref aS, .ref aH, .ref aU, lI sc, iI zc, .ref aW, lI al, lI nr, lI dr, iI bp, lI ba, lI bb, lI hh])], [(aT, cI u 24 tb)]]) (k' := 0) (n' := 0) G (c_X2_size l u pr (by unfold iR at *; omega)) hY_X2_size q2029 q2030 q90 q2031 (jcut 2 [0, 1] (by decide) rfl rfl) ⟨by omega, by omega, by omega, by omega, by omega, by omega⟩ (Nat.le_of_ble_eq_true rfl) dX2_tick_190 rfl (fun v_ w_ hp => ?_)
          obtain ⟨r_190, h190_1, h190_2, rfl, rfl⟩ := hp
          show jJ X u 7 [[(y0, jO 1 [iI th, iI n, iI gr, iI pw, .ref aT, iI r_173, iI pr, iI ix, iI (((141 * sd) + 187) % 1000), iI gn, iI tk, iI ln, .ref aX, iI zs, iI zl, iI za, iI zf, iI ze, iI zi, .ref aR, .ref aM, .ref aG, .ref aN, .ref aQ, lI ls, lI wn, .ref aO, .ref aS, .ref aH, .ref aU, lI sc, iI zc, .ref aW, lI al, lI nr, lI dr, iI bp, lI ba, lI bb, lI hh])], [(aT, cI u 24 tb)]] [(0, .ref y0), (6, iI mv)] 0 0 193 [iI r_190, iI (ix + 1), .ref y0]
          refine j_iremN G (by (try unfold iR at *); omega) (by (try unfold iR at *); omega) dX2_tick_193 ?_
          refine j_put (ws' := [[(y0, jO 1 [iI th, iI n, iI gr, iI pw, .ref aT, iI r_173, iI pr, iI ((ix + 1) % r_190), iI (((141 * sd) + 187) % 1000), iI gn, iI tk, iI ln, .ref aX, iI zs, iI zl, iI za, iI zf, iI ze, iI zi, .ref aR, .ref aM, .ref aG, .ref aN, .ref aQ, lI ls, lI wn, .ref aO, .ref aS, .ref aH, .ref aU, lI sc, iI zc, .ref aW, lI al, lI nr, lI dr, iI bp, lI ba, lI bb, lI hh])], [(aT, cI u 24 tb)]]) G FX2 (jAt_1 0 rfl) 7 (by decide) q1851 rfl rfl rfl (Nat.le_of_ble_eq_true rfl) dX2_tick_194 rfl ?_
          refine j_iload G 1 rfl dX2_tick_197 ?_
          have hfin : (r_173, ((ix + 1) % r_190 : Int), ((141 * sd + 187) % 1000 : Int)) = tNx (n, gr, pw, pr, tB tb, tF tb) (po, ix, sd) := by
            rw [h173_1, h190_1, g4, h36_1]; rfl
          exact j_iret G E ⟨r_173, ((ix + 1) % r_190), (((141 * sd) + 187) % 1000), mv, hfin, (by rw [g4, h36_1]; rfl), (by rw [hfin]; exact wQ_nx ⟨hn, hg, hw, hp, hT⟩ hq), rfl, rfl⟩ ⟨by omega, by omega⟩ dX2_tick_199
        refine j_iload G 4 rfl dX2_tick_136 ?_
        refine j_if_eq 145 G (by unfold iR at *; omega) dX2_tick_138 (by decide) (fun c_138 => ?_) (fun c_138 => ?_)
        · skip
          refine j_iload_n G 2 rfl dX2_tick_145 ?_
          refine j_if_eq 153 G (by unfold iR at *; omega) dX2_tick_146 (by decide) (fun c_146 => ?_) (fun c_146 => ?_)
          · skip
            refine j_iload G 3 rfl dX2_tick_153 ?_
            refine j_if_eq 162 G (by unfold iR at *; omega) dX2_tick_155 (by decide) (fun c_155 => ?_) (fun c_155 => ?_)
            · skip
              refine j_iconst G dX2_tick_162 ?_
              refine j_istore G [(6, iI 0), (0, .ref y0), (2, iI r_36), (3, iI z), (4, iI o), (5, iI h)] rfl (by decide) dX2_tick_163 ?_
              refine j_lv [1, 0] rfl ?_
              exact L165 0 (by have hb3 := sBit_01 gr r_36; have hb4 := sBit_01 pw po; unfold sMove; (repeat' split) <;> omega) (by (try unfold iR at *); omega)
            · skip
              refine j_iconst G dX2_tick_158 ?_
              refine j_goto 163 G dX2_tick_159 (by decide) ?_
              refine j_istore G [(6, iI 1), (0, .ref y0), (2, iI r_36), (3, iI z), (4, iI o), (5, iI h)] rfl (by decide) dX2_tick_163 ?_
              refine j_lv [1, 0] rfl ?_
              exact L165 1 (by have hb3 := sBit_01 gr r_36; have hb4 := sBit_01 pw po; unfold sMove; (repeat' split) <;> omega) (by (try unfold iR at *); omega)
          · skip
            refine j_iconst G dX2_tick_149 ?_
            refine j_goto 163 G dX2_tick_150 (by decide) ?_
            refine j_istore G [(6, iI (-1)), (0, .ref y0), (2, iI r_36), (3, iI z), (4, iI o), (5, iI h)] rfl (by decide) dX2_tick_163 ?_
            refine j_lv [1, 0] rfl ?_
            exact L165 (-1) (by have hb3 := sBit_01 gr r_36; have hb4 := sBit_01 pw po; unfold sMove; (repeat' split) <;> omega) (by (try unfold iR at *); omega)
        · skip
          refine j_iconst G dX2_tick_141 ?_
          refine j_goto 163 G dX2_tick_142 (by decide) ?_
          refine j_istore G [(6, iI 0), (0, .ref y0), (2, iI r_36), (3, iI z), (4, iI o), (5, iI h)] rfl (by decide) dX2_tick_163 ?_
          refine j_lv [1, 0] rfl ?_
          exact L165 0 (by have hb3 := sBit_01 gr r_36; have hb4 := sBit_01 pw po; unfold sMove; (repeat' split) <;> omega) (by (try unfold iR at *); omega)
      refine j_aload_n G 0 rfl dX2_tick_102 ?_
      refine j_iload_n G 2 rfl dX2_tick_103 ?_
      refine j_callV (wr := [[(aT, cI u 24 tb)]]) (k' := 0) (n' := 0) G FX2 (c_X2_isIn l u y0 aT aX aR aM aG aN aQ aO aS aH aU aW th n gr pw po pr ix (((141 * sd) + 187) % 1000) gn tk ln zs zl za zf ze zi zc bp ls wn sc al nr dr ba bb hh r_36 (by (try unfold iR at *); omega) hg) (jAt_1 0 rfl) ⟨rfl, hY_X2_isIn⟩ q2032 q2034 qs48 q90 q2035 (jcut 2 [0, 1] (by decide) rfl rfl) ⟨by omega, by omega, by omega, by omega, by omega, by omega⟩ (Nat.le_of_ble_eq_true rfl) dX2_tick_104 rfl (fun v_ w_ hp => ?_)
      obtain ⟨r_104, h104_1, h104_2, rfl, rfl⟩ := hp
      show jJ X u 7 [[(y0, jO 1 [iI th, iI n, iI gr, iI pw, .ref aT, iI po, iI pr, iI ix, iI (((141 * sd) + 187) % 1000), iI gn, iI tk, iI ln, .ref aX, iI zs, iI zl, iI za, iI zf, iI ze, iI zi, .ref aR, .ref aM, .ref aG, .ref aN, .ref aQ, lI ls, lI wn, .ref aO, .ref aS, .ref aH, .ref aU, lI sc, iI zc, .ref aW, lI al, lI nr, lI dr, iI bp, lI ba, lI bb, lI hh])], [(aT, cI u 24 tb)]] [(0, .ref y0), (1, iI (((141 * sd + 187) % 1000) / 100)), (2, iI r_36), (3, iI z), (4, iI o)] 0 0 107 [iI r_104]
      refine j_if_eq 129 G (by unfold iR at *; omega) dX2_tick_107 (by decide) (fun c_107 => ?_) (fun c_107 => ?_)
      · skip
        refine j_iconst G dX2_tick_129 ?_
        refine j_goto 134 G dX2_tick_130 (by decide) ?_
        refine j_istore G [(5, iI 1), (0, .ref y0), (1, iI (((141 * sd + 187) % 1000) / 100)), (2, iI r_36), (3, iI z), (4, iI o)] rfl (by decide) dX2_tick_134 ?_
        refine j_lv [1, 3, 4, 5, 0] rfl ?_
        exact L136 1 (by (try unfold iR at *); omega)
      · skip
        refine j_iload_n G 3 rfl dX2_tick_110 ?_
        refine j_if_eq 133 G (by unfold iR at *; omega) dX2_tick_111 (by decide) (fun c_111 => ?_) (fun c_111 => ?_)
        · skip
          refine j_iconst G dX2_tick_133 ?_
          refine j_istore G [(5, iI 0), (0, .ref y0), (1, iI (((141 * sd + 187) % 1000) / 100)), (2, iI r_36), (3, iI z), (4, iI o)] rfl (by decide) dX2_tick_134 ?_
          refine j_lv [1, 3, 4, 5, 0] rfl ?_
          exact L136 0 (by (try unfold iR at *); omega)
        · skip
          refine j_aload_n G 0 rfl dX2_tick_114 ?_
          refine j_get G FX2 (jAt_1 0 rfl) 3 (by decide) q1847 rfl dX2_tick_115 ?_
          refine j_aload_n G 0 rfl dX2_tick_118 ?_
          refine j_get G FX2 (jAt_1 0 rfl) 5 (by decide) q1849 rfl dX2_tick_119 ?_
          refine j_ishr G dX2_tick_122 ?_
          refine j_iconst G dX2_tick_123 ?_
          have hb := sBit_eq (s := pw) (i := po) (by omega) (by omega)
          have hb2 := sBit_01 pw po
          refine j_iand G dX2_tick_124 ?_
          refine j_eq (st' := [iI (sBit pw po)]) (by rw [hb]) ?_
          refine j_iconst G dX2_tick_125 ?_
          refine j_icmp_ne 133 G (by unfold iR at *; omega) (by unfold iR; omega) dX2_tick_126 (by decide) (fun c_126 => ?_) (fun c_126 => ?_)
          · skip
            refine j_iconst G dX2_tick_133 ?_
            refine j_istore G [(5, iI 0), (0, .ref y0), (1, iI (((141 * sd + 187) % 1000) / 100)), (2, iI r_36), (3, iI z), (4, iI o)] rfl (by decide) dX2_tick_134 ?_
            refine j_lv [1, 3, 4, 5, 0] rfl ?_
            exact L136 0 (by (try unfold iR at *); omega)
          · skip
            refine j_iconst G dX2_tick_129 ?_
            refine j_goto 134 G dX2_tick_130 (by decide) ?_
            refine j_istore G [(5, iI 1), (0, .ref y0), (1, iI (((141 * sd + 187) % 1000) / 100)), (2, iI r_36), (3, iI z), (4, iI o)] rfl (by decide) dX2_tick_134 ?_
            refine j_lv [1, 3, 4, 5, 0] rfl ?_
            exact L136 1 (by (try unfold iR at *); omega)
    refine j_iload_n G 3 rfl dX2_tick_66 ?_
    refine j_if_ne 99 G (by unfold iR at *; omega) dX2_tick_67 (by decide) (fun c_67 => ?_) (fun c_67 => ?_)
    · skip
      refine j_iconst G dX2_tick_99 ?_
      refine j_istore G [(4, iI 0), (0, .ref y0), (1, iI (((141 * sd + 187) % 1000) / 100)), (2, iI r_36), (3, iI z)] rfl (by decide) dX2_tick_100 ?_
      refine j_lv [1, 2, 3, 4, 0] rfl ?_
      exact L102 0 (by (try unfold iR at *); omega)
    · skip
      refine j_iload_n G 1 rfl dX2_tick_70 ?_
      refine j_bipush G (by decide) dX2_tick_71 ?_
      refine j_aload_n G 0 rfl dX2_tick_73 ?_
      refine j_get G FX2 (jAt_1 0 rfl) 4 (by decide) q1848 rfl dX2_tick_74 ?_
      refine j_bipush G (by decide) dX2_tick_77 ?_
      refine j_iload_n G 2 rfl dX2_tick_79 ?_
      refine j_imul G dX2_tick_80 ?_
      refine j_iconst G dX2_tick_81 ?_
      refine j_aload_n G 0 rfl dX2_tick_82 ?_
      refine j_get G FX2 (jAt_1 0 rfl) 5 (by decide) q1849 rfl dX2_tick_83 ?_
      refine j_imul G dX2_tick_86 ?_
      refine j_iadd G dX2_tick_87 ?_
      refine j_iconst G dX2_tick_88 ?_
      refine j_iadd G dX2_tick_89 ?_
      refine j_iaload G (jAt_1 1 rfl) (by (try unfold iR at *); omega) (by (try unfold iR at *); omega) (by (try unfold iR at *); omega) dX2_tick_90 ?_
      refine j_isub G dX2_tick_91 ?_
      refine j_icmp_lt 99 G (by unfold iR at *; omega) (by unfold iR at *; omega) dX2_tick_92 (by decide) (fun c_92 => ?_) (fun c_92 => ?_)
      · skip
        refine j_iconst G dX2_tick_99 ?_
        refine j_istore G [(4, iI 0), (0, .ref y0), (1, iI (((141 * sd + 187) % 1000) / 100)), (2, iI r_36), (3, iI z)] rfl (by decide) dX2_tick_100 ?_
        refine j_lv [1, 2, 3, 4, 0] rfl ?_
        exact L102 0 (by (try unfold iR at *); omega)
      · skip
        refine j_iconst G dX2_tick_95 ?_
        refine j_goto 100 G dX2_tick_96 (by decide) ?_
        refine j_istore G [(4, iI 1), (0, .ref y0), (1, iI (((141 * sd + 187) % 1000) / 100)), (2, iI r_36), (3, iI z)] rfl (by decide) dX2_tick_100 ?_
        refine j_lv [1, 2, 3, 4, 0] rfl ?_
        exact L102 1 (by (try unfold iR at *); omega)
  refine j_iload_n G 1 rfl dX2_tick_40 ?_
  refine j_aload_n G 2 rfl dX2_tick_41 ?_
  refine j_get G FX2 (jAt_1 0 rfl) 4 (by decide) q1848 rfl dX2_tick_42 ?_
  refine j_bipush G (by decide) dX2_tick_45 ?_
  refine j_iload_n G 0 rfl dX2_tick_47 ?_
  refine j_imul G dX2_tick_48 ?_
  refine j_iconst G dX2_tick_49 ?_
  refine j_aload_n G 2 rfl dX2_tick_50 ?_
  refine j_get G FX2 (jAt_1 0 rfl) 5 (by decide) q1849 rfl dX2_tick_51 ?_
  refine j_imul G dX2_tick_54 ?_
  refine j_iadd G dX2_tick_55 ?_
  refine j_iaload G (jAt_1 1 rfl) (by (try unfold iR at *); omega) (by (try unfold iR at *); omega) (by (try unfold iR at *); omega) dX2_tick_56 ?_
  refine j_icmp_ge 64 G (by unfold iR at *; omega) (by unfold iR at *; omega) dX2_tick_57 (by decide) (fun c_57 => ?_) (fun c_57 => ?_)
  · skip
    refine j_iconst G dX2_tick_64 ?_
    refine j_istore_n G [(3, iI 0), (2, iI r_36), (1, iI ((((141 * sd) + 187) % 1000) / 100)), (0, .ref y0)] rfl (by decide) dX2_tick_65 ?_
    refine j_lv [3, 2, 1, 0] rfl ?_
    exact L66 0 (by (try unfold iR at *); omega)
  · skip
    refine j_iconst G dX2_tick_60 ?_
    refine j_goto 65 G dX2_tick_61 (by decide) ?_
    refine j_istore_n G [(3, iI 1), (2, iI r_36), (1, iI ((((141 * sd) + 187) % 1000) / 100)), (0, .ref y0)] rfl (by decide) dX2_tick_65 ?_
    refine j_lv [3, 2, 1, 0] rfl ?_
    exact L66 1 (by (try unfold iR at *); omega)
theorem hY_X2_run : jY yX2_run 1 := ⟨by decide +kernel, by decide +kernel, by decide +kernel⟩
set_option maxHeartbeats 4000000 in
set_option maxRecDepth 100000 in
theorem c_X2_run (l : Launch) (u : jU) (y0 aT aX aR aM aG aN aQ aO aS aH aU aW : Nat) (th n gr pw po pr ix sd gn tk ln zs zl za zf ze zi zc bp ls wn sc al nr dr ba bb hh : Int) (tb : Int → Int) (t : Int) (hRt : iR t) (hn : 2 ≤ n ∧ n ≤ 4) (hg : 0 ≤ gr ∧ gr ≤ 7) (hw : 0 ≤ pw ∧ pw ≤ 15) (hp : sProg pr = 1) (hT : wT (tB tb) (tF tb)) (hq : wQ (n, gr, pw, pr, tB tb, tF tb) (po, ix, sd)) (htk : 0 ≤ tk ∧ tk ≤ 1000000) : jC l u yX2_run cX2_run 3 (some .int) 3 71 0 0 [.ref y0, iI t] [[(y0, jO 1 [iI th, iI n, iI gr, iI pw, .ref aT, iI po, iI pr, iI ix, iI sd, iI gn, iI tk, iI ln, .ref aX, iI zs, iI zl, iI za, iI zf, iI ze, iI zi, .ref aR, .ref aM, .ref aG, .ref aN, .ref aQ, lI ls, lI wn, .ref aO, .ref aS, .ref aH, .ref aU, lI sc, iI zc, .ref aW, lI al, lI nr, lI dr, iI bp, lI ba, lI bb, lI hh])], [(aT, cI u 24 tb)]] (fun v_ w_ => (∃ (a2 b2 d2 s2 : Int), (1 ≤ t ∧ t ≤ 500) ∧ tk + t ≤ 1000000 ∧ (a2, b2, d2) = tIt (n, gr, pw, pr, tB tb, tF tb) t.toNat (po, ix, sd) ∧ s2 = tSum (n, gr, pw, pr, tB tb, tF tb) t.toNat (po, ix, sd) ∧ v_ = some (iI (gn + s2)) ∧ w_ = [[(y0, jO 1 [iI 0, iI n, iI gr, iI pw, .ref aT, iI a2, iI pr, iI b2, iI d2, iI (gn + s2), iI (tk + t), iI ln, .ref aX, iI zs, iI zl, iI za, iI zf, iI ze, iI zi, .ref aR, .ref aM, .ref aG, .ref aN, .ref aQ, lI ls, lI wn, .ref aO, .ref aS, .ref aH, .ref aU, lI sc, iI zc, .ref aW, lI al, lI nr, lI dr, iI bp, lI ba, lI bb, lI hh])], [(aT, cI u 24 tb)]]) ∨ ((¬ (1 ≤ t ∧ t ≤ 500)) ∧ v_ = some (iI 0) ∧ w_ = [[(y0, jO 1 [iI 1, iI n, iI gr, iI pw, .ref aT, iI po, iI pr, iI ix, iI sd, iI gn, iI tk, iI ln, .ref aX, iI zs, iI zl, iI za, iI zf, iI ze, iI zi, .ref aR, .ref aM, .ref aG, .ref aN, .ref aQ, lI ls, lI wn, .ref aO, .ref aS, .ref aH, .ref aU, lI sc, iI zc, .ref aW, lI al, lI nr, lI dr, iI bp, lI ba, lI bb, lI hh])], [(aT, cI u 24 tb)]]) ∨ ((1 ≤ t ∧ t ≤ 500) ∧ ¬ (tk + t ≤ 1000000) ∧ v_ = some (iI 0) ∧ w_ = [[(y0, jO 1 [iI 2, iI n, iI gr, iI pw, .ref aT, iI po, iI pr, iI ix, iI sd, iI gn, iI tk, iI ln, .ref aX, iI zs, iI zl, iI za, iI zf, iI ze, iI zi, .ref aR, .ref aM, .ref aG, .ref aN, .ref aQ, lI ls, lI wn, .ref aO, .ref aS, .ref aH, .ref aU, lI sc, iI zc, .ref aW, lI al, lI nr, lI dr, iI bp, lI ba, lI bb, lI hh])], [(aT, cI u 24 tb)]])) := by
  refine jC.of "FlashRatchetModel" (by decide +kernel) rfl (Nat.le_of_ble_eq_true rfl) [(0, .ref y0), (1, iI t)] rfl (fun X G E I => ?_)
  refine j_aload_n G 0 rfl dX2_run_0 ?_
  refine j_iload_n G 1 rfl dX2_run_1 ?_
  refine j_iconst G dX2_run_2 ?_
  refine j_sipush G (by decide) dX2_run_3 ?_
  refine j_callS (wr := [[(y0, jO 1 [iI th, iI n, iI gr, iI pw, .ref aT, iI po, iI pr, iI ix, iI sd, iI gn, iI tk, iI ln, .ref aX, iI zs, iI zl, iI za, iI zf, iI ze, iI zi, .ref aR, .ref aM, .ref aG, .ref aN, .ref aQ, lI ls, lI wn, .ref aO, .ref aS, .ref aH, .ref aU, lI sc, iI zc, .ref aW, lI al, lI nr, lI dr, iI bp, lI ba, lI bb, lI hh])], [(aT, cI u 24 tb)]]) (k' := 0) (n' := 0) G (c_X2_within l u t 1 500 hRt (by unfold iR; omega) (by unfold iR; omega)) hY_X2_within q1973 q1974 q90 q1975 (jcut 2 [0, 1] (by decide) rfl rfl) ⟨by omega, by omega, by omega, by omega, by omega, by omega⟩ (Nat.le_of_ble_eq_true rfl) dX2_run_6 rfl (fun v_ w_ hp => ?_)
  obtain ⟨r_6, h6_1, rfl, rfl⟩ := hp
  show jJ X u 3 [[(y0, jO 1 [iI th, iI n, iI gr, iI pw, .ref aT, iI po, iI pr, iI ix, iI sd, iI gn, iI tk, iI ln, .ref aX, iI zs, iI zl, iI za, iI zf, iI ze, iI zi, .ref aR, .ref aM, .ref aG, .ref aN, .ref aQ, lI ls, lI wn, .ref aO, .ref aS, .ref aH, .ref aU, lI sc, iI zc, .ref aW, lI al, lI nr, lI dr, iI bp, lI ba, lI bb, lI hh])], [(aT, cI u 24 tb)]] [(0, .ref y0), (1, iI t)] 0 0 9 [iI r_6, .ref y0]
  refine j_if_ne 16 G (by unfold iR at *; omega) dX2_run_9 (by decide) (fun c_9 => ?_) (fun c_9 => ?_)
  · skip
    refine j_aload_n G 0 rfl dX2_run_16 ?_
    refine j_get G FX2 (jAt_1 0 rfl) 10 (by decide) q1854 rfl dX2_run_17 ?_
    refine j_iload_n G 1 rfl dX2_run_20 ?_
    refine j_iadd G dX2_run_21 ?_
    refine j_ldc 1000000 G q2021 (by decide) dX2_run_22 ?_
    refine j_icmp_le 31 G (by unfold iR at *; omega) (by unfold iR; omega) dX2_run_24 (by decide) (fun c_24 => ?_) (fun c_24 => ?_)
    · skip
      refine j_iconst G dX2_run_31 ?_
      refine j_put (ws' := [[(y0, jO 1 [iI 0, iI n, iI gr, iI pw, .ref aT, iI po, iI pr, iI ix, iI sd, iI gn, iI tk, iI ln, .ref aX, iI zs, iI zl, iI za, iI zf, iI ze, iI zi, .ref aR, .ref aM, .ref aG, .ref aN, .ref aQ, lI ls, lI wn, .ref aO, .ref aS, .ref aH, .ref aU, lI sc, iI zc, .ref aW, lI al, lI nr, lI dr, iI bp, lI ba, lI bb, lI hh])], [(aT, cI u 24 tb)]]) G FX2 (jAt_1 0 rfl) 0 (by decide) q1844 rfl rfl rfl (Nat.le_of_ble_eq_true rfl) dX2_run_32 rfl ?_
      refine j_aload_n G 0 rfl dX2_run_35 ?_
      refine j_get G FX2 (jAt_1 0 rfl) 0 (by decide) q1844 rfl dX2_run_36 ?_
      refine j_if_le 44 G (by unfold iR; omega) dX2_run_39 (by decide) (fun c_39 => ?_) (fun c_39 => ?_)
      · skip
        refine j_iconst G dX2_run_44 ?_
        refine j_istore_n G [(2, iI 0), (0, .ref y0), (1, iI t)] rfl (by decide) dX2_run_45 ?_
        have L46 : ∀ (m : Nat) (j : Nat) (a2 : Int) (b2 : Int) (d2 : Int) (s2 : Int) (k : Int) (gq : Int), t.toNat - j < m → k = j → (a2, b2, d2) = tIt (n, gr, pw, pr, tB tb, tF tb) j (po, ix, sd) → s2 = tSum (n, gr, pw, pr, tB tb, tF tb) j (po, ix, sd) → j ≤ t.toNat → gq = gn + s2 → jJ X u 3 [[(y0, jO 1 [iI 0, iI n, iI gr, iI pw, .ref aT, iI a2, iI pr, iI b2, iI d2, iI gq, iI tk, iI ln, .ref aX, iI zs, iI zl, iI za, iI zf, iI ze, iI zi, .ref aR, .ref aM, .ref aG, .ref aN, .ref aQ, lI ls, lI wn, .ref aO, .ref aS, .ref aH, .ref aU, lI sc, iI zc, .ref aW, lI al, lI nr, lI dr, iI bp, lI ba, lI bb, lI hh])], [(aT, cI u 24 tb)]] [(0, .ref y0), (1, iI t), (2, iI k)] 0 0 46 [] := by
          intro m
          induction m with
          | zero =>
            intro j a2 b2 d2 s2 k gq g1 g2 g3 g4 g5 g6
            exfalso
            omega
          | succ m ih_L46 =>
            intro j a2 b2 d2 s2 k gq g1 g2 g3 g4 g5 g6
            have hq2 : wQ (n, gr, pw, pr, tB tb, tF tb) (a2, b2, d2) := by rw [g3]; exact wQ_it ⟨hn, hg, hw, hp, hT⟩ hq j
            refine j_iload_n G 2 rfl dX2_run_46 ?_
            refine j_iload_n G 1 rfl dX2_run_47 ?_
            refine j_icmp_ge 70 G (by unfold iR at *; omega) hRt dX2_run_48 (by decide) (fun c_48 => ?_) (fun c_48 => ?_)
            · skip
              have hj : j = t.toNat := by omega
              subst hj
              refine j_aload_n G 0 rfl dX2_run_70 ?_
              refine j_dup G rfl dX2_run_71 ?_
              refine j_get G FX2 (jAt_1 0 rfl) 10 (by decide) q1854 rfl dX2_run_72 ?_
              refine j_iload_n G 1 rfl dX2_run_75 ?_
              refine j_iadd G dX2_run_76 ?_
              refine j_put (ws' := [[(y0, jO 1 [iI 0, iI n, iI gr, iI pw, .ref aT, iI a2, iI pr, iI b2, iI d2, iI gq, iI (tk + t), iI ln, .ref aX, iI zs, iI zl, iI za, iI zf, iI ze, iI zi, .ref aR, .ref aM, .ref aG, .ref aN, .ref aQ, lI ls, lI wn, .ref aO, .ref aS, .ref aH, .ref aU, lI sc, iI zc, .ref aW, lI al, lI nr, lI dr, iI bp, lI ba, lI bb, lI hh])], [(aT, cI u 24 tb)]]) G FX2 (jAt_1 0 rfl) 10 (by decide) q1854 rfl rfl rfl (Nat.le_of_ble_eq_true rfl) dX2_run_77 rfl ?_
              refine j_aload_n G 0 rfl dX2_run_80 ?_
              refine j_get G FX2 (jAt_1 0 rfl) 9 (by decide) q1853 rfl dX2_run_81 ?_
              exact j_iret G E (Or.inl ⟨a2, b2, d2, s2, (by omega), (by omega), g3, g4, (by rw [g6]), (by rw [g6])⟩) ⟨by omega, by omega⟩ dX2_run_84
            · skip
              refine j_aload_n G 0 rfl dX2_run_51 ?_
              refine j_dup G rfl dX2_run_52 ?_
              refine j_get G FX2 (jAt_1 0 rfl) 9 (by decide) q1853 rfl dX2_run_53 ?_
              refine j_aload_n G 0 rfl dX2_run_56 ?_
              refine j_callV (wr := []) (k' := 0) (n' := 0) G FX2 (c_X2_tick l u y0 aT aX aR aM aG aN aQ aO aS aH aU aW 0 n gr pw a2 pr b2 d2 gq tk ln zs zl za zf ze zi zc bp ls wn sc al nr dr ba bb hh tb hn hg hw hp hT hq2) (jAt_1 0 rfl) ⟨rfl, hY_X2_tick⟩ q2022 q2024 qs47 q90 q2025 (jcut 2 [0, 1] (by decide) rfl rfl) ⟨by omega, by omega, by omega, by omega, by omega, by omega⟩ (Nat.le_of_ble_eq_true rfl) dX2_run_57 rfl (fun v_ w_ hp => ?_)
              obtain ⟨a2_57, b2_57, d2_57, mv_57, h57_1, h57_2, h57_3, rfl, rfl⟩ := hp
              show jJ X u 3 [[(y0, jO 1 [iI 0, iI n, iI gr, iI pw, .ref aT, iI a2_57, iI pr, iI b2_57, iI d2_57, iI gq, iI tk, iI ln, .ref aX, iI zs, iI zl, iI za, iI zf, iI ze, iI zi, .ref aR, .ref aM, .ref aG, .ref aN, .ref aQ, lI ls, lI wn, .ref aO, .ref aS, .ref aH, .ref aU, lI sc, iI zc, .ref aW, lI al, lI nr, lI dr, iI bp, lI ba, lI bb, lI hh])], [(aT, cI u 24 tb)]] [(0, .ref y0), (1, iI t), (2, iI k)] 0 0 60 [iI mv_57, iI gq, .ref y0]
              refine j_iadd G dX2_run_60 ?_
              refine j_put (ws' := [[(y0, jO 1 [iI 0, iI n, iI gr, iI pw, .ref aT, iI a2_57, iI pr, iI b2_57, iI d2_57, iI (gq + mv_57), iI tk, iI ln, .ref aX, iI zs, iI zl, iI za, iI zf, iI ze, iI zi, .ref aR, .ref aM, .ref aG, .ref aN, .ref aQ, lI ls, lI wn, .ref aO, .ref aS, .ref aH, .ref aU, lI sc, iI zc, .ref aW, lI al, lI nr, lI dr, iI bp, lI ba, lI bb, lI hh])], [(aT, cI u 24 tb)]]) G FX2 (jAt_1 0 rfl) 9 (by decide) q1853 rfl rfl rfl (Nat.le_of_ble_eq_true rfl) dX2_run_61 rfl ?_
              refine j_iinc G 2 rfl [(2, iI (k + 1)), (0, .ref y0), (1, iI t)] rfl (by decide) dX2_run_64 ?_
              refine j_goto 46 G dX2_run_67 (by decide) ?_
              refine j_lv [1, 2, 0] rfl ?_
              exact ih_L46 (j + 1) a2_57 b2_57 d2_57 (s2 + mv_57) (k + 1) (gq + mv_57) (by (try unfold iR at *); omega) (by (try unfold iR at *); omega) (by rw [h57_1, g3]; rfl) (by rw [h57_2, g4, g3]; rfl) (by (try unfold iR at *); omega) (by (try unfold iR at *); omega)
        refine j_lv [1, 2, 0] rfl ?_
        exact L46 (t.toNat + 1) 0 po ix sd 0 0 gn (by (try unfold iR at *); omega) rfl rfl rfl (by (try unfold iR at *); omega) (by (try unfold iR at *); omega)
      · exact absurd c_39 (by decide)
    · skip
      refine j_iconst G dX2_run_27 ?_
      refine j_goto 32 G dX2_run_28 (by decide) ?_
      refine j_put (ws' := [[(y0, jO 1 [iI 2, iI n, iI gr, iI pw, .ref aT, iI po, iI pr, iI ix, iI sd, iI gn, iI tk, iI ln, .ref aX, iI zs, iI zl, iI za, iI zf, iI ze, iI zi, .ref aR, .ref aM, .ref aG, .ref aN, .ref aQ, lI ls, lI wn, .ref aO, .ref aS, .ref aH, .ref aU, lI sc, iI zc, .ref aW, lI al, lI nr, lI dr, iI bp, lI ba, lI bb, lI hh])], [(aT, cI u 24 tb)]]) G FX2 (jAt_1 0 rfl) 0 (by decide) q1844 rfl rfl rfl (Nat.le_of_ble_eq_true rfl) dX2_run_32 rfl ?_
      refine j_aload_n G 0 rfl dX2_run_35 ?_
      refine j_get G FX2 (jAt_1 0 rfl) 0 (by decide) q1844 rfl dX2_run_36 ?_
      refine j_if_le 44 G (by unfold iR; omega) dX2_run_39 (by decide) (fun c_39 => ?_) (fun c_39 => ?_)
      · exact absurd c_39 (by decide)
      · skip
        refine j_iconst G dX2_run_42 ?_
        exact j_iret G E (Or.inr (Or.inr ⟨(by omega), (by omega), rfl, rfl⟩)) ⟨by omega, by omega⟩ dX2_run_43
  · skip
    refine j_iconst G dX2_run_12 ?_
    refine j_goto 32 G dX2_run_13 (by decide) ?_
    refine j_put (ws' := [[(y0, jO 1 [iI 1, iI n, iI gr, iI pw, .ref aT, iI po, iI pr, iI ix, iI sd, iI gn, iI tk, iI ln, .ref aX, iI zs, iI zl, iI za, iI zf, iI ze, iI zi, .ref aR, .ref aM, .ref aG, .ref aN, .ref aQ, lI ls, lI wn, .ref aO, .ref aS, .ref aH, .ref aU, lI sc, iI zc, .ref aW, lI al, lI nr, lI dr, iI bp, lI ba, lI bb, lI hh])], [(aT, cI u 24 tb)]]) G FX2 (jAt_1 0 rfl) 0 (by decide) q1844 rfl rfl rfl (Nat.le_of_ble_eq_true rfl) dX2_run_32 rfl ?_
    refine j_aload_n G 0 rfl dX2_run_35 ?_
    refine j_get G FX2 (jAt_1 0 rfl) 0 (by decide) q1844 rfl dX2_run_36 ?_
    refine j_if_le 44 G (by unfold iR; omega) dX2_run_39 (by decide) (fun c_39 => ?_) (fun c_39 => ?_)
    · exact absurd c_39 (by decide)
    · skip
      refine j_iconst G dX2_run_42 ?_
      exact j_iret G E (Or.inr (Or.inl ⟨(by omega), rfl, rfl⟩)) ⟨by omega, by omega⟩ dX2_run_43
