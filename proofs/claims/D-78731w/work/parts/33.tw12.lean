theorem hY_X2_averageOf : jY yX2_averageOf 2 := ⟨by decide +kernel, by decide +kernel, by decide +kernel⟩
set_option maxHeartbeats 4000000 in
set_option maxRecDepth 100000 in
theorem c_X2_averageOf (l : Launch) (u : jU) (y0 aT aX aR aM aG aN aQ aO aS aH aU aW : Nat) (th n gr pw po pr ix sd gn tk ln zs zl za zf ze zi zc bp ls wn sc al nr dr ba bb hh : Int) (tb : Int → Int) (h : Int → Int) (ut : Int → Int) (ro : Int → Int) (ga : Int → Int) (wt : Int → Int) (of w : Int) (hn : 2 ≤ n ∧ n ≤ 4) (hg : 0 ≤ gr ∧ gr ≤ 7) (hw : 0 ≤ pw ∧ pw ≤ 15) (hT : wT (tB tb) (tF tb)) (hof : sProg of = 1) (hRw : iR w) : jC l u yX2_averageOf cX2_averageOf 3 (some .long) 5 119 0 0 [.ref y0, iI of, iI w] [[(y0, jO 1 [iI th, iI n, iI gr, iI pw, .ref aT, iI po, iI pr, iI ix, iI sd, iI gn, iI tk, iI ln, .ref aX, iI zs, iI zl, iI za, iI zf, iI ze, iI zi, .ref aR, .ref aM, .ref aG, .ref aN, .ref aQ, lI ls, lI wn, .ref aO, .ref aS, .ref aH, .ref aU, lI sc, iI zc, .ref aW, lI al, lI nr, lI dr, iI bp, lI ba, lI bb, lI hh])], [(aT, cI u 24 tb)], [(aH, cJ u 4 h)], [(aU, cJ u 4 ut)], [(aO, cJ u 16 ro)], [(aS, cJ u 4 ga)], [(aW, cJ u 4 wt)]] (fun v_ w_ => ∃ (h2 ut2 ro2 ga2 wt2 : Int → Int) (sc2 al2 nr2 dr2 zc2 : Int) (r : Int), r = prt (avN (n, gr, pw, of, tB tb, tF tb)) w ∧ v_ = some (lI r) ∧ w_ = [[(y0, jO 1 [iI th, iI n, iI gr, iI pw, .ref aT, iI po, iI pr, iI ix, iI sd, iI gn, iI tk, iI ln, .ref aX, iI zs, iI zl, iI za, iI zf, iI ze, iI zi, .ref aR, .ref aM, .ref aG, .ref aN, .ref aQ, lI ls, lI wn, .ref aO, .ref aS, .ref aH, .ref aU, lI sc2, iI zc2, .ref aW, lI al2, lI nr2, lI dr2, iI bp, lI ba, lI bb, lI hh])], [(aT, cI u 24 tb)], [(aH, cJ u 4 h2)], [(aU, cJ u 4 ut2)], [(aO, cJ u 16 ro2)], [(aS, cJ u 4 ga2)], [(aW, cJ u 4 wt2)]]) := by
  refine jC.of "FlashRatchetModel" (by decide +kernel) rfl (Nat.le_of_ble_eq_true rfl) [(0, .ref y0), (1, iI of), (2, iI w)] rfl (fun X G E I => ?_)
  refine j_aload_n G 0 rfl dX2_averageOf_0 ?_
  refine j_iload_n G 1 rfl dX2_averageOf_1 ?_
  refine j_callV (wr := []) (k' := 0) (n' := 0) G FX2 (c_X2_layAverage l u y0 aT aX aR aM aG aN aQ aO aS aH aU aW th n gr pw po pr ix sd gn tk ln zs zl za zf ze zi zc bp ls wn sc al nr dr ba bb hh tb h ut ro ga wt of hn hg hw hT hof) (jAt_1 0 rfl) ⟨rfl, hY_X2_layAverage⟩ q2149 q2151 qs68 q90 q2152 (jcut 7 [0, 1, 2, 3, 4, 5, 6] (by decide) rfl rfl) ⟨by omega, by omega, by omega, by omega, by omega, by omega⟩ (Nat.le_of_ble_eq_true rfl) dX2_averageOf_2 rfl (fun v_ w_ hp => ?_)
  rcases hp with ⟨he2, ut2_2, ro2_2, ga2_2, wt2_2, al2_2, h2_1, h2_2, h2_3, rfl, rfl⟩ | ⟨he2, ut2_2, ro2_2, ga2_2, wt2_2, h2_1, rfl, rfl⟩
  · skip
    show jJ X u 3 [[(y0, jO 1 [iI th, iI n, iI gr, iI pw, .ref aT, iI po, iI pr, iI ix, iI sd, iI gn, iI tk, iI ln, .ref aX, iI zs, iI zl, iI za, iI zf, iI ze, iI zi, .ref aR, .ref aM, .ref aG, .ref aN, .ref aQ, lI ls, lI wn, .ref aO, .ref aS, .ref aH, .ref aU, lI (rSc (n, gr, pw, of, tB tb, tF tb)), iI (clC (n, gr, pw, of, tB tb, tF tb)), .ref aW, lI al2_2, lI ((avF (n, gr, pw, of, tB tb, tF tb)).1), lI ((avF (n, gr, pw, of, tB tb, tF tb)).2), iI bp, lI ba, lI bb, lI hh])], [(aT, cI u 24 tb)], [(aH, cJ u 4 he2)], [(aU, cJ u 4 ut2_2)], [(aO, cJ u 16 ro2_2)], [(aS, cJ u 4 ga2_2)], [(aW, cJ u 4 wt2_2)]] [(0, .ref y0), (1, iI of), (2, iI w)] 0 0 5 []
    refine j_iload_n G 2 rfl dX2_averageOf_5 ?_
    refine j_if_ne 16 G hRw dX2_averageOf_6 (by decide) (fun c_6 => ?_) (fun c_6 => ?_)
    · skip
      refine j_aload_n G 0 rfl dX2_averageOf_16 ?_
      refine j_get G FX2 (jAt_1 0 rfl) 35 (by decide) q1879 rfl dX2_averageOf_17 ?_
      exact j_lret G E ⟨he2, ut2_2, ro2_2, ga2_2, wt2_2, (rSc (n, gr, pw, of, tB tb, tF tb)), al2_2, ((avF (n, gr, pw, of, tB tb, tF tb)).1), ((avF (n, gr, pw, of, tB tb, tF tb)).2), (clC (n, gr, pw, of, tB tb, tF tb)), ((avF (n, gr, pw, of, tB tb, tF tb)).2), (by unfold prt avN; first | (rw [if_pos c_6, if_pos h2_1]) | (rw [if_neg c_6, if_pos h2_1]) | (rw [if_pos c_6, if_neg (by omega)]) | (rw [if_neg c_6, if_neg (by omega)])), rfl, rfl⟩ ⟨by omega, by omega⟩ dX2_averageOf_20
    · skip
      refine j_aload_n G 0 rfl dX2_averageOf_9 ?_
      refine j_get G FX2 (jAt_1 0 rfl) 34 (by decide) q1878 rfl dX2_averageOf_10 ?_
      refine j_goto 20 G dX2_averageOf_13 (by decide) ?_
      exact j_lret G E ⟨he2, ut2_2, ro2_2, ga2_2, wt2_2, (rSc (n, gr, pw, of, tB tb, tF tb)), al2_2, ((avF (n, gr, pw, of, tB tb, tF tb)).1), ((avF (n, gr, pw, of, tB tb, tF tb)).2), (clC (n, gr, pw, of, tB tb, tF tb)), ((avF (n, gr, pw, of, tB tb, tF tb)).1), (by unfold prt avN; first | (rw [if_pos c_6, if_pos h2_1]) | (rw [if_neg c_6, if_pos h2_1]) | (rw [if_pos c_6, if_neg (by omega)]) | (rw [if_neg c_6, if_neg (by omega)])), rfl, rfl⟩ ⟨by omega, by omega⟩ dX2_averageOf_20
  · skip
    show jJ X u 3 [[(y0, jO 1 [iI th, iI n, iI gr, iI pw, .ref aT, iI po, iI pr, iI ix, iI sd, iI gn, iI tk, iI ln, .ref aX, iI zs, iI zl, iI za, iI zf, iI ze, iI zi, .ref aR, .ref aM, .ref aG, .ref aN, .ref aQ, lI ls, lI wn, .ref aO, .ref aS, .ref aH, .ref aU, lI (rSc (n, gr, pw, of, tB tb, tF tb)), iI (clC (n, gr, pw, of, tB tb, tF tb)), .ref aW, lI al, lI 0, lI 0, iI bp, lI ba, lI bb, lI hh])], [(aT, cI u 24 tb)], [(aH, cJ u 4 he2)], [(aU, cJ u 4 ut2_2)], [(aO, cJ u 16 ro2_2)], [(aS, cJ u 4 ga2_2)], [(aW, cJ u 4 wt2_2)]] [(0, .ref y0), (1, iI of), (2, iI w)] 0 0 5 []
    refine j_iload_n G 2 rfl dX2_averageOf_5 ?_
    refine j_if_ne 16 G hRw dX2_averageOf_6 (by decide) (fun c_6 => ?_) (fun c_6 => ?_)
    · skip
      refine j_aload_n G 0 rfl dX2_averageOf_16 ?_
      refine j_get G FX2 (jAt_1 0 rfl) 35 (by decide) q1879 rfl dX2_averageOf_17 ?_
      exact j_lret G E ⟨he2, ut2_2, ro2_2, ga2_2, wt2_2, (rSc (n, gr, pw, of, tB tb, tF tb)), al, 0, 0, (clC (n, gr, pw, of, tB tb, tF tb)), 0, (by unfold prt avN; first | (rw [if_pos c_6, if_pos h2_1]) | (rw [if_neg c_6, if_pos h2_1]) | (rw [if_pos c_6, if_neg (by omega)]) | (rw [if_neg c_6, if_neg (by omega)])), rfl, rfl⟩ ⟨by omega, by omega⟩ dX2_averageOf_20
    · skip
      refine j_aload_n G 0 rfl dX2_averageOf_9 ?_
      refine j_get G FX2 (jAt_1 0 rfl) 34 (by decide) q1878 rfl dX2_averageOf_10 ?_
      refine j_goto 20 G dX2_averageOf_13 (by decide) ?_
      exact j_lret G E ⟨he2, ut2_2, ro2_2, ga2_2, wt2_2, (rSc (n, gr, pw, of, tB tb, tF tb)), al, 0, 0, (clC (n, gr, pw, of, tB tb, tF tb)), 0, (by unfold prt avN; first | (rw [if_pos c_6, if_pos h2_1]) | (rw [if_neg c_6, if_pos h2_1]) | (rw [if_pos c_6, if_neg (by omega)]) | (rw [if_neg c_6, if_neg (by omega)])), rfl, rfl⟩ ⟨by omega, by omega⟩ dX2_averageOf_20
theorem hY_X2_average : jY yX2_average 2 := ⟨by decide +kernel, by decide +kernel, by decide +kernel⟩
set_option maxHeartbeats 4000000 in
set_option maxRecDepth 100000 in
theorem c_X2_average (l : Launch) (u : jU) (y0 aT aX aR aM aG aN aQ aO aS aH aU aW : Nat) (th n gr pw po pr ix sd gn tk ln zs zl za zf ze zi zc bp ls wn sc al nr dr ba bb hh : Int) (tb : Int → Int) (h : Int → Int) (ut : Int → Int) (ro : Int → Int) (ga : Int → Int) (wt : Int → Int) (of w : Int) (hn : 2 ≤ n ∧ n ≤ 4) (hg : 0 ≤ gr ∧ gr ≤ 7) (hw : 0 ≤ pw ∧ pw ≤ 15) (hT : wT (tB tb) (tF tb)) (hRof : iR of) (hRw : iR w) : jC l u yX2_average cX2_average 3 (some .long) 6 141 0 0 [.ref y0, iI of, iI w] [[(y0, jO 1 [iI th, iI n, iI gr, iI pw, .ref aT, iI po, iI pr, iI ix, iI sd, iI gn, iI tk, iI ln, .ref aX, iI zs, iI zl, iI za, iI zf, iI ze, iI zi, .ref aR, .ref aM, .ref aG, .ref aN, .ref aQ, lI ls, lI wn, .ref aO, .ref aS, .ref aH, .ref aU, lI sc, iI zc, .ref aW, lI al, lI nr, lI dr, iI bp, lI ba, lI bb, lI hh])], [(aT, cI u 24 tb)], [(aH, cJ u 4 h)], [(aU, cJ u 4 ut)], [(aO, cJ u 16 ro)], [(aS, cJ u 4 ga)], [(aW, cJ u 4 wt)]] (fun v_ w_ => (∃ (h2 ut2 ro2 ga2 wt2 : Int → Int) (sc2 al2 nr2 dr2 zc2 : Int) (r : Int), r = prt (avN (n, gr, pw, of, tB tb, tF tb)) w ∧ (sProg of = 1 ∧ 0 ≤ w ∧ w ≤ 1) ∧ v_ = some (lI r) ∧ w_ = [[(y0, jO 1 [iI 0, iI n, iI gr, iI pw, .ref aT, iI po, iI pr, iI ix, iI sd, iI gn, iI tk, iI ln, .ref aX, iI zs, iI zl, iI za, iI zf, iI ze, iI zi, .ref aR, .ref aM, .ref aG, .ref aN, .ref aQ, lI ls, lI wn, .ref aO, .ref aS, .ref aH, .ref aU, lI sc2, iI zc2, .ref aW, lI al2, lI nr2, lI dr2, iI bp, lI ba, lI bb, lI hh])], [(aT, cI u 24 tb)], [(aH, cJ u 4 h2)], [(aU, cJ u 4 ut2)], [(aO, cJ u 16 ro2)], [(aS, cJ u 4 ga2)], [(aW, cJ u 4 wt2)]]) ∨ ((¬ (sProg of = 1 ∧ 0 ≤ w ∧ w ≤ 1)) ∧ v_ = some (lI 0) ∧ w_ = [[(y0, jO 1 [iI 1, iI n, iI gr, iI pw, .ref aT, iI po, iI pr, iI ix, iI sd, iI gn, iI tk, iI ln, .ref aX, iI zs, iI zl, iI za, iI zf, iI ze, iI zi, .ref aR, .ref aM, .ref aG, .ref aN, .ref aQ, lI ls, lI wn, .ref aO, .ref aS, .ref aH, .ref aU, lI sc, iI zc, .ref aW, lI al, lI nr, lI dr, iI bp, lI ba, lI bb, lI hh])], [(aT, cI u 24 tb)], [(aH, cJ u 4 h)], [(aU, cJ u 4 ut)], [(aO, cJ u 16 ro)], [(aS, cJ u 4 ga)], [(aW, cJ u 4 wt)]])) := by
  refine jC.of "FlashRatchetModel" (by decide +kernel) rfl (Nat.le_of_ble_eq_true rfl) [(0, .ref y0), (1, iI of), (2, iI w)] rfl (fun X G E I => ?_)
  refine j_aload_n G 0 rfl dX2_average_0 ?_
  refine j_iload_n G 1 rfl dX2_average_1 ?_
  refine j_callS (wr := [[(y0, jO 1 [iI th, iI n, iI gr, iI pw, .ref aT, iI po, iI pr, iI ix, iI sd, iI gn, iI tk, iI ln, .ref aX, iI zs, iI zl, iI za, iI zf, iI ze, iI zi, .ref aR, .ref aM, .ref aG, .ref aN, .ref aQ, lI ls, lI wn, .ref aO, .ref aS, .ref aH, .ref aU, lI sc, iI zc, .ref aW, lI al, lI nr, lI dr, iI bp, lI ba, lI bb, lI hh])], [(aT, cI u 24 tb)], [(aH, cJ u 4 h)], [(aU, cJ u 4 ut)], [(aO, cJ u 16 ro)], [(aS, cJ u 4 ga)], [(aW, cJ u 4 wt)]]) (k' := 0) (n' := 0) G (c_X2_isProgram l u of hRof) hY_X2_isProgram q2010 q2011 q90 q2012 (jcut 7 [0, 1, 2, 3, 4, 5, 6] (by decide) rfl rfl) ⟨by omega, by omega, by omega, by omega, by omega, by omega⟩ (Nat.le_of_ble_eq_true rfl) dX2_average_2 rfl (fun v_ w_ hp => ?_)
  obtain ⟨r_2, h2_1, h2_2, rfl, rfl⟩ := hp
  show jJ X u 3 [[(y0, jO 1 [iI th, iI n, iI gr, iI pw, .ref aT, iI po, iI pr, iI ix, iI sd, iI gn, iI tk, iI ln, .ref aX, iI zs, iI zl, iI za, iI zf, iI ze, iI zi, .ref aR, .ref aM, .ref aG, .ref aN, .ref aQ, lI ls, lI wn, .ref aO, .ref aS, .ref aH, .ref aU, lI sc, iI zc, .ref aW, lI al, lI nr, lI dr, iI bp, lI ba, lI bb, lI hh])], [(aT, cI u 24 tb)], [(aH, cJ u 4 h)], [(aU, cJ u 4 ut)], [(aO, cJ u 16 ro)], [(aS, cJ u 4 ga)], [(aW, cJ u 4 wt)]] [(0, .ref y0), (1, iI of), (2, iI w)] 0 0 5 [iI r_2, .ref y0]
  refine j_if_eq 21 G (by unfold iR at *; omega) dX2_average_5 (by decide) (fun c_5 => ?_) (fun c_5 => ?_)
  · skip
    refine j_iconst G dX2_average_21 ?_
    refine j_put (ws' := [[(y0, jO 1 [iI 1, iI n, iI gr, iI pw, .ref aT, iI po, iI pr, iI ix, iI sd, iI gn, iI tk, iI ln, .ref aX, iI zs, iI zl, iI za, iI zf, iI ze, iI zi, .ref aR, .ref aM, .ref aG, .ref aN, .ref aQ, lI ls, lI wn, .ref aO, .ref aS, .ref aH, .ref aU, lI sc, iI zc, .ref aW, lI al, lI nr, lI dr, iI bp, lI ba, lI bb, lI hh])], [(aT, cI u 24 tb)], [(aH, cJ u 4 h)], [(aU, cJ u 4 ut)], [(aO, cJ u 16 ro)], [(aS, cJ u 4 ga)], [(aW, cJ u 4 wt)]]) G FX2 (jAt_1 0 rfl) 0 (by decide) q1844 rfl rfl rfl (Nat.le_of_ble_eq_true rfl) dX2_average_22 rfl ?_
    refine j_aload_n G 0 rfl dX2_average_25 ?_
    refine j_get G FX2 (jAt_1 0 rfl) 0 (by decide) q1844 rfl dX2_average_26 ?_
    refine j_if_le 36 G (by unfold iR; omega) dX2_average_29 (by decide) (fun c_29 => ?_) (fun c_29 => ?_)
    · exact absurd c_29 (by decide)
    · skip
      refine j_lconst 0 G rfl dX2_average_32 ?_
      refine j_goto 42 G dX2_average_33 (by decide) ?_
      exact j_lret G E (Or.inr ⟨(by omega), rfl, rfl⟩) ⟨by omega, by omega⟩ dX2_average_42
  · skip
    refine j_iload_n G 2 rfl dX2_average_8 ?_
    refine j_iconst G dX2_average_9 ?_
    refine j_iconst G dX2_average_10 ?_
    refine j_callS (wr := [[(y0, jO 1 [iI th, iI n, iI gr, iI pw, .ref aT, iI po, iI pr, iI ix, iI sd, iI gn, iI tk, iI ln, .ref aX, iI zs, iI zl, iI za, iI zf, iI ze, iI zi, .ref aR, .ref aM, .ref aG, .ref aN, .ref aQ, lI ls, lI wn, .ref aO, .ref aS, .ref aH, .ref aU, lI sc, iI zc, .ref aW, lI al, lI nr, lI dr, iI bp, lI ba, lI bb, lI hh])], [(aT, cI u 24 tb)], [(aH, cJ u 4 h)], [(aU, cJ u 4 ut)], [(aO, cJ u 16 ro)], [(aS, cJ u 4 ga)], [(aW, cJ u 4 wt)]]) (k' := 0) (n' := 0) G (c_X2_within l u w 0 1 hRw (by unfold iR; omega) (by unfold iR; omega)) hY_X2_within q1973 q1974 q90 q1975 (jcut 7 [0, 1, 2, 3, 4, 5, 6] (by decide) rfl rfl) ⟨by omega, by omega, by omega, by omega, by omega, by omega⟩ (Nat.le_of_ble_eq_true rfl) dX2_average_11 rfl (fun v_ w_ hp => ?_)
    obtain ⟨r_11, h11_1, rfl, rfl⟩ := hp
    show jJ X u 3 [[(y0, jO 1 [iI th, iI n, iI gr, iI pw, .ref aT, iI po, iI pr, iI ix, iI sd, iI gn, iI tk, iI ln, .ref aX, iI zs, iI zl, iI za, iI zf, iI ze, iI zi, .ref aR, .ref aM, .ref aG, .ref aN, .ref aQ, lI ls, lI wn, .ref aO, .ref aS, .ref aH, .ref aU, lI sc, iI zc, .ref aW, lI al, lI nr, lI dr, iI bp, lI ba, lI bb, lI hh])], [(aT, cI u 24 tb)], [(aH, cJ u 4 h)], [(aU, cJ u 4 ut)], [(aO, cJ u 16 ro)], [(aS, cJ u 4 ga)], [(aW, cJ u 4 wt)]] [(0, .ref y0), (1, iI of), (2, iI w)] 0 0 14 [iI r_11, .ref y0]
    refine j_if_eq 21 G (by unfold iR at *; omega) dX2_average_14 (by decide) (fun c_14 => ?_) (fun c_14 => ?_)
    · skip
      refine j_iconst G dX2_average_21 ?_
      refine j_put (ws' := [[(y0, jO 1 [iI 1, iI n, iI gr, iI pw, .ref aT, iI po, iI pr, iI ix, iI sd, iI gn, iI tk, iI ln, .ref aX, iI zs, iI zl, iI za, iI zf, iI ze, iI zi, .ref aR, .ref aM, .ref aG, .ref aN, .ref aQ, lI ls, lI wn, .ref aO, .ref aS, .ref aH, .ref aU, lI sc, iI zc, .ref aW, lI al, lI nr, lI dr, iI bp, lI ba, lI bb, lI hh])], [(aT, cI u 24 tb)], [(aH, cJ u 4 h)], [(aU, cJ u 4 ut)], [(aO, cJ u 16 ro)], [(aS, cJ u 4 ga)], [(aW, cJ u 4 wt)]]) G FX2 (jAt_1 0 rfl) 0 (by decide) q1844 rfl rfl rfl (Nat.le_of_ble_eq_true rfl) dX2_average_22 rfl ?_
      refine j_aload_n G 0 rfl dX2_average_25 ?_
      refine j_get G FX2 (jAt_1 0 rfl) 0 (by decide) q1844 rfl dX2_average_26 ?_
      refine j_if_le 36 G (by unfold iR; omega) dX2_average_29 (by decide) (fun c_29 => ?_) (fun c_29 => ?_)
      · exact absurd c_29 (by decide)
      · skip
        refine j_lconst 0 G rfl dX2_average_32 ?_
        refine j_goto 42 G dX2_average_33 (by decide) ?_
        exact j_lret G E (Or.inr ⟨(by omega), rfl, rfl⟩) ⟨by omega, by omega⟩ dX2_average_42
    · skip
      refine j_iconst G dX2_average_17 ?_
      refine j_goto 22 G dX2_average_18 (by decide) ?_
      refine j_put (ws' := [[(y0, jO 1 [iI 0, iI n, iI gr, iI pw, .ref aT, iI po, iI pr, iI ix, iI sd, iI gn, iI tk, iI ln, .ref aX, iI zs, iI zl, iI za, iI zf, iI ze, iI zi, .ref aR, .ref aM, .ref aG, .ref aN, .ref aQ, lI ls, lI wn, .ref aO, .ref aS, .ref aH, .ref aU, lI sc, iI zc, .ref aW, lI al, lI nr, lI dr, iI bp, lI ba, lI bb, lI hh])], [(aT, cI u 24 tb)], [(aH, cJ u 4 h)], [(aU, cJ u 4 ut)], [(aO, cJ u 16 ro)], [(aS, cJ u 4 ga)], [(aW, cJ u 4 wt)]]) G FX2 (jAt_1 0 rfl) 0 (by decide) q1844 rfl rfl rfl (Nat.le_of_ble_eq_true rfl) dX2_average_22 rfl ?_
      refine j_aload_n G 0 rfl dX2_average_25 ?_
      refine j_get G FX2 (jAt_1 0 rfl) 0 (by decide) q1844 rfl dX2_average_26 ?_
      refine j_if_le 36 G (by unfold iR; omega) dX2_average_29 (by decide) (fun c_29 => ?_) (fun c_29 => ?_)
      · skip
        refine j_aload_n G 0 rfl dX2_average_36 ?_
        refine j_iload_n G 1 rfl dX2_average_37 ?_
        refine j_iload_n G 2 rfl dX2_average_38 ?_
        refine j_callV (wr := []) (k' := 0) (n' := 0) G FX2 (c_X2_averageOf l u y0 aT aX aR aM aG aN aQ aO aS aH aU aW 0 n gr pw po pr ix sd gn tk ln zs zl za zf ze zi zc bp ls wn sc al nr dr ba bb hh tb h ut ro ga wt of w hn hg hw hT (by omega) hRw) (jAt_1 0 rfl) ⟨rfl, hY_X2_averageOf⟩ q2145 q2147 qs67 q90 q2148 (jcut 7 [0, 1, 2, 3, 4, 5, 6] (by decide) rfl rfl) ⟨by omega, by omega, by omega, by omega, by omega, by omega⟩ (Nat.le_of_ble_eq_true rfl) dX2_average_39 rfl (fun v_ w_ hp => ?_)
        obtain ⟨he2, ut2_39, ro2_39, ga2_39, wt2_39, sc2_39, al2_39, nr2_39, dr2_39, zc2_39, r_39, h39_1, rfl, rfl⟩ := hp
        show jJ X u 3 [[(y0, jO 1 [iI 0, iI n, iI gr, iI pw, .ref aT, iI po, iI pr, iI ix, iI sd, iI gn, iI tk, iI ln, .ref aX, iI zs, iI zl, iI za, iI zf, iI ze, iI zi, .ref aR, .ref aM, .ref aG, .ref aN, .ref aQ, lI ls, lI wn, .ref aO, .ref aS, .ref aH, .ref aU, lI sc2_39, iI zc2_39, .ref aW, lI al2_39, lI nr2_39, lI dr2_39, iI bp, lI ba, lI bb, lI hh])], [(aT, cI u 24 tb)], [(aH, cJ u 4 he2)], [(aU, cJ u 4 ut2_39)], [(aO, cJ u 16 ro2_39)], [(aS, cJ u 4 ga2_39)], [(aW, cJ u 4 wt2_39)]] [(0, .ref y0), (1, iI of), (2, iI w)] 0 0 42 [lI r_39]
        exact j_lret G E (Or.inl ⟨he2, ut2_39, ro2_39, ga2_39, wt2_39, sc2_39, al2_39, nr2_39, dr2_39, zc2_39, r_39, h39_1, (by omega), rfl, rfl⟩) ⟨by omega, by omega⟩ dX2_average_42
      · exact absurd c_29 (by decide)
theorem hY_X2_shareOf : jY yX2_shareOf 3 := ⟨by decide +kernel, by decide +kernel, by decide +kernel⟩
set_option maxHeartbeats 4000000 in
set_option maxRecDepth 100000 in
theorem c_X2_shareOf (l : Launch) (u : jU) (y0 aT aX aR aM aG aN aQ aO aS aH aU aW : Nat) (th n gr pw po pr ix sd gn tk ln zs zl za zf ze zi zc bp ls wn sc al nr dr ba bb hh : Int) (tb : Int → Int) (h : Int → Int) (ut : Int → Int) (ro : Int → Int) (ga : Int → Int) (wt : Int → Int) (of p w : Int) (hn : 2 ≤ n ∧ n ≤ 4) (hg : 0 ≤ gr ∧ gr ≤ 7) (hw : 0 ≤ pw ∧ pw ≤ 15) (hT : wT (tB tb) (tF tb)) (hof : sProg of = 1) (hRw : iR w) (hp : 0 ≤ p ∧ p < n) : jC l u yX2_shareOf cX2_shareOf 4 (some .long) 5 119 0 0 [.ref y0, iI of, iI p, iI w] [[(y0, jO 1 [iI th, iI n, iI gr, iI pw, .ref aT, iI po, iI pr, iI ix, iI sd, iI gn, iI tk, iI ln, .ref aX, iI zs, iI zl, iI za, iI zf, iI ze, iI zi, .ref aR, .ref aM, .ref aG, .ref aN, .ref aQ, lI ls, lI wn, .ref aO, .ref aS, .ref aH, .ref aU, lI sc, iI zc, .ref aW, lI al, lI nr, lI dr, iI bp, lI ba, lI bb, lI hh])], [(aT, cI u 24 tb)], [(aH, cJ u 4 h)], [(aU, cJ u 4 ut)], [(aO, cJ u 16 ro)], [(aS, cJ u 4 ga)], [(aW, cJ u 4 wt)]] (fun v_ w_ => ∃ (h2 ut2 ro2 ga2 wt2 : Int → Int) (sc2 al2 nr2 dr2 zc2 : Int) (r : Int), r = prt (shN (n, gr, pw, of, tB tb, tF tb) p) w ∧ v_ = some (lI r) ∧ w_ = [[(y0, jO 1 [iI th, iI n, iI gr, iI pw, .ref aT, iI po, iI pr, iI ix, iI sd, iI gn, iI tk, iI ln, .ref aX, iI zs, iI zl, iI za, iI zf, iI ze, iI zi, .ref aR, .ref aM, .ref aG, .ref aN, .ref aQ, lI ls, lI wn, .ref aO, .ref aS, .ref aH, .ref aU, lI sc2, iI zc2, .ref aW, lI al2, lI nr2, lI dr2, iI bp, lI ba, lI bb, lI hh])], [(aT, cI u 24 tb)], [(aH, cJ u 4 h2)], [(aU, cJ u 4 ut2)], [(aO, cJ u 16 ro2)], [(aS, cJ u 4 ga2)], [(aW, cJ u 4 wt2)]]) := by
  refine jC.of "FlashRatchetModel" (by decide +kernel) rfl (Nat.le_of_ble_eq_true rfl) [(0, .ref y0), (1, iI of), (2, iI p), (3, iI w)] rfl (fun X G E I => ?_)
  have hclR := clF_R (n := n) (R := rcH n (rM (n, gr, pw, of, tB tb, tF tb))) n.toNat
  have hclF : clC (n, gr, pw, of, tB tb, tF tb) = clF n (rcH n (rM (n, gr, pw, of, tB tb, tF tb))) n.toNat := rfl
  refine j_aload_n G 0 rfl dX2_shareOf_0 ?_
  refine j_iload_n G 1 rfl dX2_shareOf_1 ?_
  refine j_callV (wr := []) (k' := 0) (n' := 0) G FX2 (c_X2_layAverage l u y0 aT aX aR aM aG aN aQ aO aS aH aU aW th n gr pw po pr ix sd gn tk ln zs zl za zf ze zi zc bp ls wn sc al nr dr ba bb hh tb h ut ro ga wt of hn hg hw hT hof) (jAt_1 0 rfl) ⟨rfl, hY_X2_layAverage⟩ q2149 q2151 qs68 q90 q2152 (jcut 7 [0, 1, 2, 3, 4, 5, 6] (by decide) rfl rfl) ⟨by omega, by omega, by omega, by omega, by omega, by omega⟩ (Nat.le_of_ble_eq_true rfl) dX2_shareOf_2 rfl (fun v_ w_ hp => ?_)
  rcases hp with ⟨he2, ut2_2, ro2_2, ga2_2, wt2_2, al2_2, h2_1, h2_2, h2_3, rfl, rfl⟩ | ⟨he2, ut2_2, ro2_2, ga2_2, wt2_2, h2_1, rfl, rfl⟩
  · skip
    show jJ X u 4 [[(y0, jO 1 [iI th, iI n, iI gr, iI pw, .ref aT, iI po, iI pr, iI ix, iI sd, iI gn, iI tk, iI ln, .ref aX, iI zs, iI zl, iI za, iI zf, iI ze, iI zi, .ref aR, .ref aM, .ref aG, .ref aN, .ref aQ, lI ls, lI wn, .ref aO, .ref aS, .ref aH, .ref aU, lI (rSc (n, gr, pw, of, tB tb, tF tb)), iI (clC (n, gr, pw, of, tB tb, tF tb)), .ref aW, lI al2_2, lI ((avF (n, gr, pw, of, tB tb, tF tb)).1), lI ((avF (n, gr, pw, of, tB tb, tF tb)).2), iI bp, lI ba, lI bb, lI hh])], [(aT, cI u 24 tb)], [(aH, cJ u 4 he2)], [(aU, cJ u 4 ut2_2)], [(aO, cJ u 16 ro2_2)], [(aS, cJ u 4 ga2_2)], [(aW, cJ u 4 wt2_2)]] [(0, .ref y0), (1, iI of), (2, iI p), (3, iI w)] 0 0 5 []
    refine j_aload_n G 0 rfl dX2_shareOf_5 ?_
    refine j_get G FX2 (jAt_1 0 rfl) 31 (by decide) q1875 rfl dX2_shareOf_6 ?_
    refine j_iconst G dX2_shareOf_9 ?_
    refine j_icmp_le 15 G (by unfold iR at *; omega) (by unfold iR; omega) dX2_shareOf_10 (by decide) (fun c_10 => ?_) (fun c_10 => ?_)
    · skip
      obtain ⟨hf1, hf2, hf3⟩ := h2_2 p (by omega) (by omega)
      refine j_aload_n G 0 rfl dX2_shareOf_15 ?_
      refine j_aload_n G 0 rfl dX2_shareOf_16 ?_
      refine j_get G FX2 (jAt_1 0 rfl) 32 (by decide) q1876 rfl dX2_shareOf_17 ?_
      refine j_iload_n G 2 rfl dX2_shareOf_20 ?_
      refine j_laload G (jAt_1 6 rfl) (by (try unfold iR at *); omega) (by (try unfold iR at *); omega) (by (try unfold iR at *); omega) dX2_shareOf_21 ?_
      refine j_aload_n G 0 rfl dX2_shareOf_22 ?_
      refine j_get G FX2 (jAt_1 0 rfl) 33 (by decide) q1877 rfl dX2_shareOf_23 ?_
      refine j_callV (wr := [[(aT, cI u 24 tb)], [(aH, cJ u 4 he2)], [(aU, cJ u 4 ut2_2)], [(aO, cJ u 16 ro2_2)], [(aS, cJ u 4 ga2_2)], [(aW, cJ u 4 wt2_2)]]) (k' := 0) (n' := 0) G FX2 (c_X2_reduce l u y0 aT aX aR aM aG aN aQ aO aS aH aU aW th n gr pw po pr ix sd gn tk ln zs zl za zf ze zi (clC (n, gr, pw, of, tB tb, tF tb)) bp ls wn (rSc (n, gr, pw, of, tB tb, tF tb)) al2_2 ((avF (n, gr, pw, of, tB tb, tF tb)).1) ((avF (n, gr, pw, of, tB tb, tF tb)).2) ba bb hh (wt2_2 p) al2_2 (by unfold lR; omega) (by unfold lR; omega) (by omega)) (jAt_1 0 rfl) ⟨rfl, hY_X2_reduce⟩ q2180 q2182 qs75 q90 q2183 (jcut 7 [0, 1, 2, 3, 4, 5, 6] (by decide) rfl rfl) ⟨by omega, by omega, by omega, by omega, by omega, by omega⟩ (Nat.le_of_ble_eq_true rfl) dX2_shareOf_26 rfl (fun v_ w_ hp => ?_)
      obtain ⟨rfl, rfl⟩ := hp
      show jJ X u 4 [[(y0, jO 1 [iI th, iI n, iI gr, iI pw, .ref aT, iI po, iI pr, iI ix, iI sd, iI gn, iI tk, iI ln, .ref aX, iI zs, iI zl, iI za, iI zf, iI ze, iI zi, .ref aR, .ref aM, .ref aG, .ref aN, .ref aQ, lI ls, lI wn, .ref aO, .ref aS, .ref aH, .ref aU, lI (rSc (n, gr, pw, of, tB tb, tF tb)), iI (clC (n, gr, pw, of, tB tb, tF tb)), .ref aW, lI al2_2, lI ((fr (wt2_2 p) al2_2).1), lI ((fr (wt2_2 p) al2_2).2), iI bp, lI ba, lI bb, lI hh])], [(aT, cI u 24 tb)], [(aH, cJ u 4 he2)], [(aU, cJ u 4 ut2_2)], [(aO, cJ u 16 ro2_2)], [(aS, cJ u 4 ga2_2)], [(aW, cJ u 4 wt2_2)]] [(0, .ref y0), (1, iI of), (2, iI p), (3, iI w)] 0 0 29 []
      refine j_iload_n G 3 rfl dX2_shareOf_29 ?_
      refine j_if_ne 40 G hRw dX2_shareOf_30 (by decide) (fun c_30 => ?_) (fun c_30 => ?_)
      · skip
        refine j_aload_n G 0 rfl dX2_shareOf_40 ?_
        refine j_get G FX2 (jAt_1 0 rfl) 35 (by decide) q1879 rfl dX2_shareOf_41 ?_
        exact j_lret G E ⟨he2, ut2_2, ro2_2, ga2_2, wt2_2, (rSc (n, gr, pw, of, tB tb, tF tb)), al2_2, ((fr (wt2_2 p) al2_2).1), ((fr (wt2_2 p) al2_2).2), (clC (n, gr, pw, of, tB tb, tF tb)), ((fr (wt2_2 p) al2_2).2), (by unfold prt shN; first | (rw [if_pos c_30, if_pos h2_1, hf1]) | (rw [if_neg c_30, if_pos h2_1, hf1]) | (rw [if_neg (show ¬ clC (n, gr, pw, of, tB tb, tF tb) ≤ 1 by omega)]; split <;> rfl)), rfl, rfl⟩ ⟨by omega, by omega⟩ dX2_shareOf_44
      · skip
        refine j_aload_n G 0 rfl dX2_shareOf_33 ?_
        refine j_get G FX2 (jAt_1 0 rfl) 34 (by decide) q1878 rfl dX2_shareOf_34 ?_
        refine j_goto 44 G dX2_shareOf_37 (by decide) ?_
        exact j_lret G E ⟨he2, ut2_2, ro2_2, ga2_2, wt2_2, (rSc (n, gr, pw, of, tB tb, tF tb)), al2_2, ((fr (wt2_2 p) al2_2).1), ((fr (wt2_2 p) al2_2).2), (clC (n, gr, pw, of, tB tb, tF tb)), ((fr (wt2_2 p) al2_2).1), (by unfold prt shN; first | (rw [if_pos c_30, if_pos h2_1, hf1]) | (rw [if_neg c_30, if_pos h2_1, hf1]) | (rw [if_neg (show ¬ clC (n, gr, pw, of, tB tb, tF tb) ≤ 1 by omega)]; split <;> rfl)), rfl, rfl⟩ ⟨by omega, by omega⟩ dX2_shareOf_44
    · skip
      exact absurd c_10 (by omega)
  · skip
    show jJ X u 4 [[(y0, jO 1 [iI th, iI n, iI gr, iI pw, .ref aT, iI po, iI pr, iI ix, iI sd, iI gn, iI tk, iI ln, .ref aX, iI zs, iI zl, iI za, iI zf, iI ze, iI zi, .ref aR, .ref aM, .ref aG, .ref aN, .ref aQ, lI ls, lI wn, .ref aO, .ref aS, .ref aH, .ref aU, lI (rSc (n, gr, pw, of, tB tb, tF tb)), iI (clC (n, gr, pw, of, tB tb, tF tb)), .ref aW, lI al, lI 0, lI 0, iI bp, lI ba, lI bb, lI hh])], [(aT, cI u 24 tb)], [(aH, cJ u 4 he2)], [(aU, cJ u 4 ut2_2)], [(aO, cJ u 16 ro2_2)], [(aS, cJ u 4 ga2_2)], [(aW, cJ u 4 wt2_2)]] [(0, .ref y0), (1, iI of), (2, iI p), (3, iI w)] 0 0 5 []
    refine j_aload_n G 0 rfl dX2_shareOf_5 ?_
    refine j_get G FX2 (jAt_1 0 rfl) 31 (by decide) q1875 rfl dX2_shareOf_6 ?_
    refine j_iconst G dX2_shareOf_9 ?_
    refine j_icmp_le 15 G (by unfold iR at *; omega) (by unfold iR; omega) dX2_shareOf_10 (by decide) (fun c_10 => ?_) (fun c_10 => ?_)
    · skip
      exact absurd c_10 (by omega)
    · skip
      refine j_lconst 0 G rfl dX2_shareOf_13 ?_
      exact j_lret G E ⟨he2, ut2_2, ro2_2, ga2_2, wt2_2, (rSc (n, gr, pw, of, tB tb, tF tb)), al, 0, 0, (clC (n, gr, pw, of, tB tb, tF tb)), 0, (by unfold prt shN; first | (rw [if_pos c_30, if_pos h2_1, hf1]) | (rw [if_neg c_30, if_pos h2_1, hf1]) | (rw [if_neg (show ¬ clC (n, gr, pw, of, tB tb, tF tb) ≤ 1 by omega)]; split <;> rfl)), rfl, rfl⟩ ⟨by omega, by omega⟩ dX2_shareOf_14
theorem hY_X2_share : jY yX2_share 3 := ⟨by decide +kernel, by decide +kernel, by decide +kernel⟩
set_option maxHeartbeats 4000000 in
set_option maxRecDepth 100000 in
theorem c_X2_share (l : Launch) (u : jU) (y0 aT aX aR aM aG aN aQ aO aS aH aU aW : Nat) (th n gr pw po pr ix sd gn tk ln zs zl za zf ze zi zc bp ls wn sc al nr dr ba bb hh : Int) (tb : Int → Int) (h : Int → Int) (ut : Int → Int) (ro : Int → Int) (ga : Int → Int) (wt : Int → Int) (of p w : Int) (hn : 2 ≤ n ∧ n ≤ 4) (hg : 0 ≤ gr ∧ gr ≤ 7) (hw : 0 ≤ pw ∧ pw ≤ 15) (hT : wT (tB tb) (tF tb)) (hRof : iR of) (hRp : iR p) (hRw : iR w) : jC l u yX2_share cX2_share 4 (some .long) 6 142 0 0 [.ref y0, iI of, iI p, iI w] [[(y0, jO 1 [iI th, iI n, iI gr, iI pw, .ref aT, iI po, iI pr, iI ix, iI sd, iI gn, iI tk, iI ln, .ref aX, iI zs, iI zl, iI za, iI zf, iI ze, iI zi, .ref aR, .ref aM, .ref aG, .ref aN, .ref aQ, lI ls, lI wn, .ref aO, .ref aS, .ref aH, .ref aU, lI sc, iI zc, .ref aW, lI al, lI nr, lI dr, iI bp, lI ba, lI bb, lI hh])], [(aT, cI u 24 tb)], [(aH, cJ u 4 h)], [(aU, cJ u 4 ut)], [(aO, cJ u 16 ro)], [(aS, cJ u 4 ga)], [(aW, cJ u 4 wt)]] (fun v_ w_ => (∃ (h2 ut2 ro2 ga2 wt2 : Int → Int) (sc2 al2 nr2 dr2 zc2 : Int) (r : Int), r = prt (shN (n, gr, pw, of, tB tb, tF tb) p) w ∧ (sProg of = 1 ∧ 0 ≤ w ∧ w ≤ 1) ∧ (0 ≤ p ∧ p < n) ∧ v_ = some (lI r) ∧ w_ = [[(y0, jO 1 [iI 0, iI n, iI gr, iI pw, .ref aT, iI po, iI pr, iI ix, iI sd, iI gn, iI tk, iI ln, .ref aX, iI zs, iI zl, iI za, iI zf, iI ze, iI zi, .ref aR, .ref aM, .ref aG, .ref aN, .ref aQ, lI ls, lI wn, .ref aO, .ref aS, .ref aH, .ref aU, lI sc2, iI zc2, .ref aW, lI al2, lI nr2, lI dr2, iI bp, lI ba, lI bb, lI hh])], [(aT, cI u 24 tb)], [(aH, cJ u 4 h2)], [(aU, cJ u 4 ut2)], [(aO, cJ u 16 ro2)], [(aS, cJ u 4 ga2)], [(aW, cJ u 4 wt2)]]) ∨ ((¬ (0 ≤ p ∧ p < n)) ∧ v_ = some (lI 0) ∧ w_ = [[(y0, jO 1 [iI 1, iI n, iI gr, iI pw, .ref aT, iI po, iI pr, iI ix, iI sd, iI gn, iI tk, iI ln, .ref aX, iI zs, iI zl, iI za, iI zf, iI ze, iI zi, .ref aR, .ref aM, .ref aG, .ref aN, .ref aQ, lI ls, lI wn, .ref aO, .ref aS, .ref aH, .ref aU, lI sc, iI zc, .ref aW, lI al, lI nr, lI dr, iI bp, lI ba, lI bb, lI hh])], [(aT, cI u 24 tb)], [(aH, cJ u 4 h)], [(aU, cJ u 4 ut)], [(aO, cJ u 16 ro)], [(aS, cJ u 4 ga)], [(aW, cJ u 4 wt)]]) ∨ ((0 ≤ p ∧ p < n) ∧ (¬ (sProg of = 1 ∧ 0 ≤ w ∧ w ≤ 1)) ∧ v_ = some (lI 0) ∧ w_ = [[(y0, jO 1 [iI 2, iI n, iI gr, iI pw, .ref aT, iI po, iI pr, iI ix, iI sd, iI gn, iI tk, iI ln, .ref aX, iI zs, iI zl, iI za, iI zf, iI ze, iI zi, .ref aR, .ref aM, .ref aG, .ref aN, .ref aQ, lI ls, lI wn, .ref aO, .ref aS, .ref aH, .ref aU, lI sc, iI zc, .ref aW, lI al, lI nr, lI dr, iI bp, lI ba, lI bb, lI hh])], [(aT, cI u 24 tb)], [(aH, cJ u 4 h)], [(aU, cJ u 4 ut)], [(aO, cJ u 16 ro)], [(aS, cJ u 4 ga)], [(aW, cJ u 4 wt)]])) := by
  refine jC.of "FlashRatchetModel" (by decide +kernel) rfl (Nat.le_of_ble_eq_true rfl) [(0, .ref y0), (1, iI of), (2, iI p), (3, iI w)] rfl (fun X G E I => ?_)
  refine j_aload_n G 0 rfl dX2_share_0 ?_
  refine j_aload_n G 0 rfl dX2_share_1 ?_
  refine j_iload_n G 2 rfl dX2_share_2 ?_
  refine j_callV (wr := [[(aT, cI u 24 tb)], [(aH, cJ u 4 h)], [(aU, cJ u 4 ut)], [(aO, cJ u 16 ro)], [(aS, cJ u 4 ga)], [(aW, cJ u 4 wt)]]) (k' := 0) (n' := 0) G FX2 (c_X2_isPosition l u y0 aT aX aR aM aG aN aQ aO aS aH aU aW th n gr pw po pr ix sd gn tk ln zs zl za zf ze zi zc bp ls wn sc al nr dr ba bb hh p hRp hn) (jAt_1 0 rfl) ⟨rfl, hY_X2_isPosition⟩ q1983 q1985 qs44 q90 q1986 (jcut 7 [0, 1, 2, 3, 4, 5, 6] (by decide) rfl rfl) ⟨by omega, by omega, by omega, by omega, by omega, by omega⟩ (Nat.le_of_ble_eq_true rfl) dX2_share_3 rfl (fun v_ w_ hp => ?_)
  obtain ⟨r_3, h3_1, rfl, rfl⟩ := hp
  show jJ X u 4 [[(y0, jO 1 [iI th, iI n, iI gr, iI pw, .ref aT, iI po, iI pr, iI ix, iI sd, iI gn, iI tk, iI ln, .ref aX, iI zs, iI zl, iI za, iI zf, iI ze, iI zi, .ref aR, .ref aM, .ref aG, .ref aN, .ref aQ, lI ls, lI wn, .ref aO, .ref aS, .ref aH, .ref aU, lI sc, iI zc, .ref aW, lI al, lI nr, lI dr, iI bp, lI ba, lI bb, lI hh])], [(aT, cI u 24 tb)], [(aH, cJ u 4 h)], [(aU, cJ u 4 ut)], [(aO, cJ u 16 ro)], [(aS, cJ u 4 ga)], [(aW, cJ u 4 wt)]] [(0, .ref y0), (1, iI of), (2, iI p), (3, iI w)] 0 0 6 [iI r_3, .ref y0]
  refine j_if_ne 13 G (by unfold iR at *; omega) dX2_share_6 (by decide) (fun c_6 => ?_) (fun c_6 => ?_)
  · skip
    refine j_iload_n G 1 rfl dX2_share_13 ?_
    refine j_callS (wr := [[(y0, jO 1 [iI th, iI n, iI gr, iI pw, .ref aT, iI po, iI pr, iI ix, iI sd, iI gn, iI tk, iI ln, .ref aX, iI zs, iI zl, iI za, iI zf, iI ze, iI zi, .ref aR, .ref aM, .ref aG, .ref aN, .ref aQ, lI ls, lI wn, .ref aO, .ref aS, .ref aH, .ref aU, lI sc, iI zc, .ref aW, lI al, lI nr, lI dr, iI bp, lI ba, lI bb, lI hh])], [(aT, cI u 24 tb)], [(aH, cJ u 4 h)], [(aU, cJ u 4 ut)], [(aO, cJ u 16 ro)], [(aS, cJ u 4 ga)], [(aW, cJ u 4 wt)]]) (k' := 0) (n' := 0) G (c_X2_isProgram l u of hRof) hY_X2_isProgram q2010 q2011 q90 q2012 (jcut 7 [0, 1, 2, 3, 4, 5, 6] (by decide) rfl rfl) ⟨by omega, by omega, by omega, by omega, by omega, by omega⟩ (Nat.le_of_ble_eq_true rfl) dX2_share_14 rfl (fun v_ w_ hp => ?_)
    obtain ⟨r_14, h14_1, h14_2, rfl, rfl⟩ := hp
    show jJ X u 4 [[(y0, jO 1 [iI th, iI n, iI gr, iI pw, .ref aT, iI po, iI pr, iI ix, iI sd, iI gn, iI tk, iI ln, .ref aX, iI zs, iI zl, iI za, iI zf, iI ze, iI zi, .ref aR, .ref aM, .ref aG, .ref aN, .ref aQ, lI ls, lI wn, .ref aO, .ref aS, .ref aH, .ref aU, lI sc, iI zc, .ref aW, lI al, lI nr, lI dr, iI bp, lI ba, lI bb, lI hh])], [(aT, cI u 24 tb)], [(aH, cJ u 4 h)], [(aU, cJ u 4 ut)], [(aO, cJ u 16 ro)], [(aS, cJ u 4 ga)], [(aW, cJ u 4 wt)]] [(0, .ref y0), (1, iI of), (2, iI p), (3, iI w)] 0 0 17 [iI r_14, .ref y0]
    refine j_if_eq 33 G (by unfold iR at *; omega) dX2_share_17 (by decide) (fun c_17 => ?_) (fun c_17 => ?_)
    · skip
      refine j_iconst G dX2_share_33 ?_
      refine j_put (ws' := [[(y0, jO 1 [iI 2, iI n, iI gr, iI pw, .ref aT, iI po, iI pr, iI ix, iI sd, iI gn, iI tk, iI ln, .ref aX, iI zs, iI zl, iI za, iI zf, iI ze, iI zi, .ref aR, .ref aM, .ref aG, .ref aN, .ref aQ, lI ls, lI wn, .ref aO, .ref aS, .ref aH, .ref aU, lI sc, iI zc, .ref aW, lI al, lI nr, lI dr, iI bp, lI ba, lI bb, lI hh])], [(aT, cI u 24 tb)], [(aH, cJ u 4 h)], [(aU, cJ u 4 ut)], [(aO, cJ u 16 ro)], [(aS, cJ u 4 ga)], [(aW, cJ u 4 wt)]]) G FX2 (jAt_1 0 rfl) 0 (by decide) q1844 rfl rfl rfl (Nat.le_of_ble_eq_true rfl) dX2_share_34 rfl ?_
      refine j_aload_n G 0 rfl dX2_share_37 ?_
      refine j_get G FX2 (jAt_1 0 rfl) 0 (by decide) q1844 rfl dX2_share_38 ?_
      refine j_if_le 48 G (by unfold iR; omega) dX2_share_41 (by decide) (fun c_41 => ?_) (fun c_41 => ?_)
      · exact absurd c_41 (by decide)
      · skip
        refine j_lconst 0 G rfl dX2_share_44 ?_
        refine j_goto 55 G dX2_share_45 (by decide) ?_
        exact j_lret G E (Or.inr (Or.inr ⟨(by omega), (by omega), rfl, rfl⟩)) ⟨by omega, by omega⟩ dX2_share_55
    · skip
      refine j_iload_n G 3 rfl dX2_share_20 ?_
      refine j_iconst G dX2_share_21 ?_
      refine j_iconst G dX2_share_22 ?_
      refine j_callS (wr := [[(y0, jO 1 [iI th, iI n, iI gr, iI pw, .ref aT, iI po, iI pr, iI ix, iI sd, iI gn, iI tk, iI ln, .ref aX, iI zs, iI zl, iI za, iI zf, iI ze, iI zi, .ref aR, .ref aM, .ref aG, .ref aN, .ref aQ, lI ls, lI wn, .ref aO, .ref aS, .ref aH, .ref aU, lI sc, iI zc, .ref aW, lI al, lI nr, lI dr, iI bp, lI ba, lI bb, lI hh])], [(aT, cI u 24 tb)], [(aH, cJ u 4 h)], [(aU, cJ u 4 ut)], [(aO, cJ u 16 ro)], [(aS, cJ u 4 ga)], [(aW, cJ u 4 wt)]]) (k' := 0) (n' := 0) G (c_X2_within l u w 0 1 hRw (by unfold iR; omega) (by unfold iR; omega)) hY_X2_within q1973 q1974 q90 q1975 (jcut 7 [0, 1, 2, 3, 4, 5, 6] (by decide) rfl rfl) ⟨by omega, by omega, by omega, by omega, by omega, by omega⟩ (Nat.le_of_ble_eq_true rfl) dX2_share_23 rfl (fun v_ w_ hp => ?_)
      obtain ⟨r_23, h23_1, rfl, rfl⟩ := hp
      show jJ X u 4 [[(y0, jO 1 [iI th, iI n, iI gr, iI pw, .ref aT, iI po, iI pr, iI ix, iI sd, iI gn, iI tk, iI ln, .ref aX, iI zs, iI zl, iI za, iI zf, iI ze, iI zi, .ref aR, .ref aM, .ref aG, .ref aN, .ref aQ, lI ls, lI wn, .ref aO, .ref aS, .ref aH, .ref aU, lI sc, iI zc, .ref aW, lI al, lI nr, lI dr, iI bp, lI ba, lI bb, lI hh])], [(aT, cI u 24 tb)], [(aH, cJ u 4 h)], [(aU, cJ u 4 ut)], [(aO, cJ u 16 ro)], [(aS, cJ u 4 ga)], [(aW, cJ u 4 wt)]] [(0, .ref y0), (1, iI of), (2, iI p), (3, iI w)] 0 0 26 [iI r_23, .ref y0]
      refine j_if_eq 33 G (by unfold iR at *; omega) dX2_share_26 (by decide) (fun c_26 => ?_) (fun c_26 => ?_)
      · skip
        refine j_iconst G dX2_share_33 ?_
        refine j_put (ws' := [[(y0, jO 1 [iI 2, iI n, iI gr, iI pw, .ref aT, iI po, iI pr, iI ix, iI sd, iI gn, iI tk, iI ln, .ref aX, iI zs, iI zl, iI za, iI zf, iI ze, iI zi, .ref aR, .ref aM, .ref aG, .ref aN, .ref aQ, lI ls, lI wn, .ref aO, .ref aS, .ref aH, .ref aU, lI sc, iI zc, .ref aW, lI al, lI nr, lI dr, iI bp, lI ba, lI bb, lI hh])], [(aT, cI u 24 tb)], [(aH, cJ u 4 h)], [(aU, cJ u 4 ut)], [(aO, cJ u 16 ro)], [(aS, cJ u 4 ga)], [(aW, cJ u 4 wt)]]) G FX2 (jAt_1 0 rfl) 0 (by decide) q1844 rfl rfl rfl (Nat.le_of_ble_eq_true rfl) dX2_share_34 rfl ?_
        refine j_aload_n G 0 rfl dX2_share_37 ?_
        refine j_get G FX2 (jAt_1 0 rfl) 0 (by decide) q1844 rfl dX2_share_38 ?_
        refine j_if_le 48 G (by unfold iR; omega) dX2_share_41 (by decide) (fun c_41 => ?_) (fun c_41 => ?_)
        · exact absurd c_41 (by decide)
        · skip
          refine j_lconst 0 G rfl dX2_share_44 ?_
          refine j_goto 55 G dX2_share_45 (by decide) ?_
          exact j_lret G E (Or.inr (Or.inr ⟨(by omega), (by omega), rfl, rfl⟩)) ⟨by omega, by omega⟩ dX2_share_55
      · skip
        refine j_iconst G dX2_share_29 ?_
        refine j_goto 34 G dX2_share_30 (by decide) ?_
        refine j_put (ws' := [[(y0, jO 1 [iI 0, iI n, iI gr, iI pw, .ref aT, iI po, iI pr, iI ix, iI sd, iI gn, iI tk, iI ln, .ref aX, iI zs, iI zl, iI za, iI zf, iI ze, iI zi, .ref aR, .ref aM, .ref aG, .ref aN, .ref aQ, lI ls, lI wn, .ref aO, .ref aS, .ref aH, .ref aU, lI sc, iI zc, .ref aW, lI al, lI nr, lI dr, iI bp, lI ba, lI bb, lI hh])], [(aT, cI u 24 tb)], [(aH, cJ u 4 h)], [(aU, cJ u 4 ut)], [(aO, cJ u 16 ro)], [(aS, cJ u 4 ga)], [(aW, cJ u 4 wt)]]) G FX2 (jAt_1 0 rfl) 0 (by decide) q1844 rfl rfl rfl (Nat.le_of_ble_eq_true rfl) dX2_share_34 rfl ?_
        refine j_aload_n G 0 rfl dX2_share_37 ?_
        refine j_get G FX2 (jAt_1 0 rfl) 0 (by decide) q1844 rfl dX2_share_38 ?_
        refine j_if_le 48 G (by unfold iR; omega) dX2_share_41 (by decide) (fun c_41 => ?_) (fun c_41 => ?_)
        · skip
          refine j_aload_n G 0 rfl dX2_share_48 ?_
          refine j_iload_n G 1 rfl dX2_share_49 ?_
          refine j_iload_n G 2 rfl dX2_share_50 ?_
          refine j_iload_n G 3 rfl dX2_share_51 ?_
          refine j_callV (wr := []) (k' := 0) (n' := 0) G FX2 (c_X2_shareOf l u y0 aT aX aR aM aG aN aQ aO aS aH aU aW 0 n gr pw po pr ix sd gn tk ln zs zl za zf ze zi zc bp ls wn sc al nr dr ba bb hh tb h ut ro ga wt of p w hn hg hw hT (by omega) hRw (by omega)) (jAt_1 0 rfl) ⟨rfl, hY_X2_shareOf⟩ q2188 q2190 qs76 q90 q2191 (jcut 7 [0, 1, 2, 3, 4, 5, 6] (by decide) rfl rfl) ⟨by omega, by omega, by omega, by omega, by omega, by omega⟩ (Nat.le_of_ble_eq_true rfl) dX2_share_52 rfl (fun v_ w_ hp => ?_)
          obtain ⟨he2, ut2_52, ro2_52, ga2_52, wt2_52, sc2_52, al2_52, nr2_52, dr2_52, zc2_52, r_52, h52_1, rfl, rfl⟩ := hp
          show jJ X u 4 [[(y0, jO 1 [iI 0, iI n, iI gr, iI pw, .ref aT, iI po, iI pr, iI ix, iI sd, iI gn, iI tk, iI ln, .ref aX, iI zs, iI zl, iI za, iI zf, iI ze, iI zi, .ref aR, .ref aM, .ref aG, .ref aN, .ref aQ, lI ls, lI wn, .ref aO, .ref aS, .ref aH, .ref aU, lI sc2_52, iI zc2_52, .ref aW, lI al2_52, lI nr2_52, lI dr2_52, iI bp, lI ba, lI bb, lI hh])], [(aT, cI u 24 tb)], [(aH, cJ u 4 he2)], [(aU, cJ u 4 ut2_52)], [(aO, cJ u 16 ro2_52)], [(aS, cJ u 4 ga2_52)], [(aW, cJ u 4 wt2_52)]] [(0, .ref y0), (1, iI of), (2, iI p), (3, iI w)] 0 0 55 [lI r_52]
          exact j_lret G E (Or.inl ⟨he2, ut2_52, ro2_52, ga2_52, wt2_52, sc2_52, al2_52, nr2_52, dr2_52, zc2_52, r_52, h52_1, (by omega), (by omega), rfl, rfl⟩) ⟨by omega, by omega⟩ dX2_share_55
        · exact absurd c_41 (by decide)
  · skip
    refine j_iconst G dX2_share_9 ?_
    refine j_goto 34 G dX2_share_10 (by decide) ?_
    refine j_put (ws' := [[(y0, jO 1 [iI 1, iI n, iI gr, iI pw, .ref aT, iI po, iI pr, iI ix, iI sd, iI gn, iI tk, iI ln, .ref aX, iI zs, iI zl, iI za, iI zf, iI ze, iI zi, .ref aR, .ref aM, .ref aG, .ref aN, .ref aQ, lI ls, lI wn, .ref aO, .ref aS, .ref aH, .ref aU, lI sc, iI zc, .ref aW, lI al, lI nr, lI dr, iI bp, lI ba, lI bb, lI hh])], [(aT, cI u 24 tb)], [(aH, cJ u 4 h)], [(aU, cJ u 4 ut)], [(aO, cJ u 16 ro)], [(aS, cJ u 4 ga)], [(aW, cJ u 4 wt)]]) G FX2 (jAt_1 0 rfl) 0 (by decide) q1844 rfl rfl rfl (Nat.le_of_ble_eq_true rfl) dX2_share_34 rfl ?_
    refine j_aload_n G 0 rfl dX2_share_37 ?_
    refine j_get G FX2 (jAt_1 0 rfl) 0 (by decide) q1844 rfl dX2_share_38 ?_
    refine j_if_le 48 G (by unfold iR; omega) dX2_share_41 (by decide) (fun c_41 => ?_) (fun c_41 => ?_)
    · exact absurd c_41 (by decide)
    · skip
      refine j_lconst 0 G rfl dX2_share_44 ?_
      refine j_goto 55 G dX2_share_45 (by decide) ?_
      exact j_lret G E (Or.inr (Or.inl ⟨(by omega), rfl, rfl⟩)) ⟨by omega, by omega⟩ dX2_share_55
theorem hY_X2_classes : jY yX2_classes 1 := ⟨by decide +kernel, by decide +kernel, by decide +kernel⟩
set_option maxHeartbeats 4000000 in
set_option maxRecDepth 100000 in
theorem c_X2_classes (l : Launch) (u : jU) (y0 aT aX aR aM aG aN aQ aO aS aH aU aW : Nat) (th n gr pw po pr ix sd gn tk ln zs zl za zf ze zi zc bp ls wn sc al nr dr ba bb hh : Int) (tb : Int → Int) (h : Int → Int) (ut : Int → Int) (ro : Int → Int) (ga : Int → Int) (wt : Int → Int) (of : Int) (hn : 2 ≤ n ∧ n ≤ 4) (hg : 0 ≤ gr ∧ gr ≤ 7) (hw : 0 ≤ pw ∧ pw ≤ 15) (hT : wT (tB tb) (tF tb)) (hRof : iR of) : jC l u yX2_classes cX2_classes 2 (some .int) 5 119 0 0 [.ref y0, iI of] [[(y0, jO 1 [iI th, iI n, iI gr, iI pw, .ref aT, iI po, iI pr, iI ix, iI sd, iI gn, iI tk, iI ln, .ref aX, iI zs, iI zl, iI za, iI zf, iI ze, iI zi, .ref aR, .ref aM, .ref aG, .ref aN, .ref aQ, lI ls, lI wn, .ref aO, .ref aS, .ref aH, .ref aU, lI sc, iI zc, .ref aW, lI al, lI nr, lI dr, iI bp, lI ba, lI bb, lI hh])], [(aT, cI u 24 tb)], [(aH, cJ u 4 h)], [(aU, cJ u 4 ut)], [(aO, cJ u 16 ro)], [(aS, cJ u 4 ga)], [(aW, cJ u 4 wt)]] (fun v_ w_ => (∃ (h2 ut2 ro2 ga2 wt2 : Int → Int) (sc2 al2 nr2 dr2 zc2 : Int) (r : Int), r = clC (n, gr, pw, of, tB tb, tF tb) ∧ sProg of = 1 ∧ v_ = some (iI r) ∧ w_ = [[(y0, jO 1 [iI 0, iI n, iI gr, iI pw, .ref aT, iI po, iI pr, iI ix, iI sd, iI gn, iI tk, iI ln, .ref aX, iI zs, iI zl, iI za, iI zf, iI ze, iI zi, .ref aR, .ref aM, .ref aG, .ref aN, .ref aQ, lI ls, lI wn, .ref aO, .ref aS, .ref aH, .ref aU, lI sc2, iI zc2, .ref aW, lI al2, lI nr2, lI dr2, iI bp, lI ba, lI bb, lI hh])], [(aT, cI u 24 tb)], [(aH, cJ u 4 h2)], [(aU, cJ u 4 ut2)], [(aO, cJ u 16 ro2)], [(aS, cJ u 4 ga2)], [(aW, cJ u 4 wt2)]]) ∨ (¬ sProg of = 1 ∧ v_ = some (iI 0) ∧ w_ = [[(y0, jO 1 [iI 1, iI n, iI gr, iI pw, .ref aT, iI po, iI pr, iI ix, iI sd, iI gn, iI tk, iI ln, .ref aX, iI zs, iI zl, iI za, iI zf, iI ze, iI zi, .ref aR, .ref aM, .ref aG, .ref aN, .ref aQ, lI ls, lI wn, .ref aO, .ref aS, .ref aH, .ref aU, lI sc, iI zc, .ref aW, lI al, lI nr, lI dr, iI bp, lI ba, lI bb, lI hh])], [(aT, cI u 24 tb)], [(aH, cJ u 4 h)], [(aU, cJ u 4 ut)], [(aO, cJ u 16 ro)], [(aS, cJ u 4 ga)], [(aW, cJ u 4 wt)]])) := by
  refine jC.of "FlashRatchetModel" (by decide +kernel) rfl (Nat.le_of_ble_eq_true rfl) [(0, .ref y0), (1, iI of)] rfl (fun X G E I => ?_)
  refine j_aload_n G 0 rfl dX2_classes_0 ?_
  refine j_iload_n G 1 rfl dX2_classes_1 ?_
  refine j_callS (wr := [[(y0, jO 1 [iI th, iI n, iI gr, iI pw, .ref aT, iI po, iI pr, iI ix, iI sd, iI gn, iI tk, iI ln, .ref aX, iI zs, iI zl, iI za, iI zf, iI ze, iI zi, .ref aR, .ref aM, .ref aG, .ref aN, .ref aQ, lI ls, lI wn, .ref aO, .ref aS, .ref aH, .ref aU, lI sc, iI zc, .ref aW, lI al, lI nr, lI dr, iI bp, lI ba, lI bb, lI hh])], [(aT, cI u 24 tb)], [(aH, cJ u 4 h)], [(aU, cJ u 4 ut)], [(aO, cJ u 16 ro)], [(aS, cJ u 4 ga)], [(aW, cJ u 4 wt)]]) (k' := 0) (n' := 0) G (c_X2_isProgram l u of hRof) hY_X2_isProgram q2010 q2011 q90 q2012 (jcut 7 [0, 1, 2, 3, 4, 5, 6] (by decide) rfl rfl) ⟨by omega, by omega, by omega, by omega, by omega, by omega⟩ (Nat.le_of_ble_eq_true rfl) dX2_classes_2 rfl (fun v_ w_ hp => ?_)
  obtain ⟨r_2, h2_1, h2_2, rfl, rfl⟩ := hp
  show jJ X u 2 [[(y0, jO 1 [iI th, iI n, iI gr, iI pw, .ref aT, iI po, iI pr, iI ix, iI sd, iI gn, iI tk, iI ln, .ref aX, iI zs, iI zl, iI za, iI zf, iI ze, iI zi, .ref aR, .ref aM, .ref aG, .ref aN, .ref aQ, lI ls, lI wn, .ref aO, .ref aS, .ref aH, .ref aU, lI sc, iI zc, .ref aW, lI al, lI nr, lI dr, iI bp, lI ba, lI bb, lI hh])], [(aT, cI u 24 tb)], [(aH, cJ u 4 h)], [(aU, cJ u 4 ut)], [(aO, cJ u 16 ro)], [(aS, cJ u 4 ga)], [(aW, cJ u 4 wt)]] [(0, .ref y0), (1, iI of)] 0 0 5 [iI r_2, .ref y0]
  refine j_if_eq 12 G (by unfold iR at *; omega) dX2_classes_5 (by decide) (fun c_5 => ?_) (fun c_5 => ?_)
  · skip
    refine j_iconst G dX2_classes_12 ?_
    refine j_put (ws' := [[(y0, jO 1 [iI 1, iI n, iI gr, iI pw, .ref aT, iI po, iI pr, iI ix, iI sd, iI gn, iI tk, iI ln, .ref aX, iI zs, iI zl, iI za, iI zf, iI ze, iI zi, .ref aR, .ref aM, .ref aG, .ref aN, .ref aQ, lI ls, lI wn, .ref aO, .ref aS, .ref aH, .ref aU, lI sc, iI zc, .ref aW, lI al, lI nr, lI dr, iI bp, lI ba, lI bb, lI hh])], [(aT, cI u 24 tb)], [(aH, cJ u 4 h)], [(aU, cJ u 4 ut)], [(aO, cJ u 16 ro)], [(aS, cJ u 4 ga)], [(aW, cJ u 4 wt)]]) G FX2 (jAt_1 0 rfl) 0 (by decide) q1844 rfl rfl rfl (Nat.le_of_ble_eq_true rfl) dX2_classes_13 rfl ?_
    refine j_aload_n G 0 rfl dX2_classes_16 ?_
    refine j_get G FX2 (jAt_1 0 rfl) 0 (by decide) q1844 rfl dX2_classes_17 ?_
    refine j_if_le 25 G (by unfold iR; omega) dX2_classes_20 (by decide) (fun c_20 => ?_) (fun c_20 => ?_)
    · exact absurd c_20 (by decide)
    · skip
      refine j_iconst G dX2_classes_23 ?_
      exact j_iret G E (Or.inr ⟨(by omega), rfl, rfl⟩) ⟨by omega, by omega⟩ dX2_classes_24
  · skip
    refine j_iconst G dX2_classes_8 ?_
    refine j_goto 13 G dX2_classes_9 (by decide) ?_
    refine j_put (ws' := [[(y0, jO 1 [iI 0, iI n, iI gr, iI pw, .ref aT, iI po, iI pr, iI ix, iI sd, iI gn, iI tk, iI ln, .ref aX, iI zs, iI zl, iI za, iI zf, iI ze, iI zi, .ref aR, .ref aM, .ref aG, .ref aN, .ref aQ, lI ls, lI wn, .ref aO, .ref aS, .ref aH, .ref aU, lI sc, iI zc, .ref aW, lI al, lI nr, lI dr, iI bp, lI ba, lI bb, lI hh])], [(aT, cI u 24 tb)], [(aH, cJ u 4 h)], [(aU, cJ u 4 ut)], [(aO, cJ u 16 ro)], [(aS, cJ u 4 ga)], [(aW, cJ u 4 wt)]]) G FX2 (jAt_1 0 rfl) 0 (by decide) q1844 rfl rfl rfl (Nat.le_of_ble_eq_true rfl) dX2_classes_13 rfl ?_
    refine j_aload_n G 0 rfl dX2_classes_16 ?_
    refine j_get G FX2 (jAt_1 0 rfl) 0 (by decide) q1844 rfl dX2_classes_17 ?_
    refine j_if_le 25 G (by unfold iR; omega) dX2_classes_20 (by decide) (fun c_20 => ?_) (fun c_20 => ?_)
    · skip
      refine j_aload_n G 0 rfl dX2_classes_25 ?_
      refine j_iload_n G 1 rfl dX2_classes_26 ?_
      refine j_callV (wr := []) (k' := 0) (n' := 0) G FX2 (c_X2_layAverage l u y0 aT aX aR aM aG aN aQ aO aS aH aU aW 0 n gr pw po pr ix sd gn tk ln zs zl za zf ze zi zc bp ls wn sc al nr dr ba bb hh tb h ut ro ga wt of hn hg hw hT (by omega)) (jAt_1 0 rfl) ⟨rfl, hY_X2_layAverage⟩ q2149 q2151 qs68 q90 q2152 (jcut 7 [0, 1, 2, 3, 4, 5, 6] (by decide) rfl rfl) ⟨by omega, by omega, by omega, by omega, by omega, by omega⟩ (Nat.le_of_ble_eq_true rfl) dX2_classes_27 rfl (fun v_ w_ hp => ?_)
      rcases hp with ⟨he2, ut2_27, ro2_27, ga2_27, wt2_27, al2_27, h27_1, h27_2, h27_3, rfl, rfl⟩ | ⟨he2, ut2_27, ro2_27, ga2_27, wt2_27, h27_1, rfl, rfl⟩
      · skip
        show jJ X u 2 [[(y0, jO 1 [iI 0, iI n, iI gr, iI pw, .ref aT, iI po, iI pr, iI ix, iI sd, iI gn, iI tk, iI ln, .ref aX, iI zs, iI zl, iI za, iI zf, iI ze, iI zi, .ref aR, .ref aM, .ref aG, .ref aN, .ref aQ, lI ls, lI wn, .ref aO, .ref aS, .ref aH, .ref aU, lI (rSc (n, gr, pw, of, tB tb, tF tb)), iI (clC (n, gr, pw, of, tB tb, tF tb)), .ref aW, lI al2_27, lI ((avF (n, gr, pw, of, tB tb, tF tb)).1), lI ((avF (n, gr, pw, of, tB tb, tF tb)).2), iI bp, lI ba, lI bb, lI hh])], [(aT, cI u 24 tb)], [(aH, cJ u 4 he2)], [(aU, cJ u 4 ut2_27)], [(aO, cJ u 16 ro2_27)], [(aS, cJ u 4 ga2_27)], [(aW, cJ u 4 wt2_27)]] [(0, .ref y0), (1, iI of)] 0 0 30 []
        refine j_aload_n G 0 rfl dX2_classes_30 ?_
        refine j_get G FX2 (jAt_1 0 rfl) 31 (by decide) q1875 rfl dX2_classes_31 ?_
        exact j_iret G E (Or.inl ⟨he2, ut2_27, ro2_27, ga2_27, wt2_27, (rSc (n, gr, pw, of, tB tb, tF tb)), al2_27, ((avF (n, gr, pw, of, tB tb, tF tb)).1), ((avF (n, gr, pw, of, tB tb, tF tb)).2), (clC (n, gr, pw, of, tB tb, tF tb)), (clC (n, gr, pw, of, tB tb, tF tb)), rfl, (by omega), rfl, rfl⟩) ⟨by omega, by omega⟩ dX2_classes_34
      · skip
        show jJ X u 2 [[(y0, jO 1 [iI 0, iI n, iI gr, iI pw, .ref aT, iI po, iI pr, iI ix, iI sd, iI gn, iI tk, iI ln, .ref aX, iI zs, iI zl, iI za, iI zf, iI ze, iI zi, .ref aR, .ref aM, .ref aG, .ref aN, .ref aQ, lI ls, lI wn, .ref aO, .ref aS, .ref aH, .ref aU, lI (rSc (n, gr, pw, of, tB tb, tF tb)), iI (clC (n, gr, pw, of, tB tb, tF tb)), .ref aW, lI al, lI 0, lI 0, iI bp, lI ba, lI bb, lI hh])], [(aT, cI u 24 tb)], [(aH, cJ u 4 he2)], [(aU, cJ u 4 ut2_27)], [(aO, cJ u 16 ro2_27)], [(aS, cJ u 4 ga2_27)], [(aW, cJ u 4 wt2_27)]] [(0, .ref y0), (1, iI of)] 0 0 30 []
        refine j_aload_n G 0 rfl dX2_classes_30 ?_
        refine j_get G FX2 (jAt_1 0 rfl) 31 (by decide) q1875 rfl dX2_classes_31 ?_
        exact j_iret G E (Or.inl ⟨he2, ut2_27, ro2_27, ga2_27, wt2_27, (rSc (n, gr, pw, of, tB tb, tF tb)), al, 0, 0, (clC (n, gr, pw, of, tB tb, tF tb)), (clC (n, gr, pw, of, tB tb, tF tb)), rfl, (by omega), rfl, rfl⟩) ⟨by omega, by omega⟩ dX2_classes_34
    · exact absurd c_20 (by decide)
