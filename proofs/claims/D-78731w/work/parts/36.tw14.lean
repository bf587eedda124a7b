theorem hY_X2_compare : jY yX2_compare 2 := ⟨by decide +kernel, by decide +kernel, by decide +kernel⟩
set_option maxHeartbeats 4000000 in
set_option maxRecDepth 100000 in
theorem c_X2_compare (l : Launch) (u : jU) (y0 aT aX aR aM aG aN aQ aO aS aH aU aW : Nat) (th n gr pw po pr ix sd gn tk ln zs zl za zf ze zi zc bp ls wn sc al nr dr ba bb hh : Int) (tb : Int → Int) (h : Int → Int) (ut : Int → Int) (ro : Int → Int) (ga : Int → Int) (wt : Int → Int) (a b : Int) (hn : 2 ≤ n ∧ n ≤ 4) (hg : 0 ≤ gr ∧ gr ≤ 7) (hw : 0 ≤ pw ∧ pw ≤ 15) (hT : wT (tB tb) (tF tb)) (hRa : iR a) (hRb : iR b) : jC l u yX2_compare cX2_compare 7 (some .int) 5 119 0 0 [.ref y0, iI a, iI b] [[(y0, jO 1 [iI th, iI n, iI gr, iI pw, .ref aT, iI po, iI pr, iI ix, iI sd, iI gn, iI tk, iI ln, .ref aX, iI zs, iI zl, iI za, iI zf, iI ze, iI zi, .ref aR, .ref aM, .ref aG, .ref aN, .ref aQ, lI ls, lI wn, .ref aO, .ref aS, .ref aH, .ref aU, lI sc, iI zc, .ref aW, lI al, lI nr, lI dr, iI bp, lI ba, lI bb, lI hh])], [(aT, cI u 24 tb)], [(aH, cJ u 4 h)], [(aU, cJ u 4 ut)], [(aO, cJ u 16 ro)], [(aS, cJ u 4 ga)], [(aW, cJ u 4 wt)]] (fun v_ w_ => (∃ (h2 ut2 ro2 ga2 wt2 : Int → Int) (sc2 al2 nr2 dr2 zc2 : Int) (r : Int), r = cmpQ (avF (n, gr, pw, a, tB tb, tF tb)).1 (avF (n, gr, pw, a, tB tb, tF tb)).2 (avF (n, gr, pw, b, tB tb, tF tb)).1 (avF (n, gr, pw, b, tB tb, tF tb)).2 ∧ (sProg a = 1 ∧ sProg b = 1) ∧ (clC (n, gr, pw, a, tB tb, tF tb) ≤ 1 ∧ clC (n, gr, pw, b, tB tb, tF tb) ≤ 1) ∧ v_ = some (iI r) ∧ w_ = [[(y0, jO 1 [iI 0, iI n, iI gr, iI pw, .ref aT, iI po, iI pr, iI ix, iI sd, iI gn, iI tk, iI ln, .ref aX, iI zs, iI zl, iI za, iI zf, iI ze, iI zi, .ref aR, .ref aM, .ref aG, .ref aN, .ref aQ, lI ls, lI wn, .ref aO, .ref aS, .ref aH, .ref aU, lI sc2, iI zc2, .ref aW, lI al2, lI nr2, lI dr2, iI bp, lI ba, lI bb, lI hh])], [(aT, cI u 24 tb)], [(aH, cJ u 4 h2)], [(aU, cJ u 4 ut2)], [(aO, cJ u 16 ro2)], [(aS, cJ u 4 ga2)], [(aW, cJ u 4 wt2)]]) ∨ ((¬ (sProg a = 1 ∧ sProg b = 1)) ∧ v_ = some (iI 0) ∧ w_ = [[(y0, jO 1 [iI 1, iI n, iI gr, iI pw, .ref aT, iI po, iI pr, iI ix, iI sd, iI gn, iI tk, iI ln, .ref aX, iI zs, iI zl, iI za, iI zf, iI ze, iI zi, .ref aR, .ref aM, .ref aG, .ref aN, .ref aQ, lI ls, lI wn, .ref aO, .ref aS, .ref aH, .ref aU, lI sc, iI zc, .ref aW, lI al, lI nr, lI dr, iI bp, lI ba, lI bb, lI hh])], [(aT, cI u 24 tb)], [(aH, cJ u 4 h)], [(aU, cJ u 4 ut)], [(aO, cJ u 16 ro)], [(aS, cJ u 4 ga)], [(aW, cJ u 4 wt)]]) ∨ (∃ (h2 ut2 ro2 ga2 wt2 : Int → Int) (sc2 al2 nr2 dr2 zc2 : Int), (sProg a = 1 ∧ sProg b = 1) ∧ (¬ (clC (n, gr, pw, a, tB tb, tF tb) ≤ 1 ∧ clC (n, gr, pw, b, tB tb, tF tb) ≤ 1)) ∧ v_ = some (iI 0) ∧ w_ = [[(y0, jO 1 [iI 2, iI n, iI gr, iI pw, .ref aT, iI po, iI pr, iI ix, iI sd, iI gn, iI tk, iI ln, .ref aX, iI zs, iI zl, iI za, iI zf, iI ze, iI zi, .ref aR, .ref aM, .ref aG, .ref aN, .ref aQ, lI ls, lI wn, .ref aO, .ref aS, .ref aH, .ref aU, lI sc2, iI zc2, .ref aW, lI al2, lI nr2, lI dr2, iI bp, lI ba, lI bb, lI hh])], [(aT, cI u 24 tb)], [(aH, cJ u 4 h2)], [(aU, cJ u 4 ut2)], [(aO, cJ u 16 ro2)], [(aS, cJ u 4 ga2)], [(aW, cJ u 4 wt2)]])) := by
  refine jC.of "FlashRatchetModel" (by decide +kernel) rfl (Nat.le_of_ble_eq_true rfl) [(0, .ref y0), (1, iI a), (2, iI b)] rfl (fun X G E I => ?_)
  refine j_aload_n G 0 rfl dX2_compare_0 ?_
  refine j_iload_n G 1 rfl dX2_compare_1 ?_
  refine j_callS (wr := [[(y0, jO 1 [iI th, iI n, iI gr, iI pw, .ref aT, iI po, iI pr, iI ix, iI sd, iI gn, iI tk, iI ln, .ref aX, iI zs, iI zl, iI za, iI zf, iI ze, iI zi, .ref aR, .ref aM, .ref aG, .ref aN, .ref aQ, lI ls, lI wn, .ref aO, .ref aS, .ref aH, .ref aU, lI sc, iI zc, .ref aW, lI al, lI nr, lI dr, iI bp, lI ba, lI bb, lI hh])], [(aT, cI u 24 tb)], [(aH, cJ u 4 h)], [(aU, cJ u 4 ut)], [(aO, cJ u 16 ro)], [(aS, cJ u 4 ga)], [(aW, cJ u 4 wt)]]) (k' := 0) (n' := 0) G (c_X2_isProgram l u a hRa) hY_X2_isProgram q2010 q2011 q90 q2012 (jcut 7 [0, 1, 2, 3, 4, 5, 6] (by decide) rfl rfl) ⟨by omega, by omega, by omega, by omega, by omega, by omega⟩ (Nat.le_of_ble_eq_true rfl) dX2_compare_2 rfl (fun v_ w_ hp => ?_)
  obtain ⟨r_2, h2_1, h2_2, rfl, rfl⟩ := hp
  show jJ X u 7 [[(y0, jO 1 [iI th, iI n, iI gr, iI pw, .ref aT, iI po, iI pr, iI ix, iI sd, iI gn, iI tk, iI ln, .ref aX, iI zs, iI zl, iI za, iI zf, iI ze, iI zi, .ref aR, .ref aM, .ref aG, .ref aN, .ref aQ, lI ls, lI wn, .ref aO, .ref aS, .ref aH, .ref aU, lI sc, iI zc, .ref aW, lI al, lI nr, lI dr, iI bp, lI ba, lI bb, lI hh])], [(aT, cI u 24 tb)], [(aH, cJ u 4 h)], [(aU, cJ u 4 ut)], [(aO, cJ u 16 ro)], [(aS, cJ u 4 ga)], [(aW, cJ u 4 wt)]] [(0, .ref y0), (1, iI a), (2, iI b)] 0 0 5 [iI r_2, .ref y0]
  refine j_if_eq 19 G (by unfold iR at *; omega) dX2_compare_5 (by decide) (fun c_5 => ?_) (fun c_5 => ?_)
  · skip
    refine j_iconst G dX2_compare_19 ?_
    refine j_put (ws' := [[(y0, jO 1 [iI 1, iI n, iI gr, iI pw, .ref aT, iI po, iI pr, iI ix, iI sd, iI gn, iI tk, iI ln, .ref aX, iI zs, iI zl, iI za, iI zf, iI ze, iI zi, .ref aR, .ref aM, .ref aG, .ref aN, .ref aQ, lI ls, lI wn, .ref aO, .ref aS, .ref aH, .ref aU, lI sc, iI zc, .ref aW, lI al, lI nr, lI dr, iI bp, lI ba, lI bb, lI hh])], [(aT, cI u 24 tb)], [(aH, cJ u 4 h)], [(aU, cJ u 4 ut)], [(aO, cJ u 16 ro)], [(aS, cJ u 4 ga)], [(aW, cJ u 4 wt)]]) G FX2 (jAt_1 0 rfl) 0 (by decide) q1844 rfl rfl rfl (Nat.le_of_ble_eq_true rfl) dX2_compare_20 rfl ?_
    refine j_aload_n G 0 rfl dX2_compare_23 ?_
    refine j_get G FX2 (jAt_1 0 rfl) 0 (by decide) q1844 rfl dX2_compare_24 ?_
    refine j_if_le 32 G (by unfold iR; omega) dX2_compare_27 (by decide) (fun c_27 => ?_) (fun c_27 => ?_)
    · exact absurd c_27 (by decide)
    · skip
      refine j_iconst G dX2_compare_30 ?_
      exact j_iret G E (Or.inr (Or.inl ⟨(by omega), (by first | rfl | (exfalso; omega)), (by first | rfl | (exfalso; omega))⟩)) ⟨by omega, by omega⟩ dX2_compare_31
  · skip
    refine j_iload_n G 2 rfl dX2_compare_8 ?_
    refine j_callS (wr := [[(y0, jO 1 [iI th, iI n, iI gr, iI pw, .ref aT, iI po, iI pr, iI ix, iI sd, iI gn, iI tk, iI ln, .ref aX, iI zs, iI zl, iI za, iI zf, iI ze, iI zi, .ref aR, .ref aM, .ref aG, .ref aN, .ref aQ, lI ls, lI wn, .ref aO, .ref aS, .ref aH, .ref aU, lI sc, iI zc, .ref aW, lI al, lI nr, lI dr, iI bp, lI ba, lI bb, lI hh])], [(aT, cI u 24 tb)], [(aH, cJ u 4 h)], [(aU, cJ u 4 ut)], [(aO, cJ u 16 ro)], [(aS, cJ u 4 ga)], [(aW, cJ u 4 wt)]]) (k' := 0) (n' := 0) G (c_X2_isProgram l u b hRb) hY_X2_isProgram q2010 q2011 q90 q2012 (jcut 7 [0, 1, 2, 3, 4, 5, 6] (by decide) rfl rfl) ⟨by omega, by omega, by omega, by omega, by omega, by omega⟩ (Nat.le_of_ble_eq_true rfl) dX2_compare_9 rfl (fun v_ w_ hp => ?_)
    obtain ⟨r_9, h9_1, h9_2, rfl, rfl⟩ := hp
    show jJ X u 7 [[(y0, jO 1 [iI th, iI n, iI gr, iI pw, .ref aT, iI po, iI pr, iI ix, iI sd, iI gn, iI tk, iI ln, .ref aX, iI zs, iI zl, iI za, iI zf, iI ze, iI zi, .ref aR, .ref aM, .ref aG, .ref aN, .ref aQ, lI ls, lI wn, .ref aO, .ref aS, .ref aH, .ref aU, lI sc, iI zc, .ref aW, lI al, lI nr, lI dr, iI bp, lI ba, lI bb, lI hh])], [(aT, cI u 24 tb)], [(aH, cJ u 4 h)], [(aU, cJ u 4 ut)], [(aO, cJ u 16 ro)], [(aS, cJ u 4 ga)], [(aW, cJ u 4 wt)]] [(0, .ref y0), (1, iI a), (2, iI b)] 0 0 12 [iI r_9, .ref y0]
    refine j_if_eq 19 G (by unfold iR at *; omega) dX2_compare_12 (by decide) (fun c_12 => ?_) (fun c_12 => ?_)
    · skip
      refine j_iconst G dX2_compare_19 ?_
      refine j_put (ws' := [[(y0, jO 1 [iI 1, iI n, iI gr, iI pw, .ref aT, iI po, iI pr, iI ix, iI sd, iI gn, iI tk, iI ln, .ref aX, iI zs, iI zl, iI za, iI zf, iI ze, iI zi, .ref aR, .ref aM, .ref aG, .ref aN, .ref aQ, lI ls, lI wn, .ref aO, .ref aS, .ref aH, .ref aU, lI sc, iI zc, .ref aW, lI al, lI nr, lI dr, iI bp, lI ba, lI bb, lI hh])], [(aT, cI u 24 tb)], [(aH, cJ u 4 h)], [(aU, cJ u 4 ut)], [(aO, cJ u 16 ro)], [(aS, cJ u 4 ga)], [(aW, cJ u 4 wt)]]) G FX2 (jAt_1 0 rfl) 0 (by decide) q1844 rfl rfl rfl (Nat.le_of_ble_eq_true rfl) dX2_compare_20 rfl ?_
      refine j_aload_n G 0 rfl dX2_compare_23 ?_
      refine j_get G FX2 (jAt_1 0 rfl) 0 (by decide) q1844 rfl dX2_compare_24 ?_
      refine j_if_le 32 G (by unfold iR; omega) dX2_compare_27 (by decide) (fun c_27 => ?_) (fun c_27 => ?_)
      · exact absurd c_27 (by decide)
      · skip
        refine j_iconst G dX2_compare_30 ?_
        exact j_iret G E (Or.inr (Or.inl ⟨(by omega), (by first | rfl | (exfalso; omega)), (by first | rfl | (exfalso; omega))⟩)) ⟨by omega, by omega⟩ dX2_compare_31
    · skip
      refine j_iconst G dX2_compare_15 ?_
      refine j_goto 20 G dX2_compare_16 (by decide) ?_
      refine j_put (ws' := [[(y0, jO 1 [iI 0, iI n, iI gr, iI pw, .ref aT, iI po, iI pr, iI ix, iI sd, iI gn, iI tk, iI ln, .ref aX, iI zs, iI zl, iI za, iI zf, iI ze, iI zi, .ref aR, .ref aM, .ref aG, .ref aN, .ref aQ, lI ls, lI wn, .ref aO, .ref aS, .ref aH, .ref aU, lI sc, iI zc, .ref aW, lI al, lI nr, lI dr, iI bp, lI ba, lI bb, lI hh])], [(aT, cI u 24 tb)], [(aH, cJ u 4 h)], [(aU, cJ u 4 ut)], [(aO, cJ u 16 ro)], [(aS, cJ u 4 ga)], [(aW, cJ u 4 wt)]]) G FX2 (jAt_1 0 rfl) 0 (by decide) q1844 rfl rfl rfl (Nat.le_of_ble_eq_true rfl) dX2_compare_20 rfl ?_
      refine j_aload_n G 0 rfl dX2_compare_23 ?_
      refine j_get G FX2 (jAt_1 0 rfl) 0 (by decide) q1844 rfl dX2_compare_24 ?_
      refine j_if_le 32 G (by unfold iR; omega) dX2_compare_27 (by decide) (fun c_27 => ?_) (fun c_27 => ?_)
      · skip
        refine j_aload_n G 0 rfl dX2_compare_32 ?_
        refine j_iload_n G 1 rfl dX2_compare_33 ?_
        refine j_callV (wr := []) (k' := 0) (n' := 0) G FX2 (c_X2_layAverage l u y0 aT aX aR aM aG aN aQ aO aS aH aU aW 0 n gr pw po pr ix sd gn tk ln zs zl za zf ze zi zc bp ls wn sc al nr dr ba bb hh tb h ut ro ga wt a hn hg hw hT (by omega)) (jAt_1 0 rfl) ⟨rfl, hY_X2_layAverage⟩ q2149 q2151 qs68 q90 q2152 (jcut 7 [0, 1, 2, 3, 4, 5, 6] (by decide) rfl rfl) ⟨by omega, by omega, by omega, by omega, by omega, by omega⟩ (Nat.le_of_ble_eq_true rfl) dX2_compare_34 rfl (fun v_ w_ hp => ?_)
        rcases hp with ⟨he2, ut2_34, ro2_34, ga2_34, wt2_34, al2_34, h34_1, h34_2, h34_3, rfl, rfl⟩ | ⟨he2, ut2_34, ro2_34, ga2_34, wt2_34, h34_1, rfl, rfl⟩
        · skip
          show jJ X u 7 [[(y0, jO 1 [iI 0, iI n, iI gr, iI pw, .ref aT, iI po, iI pr, iI ix, iI sd, iI gn, iI tk, iI ln, .ref aX, iI zs, iI zl, iI za, iI zf, iI ze, iI zi, .ref aR, .ref aM, .ref aG, .ref aN, .ref aQ, lI ls, lI wn, .ref aO, .ref aS, .ref aH, .ref aU, lI (rSc (n, gr, pw, a, tB tb, tF tb)), iI (clC (n, gr, pw, a, tB tb, tF tb)), .ref aW, lI al2_34, lI ((avF (n, gr, pw, a, tB tb, tF tb)).1), lI ((avF (n, gr, pw, a, tB tb, tF tb)).2), iI bp, lI ba, lI bb, lI hh])], [(aT, cI u 24 tb)], [(aH, cJ u 4 he2)], [(aU, cJ u 4 ut2_34)], [(aO, cJ u 16 ro2_34)], [(aS, cJ u 4 ga2_34)], [(aW, cJ u 4 wt2_34)]] [(0, .ref y0), (1, iI a), (2, iI b)] 0 0 37 []
          have hvh34_1 := avF_R (c := (n, gr, pw, a, tB tb, tF tb)) ⟨hn, hg, hw, (by omega), hT⟩ h34_1
          refine j_aload_n G 0 rfl dX2_compare_37 ?_
          refine j_get G FX2 (jAt_1 0 rfl) 34 (by decide) q1878 rfl dX2_compare_38 ?_
          refine j_lstore_n G [(3, lI ((avF (n, gr, pw, a, tB tb, tF tb)).1)), (0, .ref y0), (1, iI a), (2, iI b)] rfl (by decide) dX2_compare_41 ?_
          refine j_aload_n G 1 rfl dX2_compare_42 ?_
          refine j_get G FX2 (jAt_1 0 rfl) 35 (by decide) q1879 rfl dX2_compare_43 ?_
          refine j_lstore G [(5, lI ((avF (n, gr, pw, a, tB tb, tF tb)).2)), (3, lI ((avF (n, gr, pw, a, tB tb, tF tb)).1)), (0, .ref y0), (1, iI a), (2, iI b)] rfl (by decide) dX2_compare_46 ?_
          refine j_aload_n G 2 rfl dX2_compare_48 ?_
          refine j_iload_n G 4 rfl dX2_compare_49 ?_
          refine j_callV (wr := []) (k' := 0) (n' := 0) G FX2 (c_X2_layAverage l u y0 aT aX aR aM aG aN aQ aO aS aH aU aW 0 n gr pw po pr ix sd gn tk ln zs zl za zf ze zi (clC (n, gr, pw, a, tB tb, tF tb)) bp ls wn (rSc (n, gr, pw, a, tB tb, tF tb)) al2_34 ((avF (n, gr, pw, a, tB tb, tF tb)).1) ((avF (n, gr, pw, a, tB tb, tF tb)).2) ba bb hh tb he2 ut2_34 ro2_34 ga2_34 wt2_34 b hn hg hw hT (by omega)) (jAt_1 0 rfl) ⟨rfl, hY_X2_layAverage⟩ q2149 q2151 qs68 q90 q2152 (jcut 7 [0, 1, 2, 3, 4, 5, 6] (by decide) rfl rfl) ⟨by omega, by omega, by omega, by omega, by omega, by omega⟩ (Nat.le_of_ble_eq_true rfl) dX2_compare_50 rfl (fun v_ w_ hp => ?_)
          rcases hp with ⟨he2, ut2_50, ro2_50, ga2_50, wt2_50, al2_50, h50_1, h50_2, h50_3, rfl, rfl⟩ | ⟨he2, ut2_50, ro2_50, ga2_50, wt2_50, h50_1, rfl, rfl⟩
          · skip
            show jJ X u 7 [[(y0, jO 1 [iI 0, iI n, iI gr, iI pw, .ref aT, iI po, iI pr, iI ix, iI sd, iI gn, iI tk, iI ln, .ref aX, iI zs, iI zl, iI za, iI zf, iI ze, iI zi, .ref aR, .ref aM, .ref aG, .ref aN, .ref aQ, lI ls, lI wn, .ref aO, .ref aS, .ref aH, .ref aU, lI (rSc (n, gr, pw, b, tB tb, tF tb)), iI (clC (n, gr, pw, b, tB tb, tF tb)), .ref aW, lI al2_50, lI ((avF (n, gr, pw, b, tB tb, tF tb)).1), lI ((avF (n, gr, pw, b, tB tb, tF tb)).2), iI bp, lI ba, lI bb, lI hh])], [(aT, cI u 24 tb)], [(aH, cJ u 4 he2)], [(aU, cJ u 4 ut2_50)], [(aO, cJ u 16 ro2_50)], [(aS, cJ u 4 ga2_50)], [(aW, cJ u 4 wt2_50)]] [(5, lI ((avF (n, gr, pw, a, tB tb, tF tb)).2)), (3, lI ((avF (n, gr, pw, a, tB tb, tF tb)).1)), (0, .ref y0), (1, iI a), (2, iI b)] 0 0 53 []
            have hvh50_1 := avF_R (c := (n, gr, pw, b, tB tb, tF tb)) ⟨hn, hg, hw, (by omega), hT⟩ h50_1
            refine j_aload_n G 2 rfl dX2_compare_53 ?_
            refine j_lload G 0 rfl dX2_compare_54 ?_
            refine j_lconst 0 G rfl dX2_compare_56 ?_
            refine j_lcmp G (by unfold lR at *; omega) (by unfold lR; omega) dX2_compare_57 ?_
            have k_58 := jCmp_c ((avF (n, gr, pw, a, tB tb, tF tb)).2) 0
            refine j_if_eq 70 G (by unfold iR at *; omega) dX2_compare_58 (by decide) (fun c_58 => ?_) (fun c_58 => ?_)
            · skip
              refine j_iconst G dX2_compare_70 ?_
              refine j_goto 75 G dX2_compare_71 (by decide) ?_
              refine j_put (ws' := [[(y0, jO 1 [iI 2, iI n, iI gr, iI pw, .ref aT, iI po, iI pr, iI ix, iI sd, iI gn, iI tk, iI ln, .ref aX, iI zs, iI zl, iI za, iI zf, iI ze, iI zi, .ref aR, .ref aM, .ref aG, .ref aN, .ref aQ, lI ls, lI wn, .ref aO, .ref aS, .ref aH, .ref aU, lI (rSc (n, gr, pw, b, tB tb, tF tb)), iI (clC (n, gr, pw, b, tB tb, tF tb)), .ref aW, lI al2_50, lI ((avF (n, gr, pw, b, tB tb, tF tb)).1), lI ((avF (n, gr, pw, b, tB tb, tF tb)).2), iI bp, lI ba, lI bb, lI hh])], [(aT, cI u 24 tb)], [(aH, cJ u 4 he2)], [(aU, cJ u 4 ut2_50)], [(aO, cJ u 16 ro2_50)], [(aS, cJ u 4 ga2_50)], [(aW, cJ u 4 wt2_50)]]) G FX2 (jAt_1 0 rfl) 0 (by decide) q1844 rfl rfl rfl (Nat.le_of_ble_eq_true rfl) dX2_compare_75 rfl ?_
              refine j_aload_n G 2 rfl dX2_compare_78 ?_
              refine j_get G FX2 (jAt_1 0 rfl) 0 (by decide) q1844 rfl dX2_compare_79 ?_
              refine j_if_le 89 G (by unfold iR; omega) dX2_compare_82 (by decide) (fun c_82 => ?_) (fun c_82 => ?_)
              · exact absurd c_82 (by decide)
              · skip
                refine j_iconst G dX2_compare_85 ?_
                refine j_goto 103 G dX2_compare_86 (by decide) ?_
                exact j_iret G E (Or.inr (Or.inr ⟨he2, ut2_50, ro2_50, ga2_50, wt2_50, (rSc (n, gr, pw, b, tB tb, tF tb)), al2_50, ((avF (n, gr, pw, b, tB tb, tF tb)).1), ((avF (n, gr, pw, b, tB tb, tF tb)).2), (clC (n, gr, pw, b, tB tb, tF tb)), (by omega), (by omega), (by first | rfl | (exfalso; omega)), (by first | rfl | (exfalso; omega))⟩)) ⟨by omega, by omega⟩ dX2_compare_103
            · skip
              refine j_aload_n G 2 rfl dX2_compare_61 ?_
              refine j_get G FX2 (jAt_1 0 rfl) 35 (by decide) q1879 rfl dX2_compare_62 ?_
              refine j_lconst 0 G rfl dX2_compare_65 ?_
              refine j_lcmp G (by unfold lR at *; omega) (by unfold lR; omega) dX2_compare_66 ?_
              have k_67 := jCmp_c ((avF (n, gr, pw, b, tB tb, tF tb)).2) 0
              refine j_if_ne 74 G (by unfold iR at *; omega) dX2_compare_67 (by decide) (fun c_67 => ?_) (fun c_67 => ?_)
              · skip
                refine j_iconst G dX2_compare_74 ?_
                refine j_put (ws' := [[(y0, jO 1 [iI 0, iI n, iI gr, iI pw, .ref aT, iI po, iI pr, iI ix, iI sd, iI gn, iI tk, iI ln, .ref aX, iI zs, iI zl, iI za, iI zf, iI ze, iI zi, .ref aR, .ref aM, .ref aG, .ref aN, .ref aQ, lI ls, lI wn, .ref aO, .ref aS, .ref aH, .ref aU, lI (rSc (n, gr, pw, b, tB tb, tF tb)), iI (clC (n, gr, pw, b, tB tb, tF tb)), .ref aW, lI al2_50, lI ((avF (n, gr, pw, b, tB tb, tF tb)).1), lI ((avF (n, gr, pw, b, tB tb, tF tb)).2), iI bp, lI ba, lI bb, lI hh])], [(aT, cI u 24 tb)], [(aH, cJ u 4 he2)], [(aU, cJ u 4 ut2_50)], [(aO, cJ u 16 ro2_50)], [(aS, cJ u 4 ga2_50)], [(aW, cJ u 4 wt2_50)]]) G FX2 (jAt_1 0 rfl) 0 (by decide) q1844 rfl rfl rfl (Nat.le_of_ble_eq_true rfl) dX2_compare_75 rfl ?_
                refine j_aload_n G 2 rfl dX2_compare_78 ?_
                refine j_get G FX2 (jAt_1 0 rfl) 0 (by decide) q1844 rfl dX2_compare_79 ?_
                refine j_if_le 89 G (by unfold iR; omega) dX2_compare_82 (by decide) (fun c_82 => ?_) (fun c_82 => ?_)
                · skip
                  refine j_lload_n G 1 rfl dX2_compare_89 ?_
                  refine j_lload G 0 rfl dX2_compare_90 ?_
                  refine j_aload_n G 2 rfl dX2_compare_92 ?_
                  refine j_get G FX2 (jAt_1 0 rfl) 34 (by decide) q1878 rfl dX2_compare_93 ?_
                  refine j_aload_n G 2 rfl dX2_compare_96 ?_
                  refine j_get G FX2 (jAt_1 0 rfl) 35 (by decide) q1879 rfl dX2_compare_97 ?_
                  refine j_callS (wr := [[(y0, jO 1 [iI 0, iI n, iI gr, iI pw, .ref aT, iI po, iI pr, iI ix, iI sd, iI gn, iI tk, iI ln, .ref aX, iI zs, iI zl, iI za, iI zf, iI ze, iI zi, .ref aR, .ref aM, .ref aG, .ref aN, .ref aQ, lI ls, lI wn, .ref aO, .ref aS, .ref aH, .ref aU, lI (rSc (n, gr, pw, b, tB tb, tF tb)), iI (clC (n, gr, pw, b, tB tb, tF tb)), .ref aW, lI al2_50, lI ((avF (n, gr, pw, b, tB tb, tF tb)).1), lI ((avF (n, gr, pw, b, tB tb, tF tb)).2), iI bp, lI ba, lI bb, lI hh])], [(aT, cI u 24 tb)], [(aH, cJ u 4 he2)], [(aU, cJ u 4 ut2_50)], [(aO, cJ u 16 ro2_50)], [(aS, cJ u 4 ga2_50)], [(aW, cJ u 4 wt2_50)]]) (k' := 0) (n' := 0) G (c_X2_sign l u ((avF (n, gr, pw, a, tB tb, tF tb)).1) ((avF (n, gr, pw, a, tB tb, tF tb)).2) ((avF (n, gr, pw, b, tB tb, tF tb)).1) ((avF (n, gr, pw, b, tB tb, tF tb)).2) (by omega) (by omega) (by omega) (by omega)) hY_X2_sign q2200 q2201 q90 q2202 (jcut 7 [0, 1, 2, 3, 4, 5, 6] (by decide) rfl rfl) ⟨by omega, by omega, by omega, by omega, by omega, by omega⟩ (Nat.le_of_ble_eq_true rfl) dX2_compare_100 rfl (fun v_ w_ hp => ?_)
                  obtain ⟨rfl, rfl⟩ := hp
                  show jJ X u 7 [[(y0, jO 1 [iI 0, iI n, iI gr, iI pw, .ref aT, iI po, iI pr, iI ix, iI sd, iI gn, iI tk, iI ln, .ref aX, iI zs, iI zl, iI za, iI zf, iI ze, iI zi, .ref aR, .ref aM, .ref aG, .ref aN, .ref aQ, lI ls, lI wn, .ref aO, .ref aS, .ref aH, .ref aU, lI (rSc (n, gr, pw, b, tB tb, tF tb)), iI (clC (n, gr, pw, b, tB tb, tF tb)), .ref aW, lI al2_50, lI ((avF (n, gr, pw, b, tB tb, tF tb)).1), lI ((avF (n, gr, pw, b, tB tb, tF tb)).2), iI bp, lI ba, lI bb, lI hh])], [(aT, cI u 24 tb)], [(aH, cJ u 4 he2)], [(aU, cJ u 4 ut2_50)], [(aO, cJ u 16 ro2_50)], [(aS, cJ u 4 ga2_50)], [(aW, cJ u 4 wt2_50)]] [(5, lI ((avF (n, gr, pw, a, tB tb, tF tb)).2)), (3, lI ((avF (n, gr, pw, a, tB tb, tF tb)).1)), (0, .ref y0), (1, iI a), (2, iI b)] 0 0 103 [iI (cmpQ ((avF (n, gr, pw, a, tB tb, tF tb)).1) ((avF (n, gr, pw, a, tB tb, tF tb)).2) ((avF (n, gr, pw, b, tB tb, tF tb)).1) ((avF (n, gr, pw, b, tB tb, tF tb)).2))]
                  exact j_iret G E (Or.inl ⟨he2, ut2_50, ro2_50, ga2_50, wt2_50, (rSc (n, gr, pw, b, tB tb, tF tb)), al2_50, ((avF (n, gr, pw, b, tB tb, tF tb)).1), ((avF (n, gr, pw, b, tB tb, tF tb)).2), (clC (n, gr, pw, b, tB tb, tF tb)), (cmpQ ((avF (n, gr, pw, a, tB tb, tF tb)).1) ((avF (n, gr, pw, a, tB tb, tF tb)).2) ((avF (n, gr, pw, b, tB tb, tF tb)).1) ((avF (n, gr, pw, b, tB tb, tF tb)).2)), (by first | rfl | (exfalso; omega)), (by omega), (by omega), (by first | rfl | (exfalso; omega)), (by first | rfl | (exfalso; omega))⟩) ⟨by omega, by omega⟩ dX2_compare_103
                · exact absurd c_82 (by decide)
              · skip
                refine j_iconst G dX2_compare_70 ?_
                refine j_goto 75 G dX2_compare_71 (by decide) ?_
                refine j_put (ws' := [[(y0, jO 1 [iI 2, iI n, iI gr, iI pw, .ref aT, iI po, iI pr, iI ix, iI sd, iI gn, iI tk, iI ln, .ref aX, iI zs, iI zl, iI za, iI zf, iI ze, iI zi, .ref aR, .ref aM, .ref aG, .ref aN, .ref aQ, lI ls, lI wn, .ref aO, .ref aS, .ref aH, .ref aU, lI (rSc (n, gr, pw, b, tB tb, tF tb)), iI (clC (n, gr, pw, b, tB tb, tF tb)), .ref aW, lI al2_50, lI ((avF (n, gr, pw, b, tB tb, tF tb)).1), lI ((avF (n, gr, pw, b, tB tb, tF tb)).2), iI bp, lI ba, lI bb, lI hh])], [(aT, cI u 24 tb)], [(aH, cJ u 4 he2)], [(aU, cJ u 4 ut2_50)], [(aO, cJ u 16 ro2_50)], [(aS, cJ u 4 ga2_50)], [(aW, cJ u 4 wt2_50)]]) G FX2 (jAt_1 0 rfl) 0 (by decide) q1844 rfl rfl rfl (Nat.le_of_ble_eq_true rfl) dX2_compare_75 rfl ?_
                refine j_aload_n G 2 rfl dX2_compare_78 ?_
                refine j_get G FX2 (jAt_1 0 rfl) 0 (by decide) q1844 rfl dX2_compare_79 ?_
                refine j_if_le 89 G (by unfold iR; omega) dX2_compare_82 (by decide) (fun c_82 => ?_) (fun c_82 => ?_)
                · exact absurd c_82 (by decide)
                · skip
                  refine j_iconst G dX2_compare_85 ?_
                  refine j_goto 103 G dX2_compare_86 (by decide) ?_
                  exact j_iret G E (Or.inr (Or.inr ⟨he2, ut2_50, ro2_50, ga2_50, wt2_50, (rSc (n, gr, pw, b, tB tb, tF tb)), al2_50, ((avF (n, gr, pw, b, tB tb, tF tb)).1), ((avF (n, gr, pw, b, tB tb, tF tb)).2), (clC (n, gr, pw, b, tB tb, tF tb)), (by omega), (by omega), (by first | rfl | (exfalso; omega)), (by first | rfl | (exfalso; omega))⟩)) ⟨by omega, by omega⟩ dX2_compare_103
          · skip
            show jJ X u 7 [[(y0, jO 1 [iI 0, iI n, iI gr, iI pw, .ref aT, iI po, iI pr, iI ix, iI sd, iI gn, iI tk, iI ln, .ref aX, iI zs, iI zl, iI za, iI zf, iI ze, iI zi, .ref aR, .ref aM, .ref aG, .ref aN, .ref aQ, lI ls, lI wn, .ref aO, .ref aS, .ref aH, .ref aU, lI (rSc (n, gr, pw, b, tB tb, tF tb)), iI (clC (n, gr, pw, b, tB tb, tF tb)), .ref aW, lI al2_34, lI 0, lI 0, iI bp, lI ba, lI bb, lI hh])], [(aT, cI u 24 tb)], [(aH, cJ u 4 he2)], [(aU, cJ u 4 ut2_50)], [(aO, cJ u 16 ro2_50)], [(aS, cJ u 4 ga2_50)], [(aW, cJ u 4 wt2_50)]] [(5, lI ((avF (n, gr, pw, a, tB tb, tF tb)).2)), (3, lI ((avF (n, gr, pw, a, tB tb, tF tb)).1)), (0, .ref y0), (1, iI a), (2, iI b)] 0 0 53 []
            have hu := hn.1
            refine j_aload_n G 2 rfl dX2_compare_53 ?_
            refine j_lload G 0 rfl dX2_compare_54 ?_
            refine j_lconst 0 G rfl dX2_compare_56 ?_
            refine j_lcmp G (by unfold lR at *; omega) (by unfold lR; omega) dX2_compare_57 ?_
            have k_58 := jCmp_c ((avF (n, gr, pw, a, tB tb, tF tb)).2) 0
            refine j_if_eq 70 G (by unfold iR at *; omega) dX2_compare_58 (by decide) (fun c_58 => ?_) (fun c_58 => ?_)
            · skip
              refine j_iconst G dX2_compare_70 ?_
              refine j_goto 75 G dX2_compare_71 (by decide) ?_
              refine j_put (ws' := [[(y0, jO 1 [iI 2, iI n, iI gr, iI pw, .ref aT, iI po, iI pr, iI ix, iI sd, iI gn, iI tk, iI ln, .ref aX, iI zs, iI zl, iI za, iI zf, iI ze, iI zi, .ref aR, .ref aM, .ref aG, .ref aN, .ref aQ, lI ls, lI wn, .ref aO, .ref aS, .ref aH, .ref aU, lI (rSc (n, gr, pw, b, tB tb, tF tb)), iI (clC (n, gr, pw, b, tB tb, tF tb)), .ref aW, lI al2_34, lI 0, lI 0, iI bp, lI ba, lI bb, lI hh])], [(aT, cI u 24 tb)], [(aH, cJ u 4 he2)], [(aU, cJ u 4 ut2_50)], [(aO, cJ u 16 ro2_50)], [(aS, cJ u 4 ga2_50)], [(aW, cJ u 4 wt2_50)]]) G FX2 (jAt_1 0 rfl) 0 (by decide) q1844 rfl rfl rfl (Nat.le_of_ble_eq_true rfl) dX2_compare_75 rfl ?_
              refine j_aload_n G 2 rfl dX2_compare_78 ?_
              refine j_get G FX2 (jAt_1 0 rfl) 0 (by decide) q1844 rfl dX2_compare_79 ?_
              refine j_if_le 89 G (by unfold iR; omega) dX2_compare_82 (by decide) (fun c_82 => ?_) (fun c_82 => ?_)
              · exact absurd c_82 (by decide)
              · skip
                refine j_iconst G dX2_compare_85 ?_
                refine j_goto 103 G dX2_compare_86 (by decide) ?_
                exact j_iret G E (Or.inr (Or.inr ⟨he2, ut2_50, ro2_50, ga2_50, wt2_50, (rSc (n, gr, pw, b, tB tb, tF tb)), al2_34, 0, 0, (clC (n, gr, pw, b, tB tb, tF tb)), (by omega), (by omega), (by first | rfl | (exfalso; omega)), (by first | rfl | (exfalso; omega))⟩)) ⟨by omega, by omega⟩ dX2_compare_103
            · skip
              refine j_aload_n G 2 rfl dX2_compare_61 ?_
              refine j_get G FX2 (jAt_1 0 rfl) 35 (by decide) q1879 rfl dX2_compare_62 ?_
              refine j_lconst 0 G rfl dX2_compare_65 ?_
              refine j_lcmp G (by unfold lR; omega) (by unfold lR; omega) dX2_compare_66 ?_
              have k_67 := jCmp_c 0 0
              refine j_if_ne 74 G (by unfold iR at *; omega) dX2_compare_67 (by decide) (fun c_67 => ?_) (fun c_67 => ?_)
              · skip
                refine j_iconst G dX2_compare_74 ?_
                refine j_put (ws' := [[(y0, jO 1 [iI 0, iI n, iI gr, iI pw, .ref aT, iI po, iI pr, iI ix, iI sd, iI gn, iI tk, iI ln, .ref aX, iI zs, iI zl, iI za, iI zf, iI ze, iI zi, .ref aR, .ref aM, .ref aG, .ref aN, .ref aQ, lI ls, lI wn, .ref aO, .ref aS, .ref aH, .ref aU, lI (rSc (n, gr, pw, b, tB tb, tF tb)), iI (clC (n, gr, pw, b, tB tb, tF tb)), .ref aW, lI al2_34, lI 0, lI 0, iI bp, lI ba, lI bb, lI hh])], [(aT, cI u 24 tb)], [(aH, cJ u 4 he2)], [(aU, cJ u 4 ut2_50)], [(aO, cJ u 16 ro2_50)], [(aS, cJ u 4 ga2_50)], [(aW, cJ u 4 wt2_50)]]) G FX2 (jAt_1 0 rfl) 0 (by decide) q1844 rfl rfl rfl (Nat.le_of_ble_eq_true rfl) dX2_compare_75 rfl ?_
                refine j_aload_n G 2 rfl dX2_compare_78 ?_
                refine j_get G FX2 (jAt_1 0 rfl) 0 (by decide) q1844 rfl dX2_compare_79 ?_
                refine j_if_le 89 G (by unfold iR; omega) dX2_compare_82 (by decide) (fun c_82 => ?_) (fun c_82 => ?_)
                · skip
                  refine j_lload_n G 1 rfl dX2_compare_89 ?_
                  refine j_lload G 0 rfl dX2_compare_90 ?_
                  refine j_aload_n G 2 rfl dX2_compare_92 ?_
                  refine j_get G FX2 (jAt_1 0 rfl) 34 (by decide) q1878 rfl dX2_compare_93 ?_
                  refine j_aload_n G 2 rfl dX2_compare_96 ?_
                  refine j_get G FX2 (jAt_1 0 rfl) 35 (by decide) q1879 rfl dX2_compare_97 ?_
                  refine j_callS (wr := [[(y0, jO 1 [iI 0, iI n, iI gr, iI pw, .ref aT, iI po, iI pr, iI ix, iI sd, iI gn, iI tk, iI ln, .ref aX, iI zs, iI zl, iI za, iI zf, iI ze, iI zi, .ref aR, .ref aM, .ref aG, .ref aN, .ref aQ, lI ls, lI wn, .ref aO, .ref aS, .ref aH, .ref aU, lI (rSc (n, gr, pw, b, tB tb, tF tb)), iI (clC (n, gr, pw, b, tB tb, tF tb)), .ref aW, lI al2_34, lI 0, lI 0, iI bp, lI ba, lI bb, lI hh])], [(aT, cI u 24 tb)], [(aH, cJ u 4 he2)], [(aU, cJ u 4 ut2_50)], [(aO, cJ u 16 ro2_50)], [(aS, cJ u 4 ga2_50)], [(aW, cJ u 4 wt2_50)]]) (k' := 0) (n' := 0) G (c_X2_sign l u ((avF (n, gr, pw, a, tB tb, tF tb)).1) ((avF (n, gr, pw, a, tB tb, tF tb)).2) 0 0 (by omega) (by omega) (by omega) (by omega)) hY_X2_sign q2200 q2201 q90 q2202 (jcut 7 [0, 1, 2, 3, 4, 5, 6] (by decide) rfl rfl) ⟨by omega, by omega, by omega, by omega, by omega, by omega⟩ (Nat.le_of_ble_eq_true rfl) dX2_compare_100 rfl (fun v_ w_ hp => ?_)
                  obtain ⟨rfl, rfl⟩ := hp
                  show jJ X u 7 [[(y0, jO 1 [iI 0, iI n, iI gr, iI pw, .ref aT, iI po, iI pr, iI ix, iI sd, iI gn, iI tk, iI ln, .ref aX, iI zs, iI zl, iI za, iI zf, iI ze, iI zi, .ref aR, .ref aM, .ref aG, .ref aN, .ref aQ, lI ls, lI wn, .ref aO, .ref aS, .ref aH, .ref aU, lI (rSc (n, gr, pw, b, tB tb, tF tb)), iI (clC (n, gr, pw, b, tB tb, tF tb)), .ref aW, lI al2_34, lI 0, lI 0, iI bp, lI ba, lI bb, lI hh])], [(aT, cI u 24 tb)], [(aH, cJ u 4 he2)], [(aU, cJ u 4 ut2_50)], [(aO, cJ u 16 ro2_50)], [(aS, cJ u 4 ga2_50)], [(aW, cJ u 4 wt2_50)]] [(5, lI ((avF (n, gr, pw, a, tB tb, tF tb)).2)), (3, lI ((avF (n, gr, pw, a, tB tb, tF tb)).1)), (0, .ref y0), (1, iI a), (2, iI b)] 0 0 103 [iI (cmpQ ((avF (n, gr, pw, a, tB tb, tF tb)).1) ((avF (n, gr, pw, a, tB tb, tF tb)).2) 0 0)]
                  exact j_iret G E (Or.inl ⟨he2, ut2_50, ro2_50, ga2_50, wt2_50, (rSc (n, gr, pw, b, tB tb, tF tb)), al2_34, 0, 0, (clC (n, gr, pw, b, tB tb, tF tb)), (cmpQ ((avF (n, gr, pw, a, tB tb, tF tb)).1) ((avF (n, gr, pw, a, tB tb, tF tb)).2) 0 0), (by first | rfl | (exfalso; omega)), (by omega), (by omega), (by first | rfl | (exfalso; omega)), (by first | rfl | (exfalso; omega))⟩) ⟨by omega, by omega⟩ dX2_compare_103
                · exact absurd c_82 (by decide)
              · skip
                refine j_iconst G dX2_compare_70 ?_
                refine j_goto 75 G dX2_compare_71 (by decide) ?_
                refine j_put (ws' := [[(y0, jO 1 [iI 2, iI n, iI gr, iI pw, .ref aT, iI po, iI pr, iI ix, iI sd, iI gn, iI tk, iI ln, .ref aX, iI zs, iI zl, iI za, iI zf, iI ze, iI zi, .ref aR, .ref aM, .ref aG, .ref aN, .ref aQ, lI ls, lI wn, .ref aO, .ref aS, .ref aH, .ref aU, lI (rSc (n, gr, pw, b, tB tb, tF tb)), iI (clC (n, gr, pw, b, tB tb, tF tb)), .ref aW, lI al2_34, lI 0, lI 0, iI bp, lI ba, lI bb, lI hh])], [(aT, cI u 24 tb)], [(aH, cJ u 4 he2)], [(aU, cJ u 4 ut2_50)], [(aO, cJ u 16 ro2_50)], [(aS, cJ u 4 ga2_50)], [(aW, cJ u 4 wt2_50)]]) G FX2 (jAt_1 0 rfl) 0 (by decide) q1844 rfl rfl rfl (Nat.le_of_ble_eq_true rfl) dX2_compare_75 rfl ?_
                refine j_aload_n G 2 rfl dX2_compare_78 ?_
                refine j_get G FX2 (jAt_1 0 rfl) 0 (by decide) q1844 rfl dX2_compare_79 ?_
                refine j_if_le 89 G (by unfold iR; omega) dX2_compare_82 (by decide) (fun c_82 => ?_) (fun c_82 => ?_)
                · exact absurd c_82 (by decide)
                · skip
                  refine j_iconst G dX2_compare_85 ?_
                  refine j_goto 103 G dX2_compare_86 (by decide) ?_
                  exact j_iret G E (Or.inr (Or.inr ⟨he2, ut2_50, ro2_50, ga2_50, wt2_50, (rSc (n, gr, pw, b, tB tb, tF tb)), al2_34, 0, 0, (clC (n, gr, pw, b, tB tb, tF tb)), (by omega), (by omega), (by first | rfl | (exfalso; omega)), (by first | rfl | (exfalso; omega))⟩)) ⟨by omega, by omega⟩ dX2_compare_103
        · skip
          show jJ X u 7 [[(y0, jO 1 [iI 0, iI n, iI gr, iI pw, .ref aT, iI po, iI pr, iI ix, iI sd, iI gn, iI tk, iI ln, .ref aX, iI zs, iI zl, iI za, iI zf, iI ze, iI zi, .ref aR, .ref aM, .ref aG, .ref aN, .ref aQ, lI ls, lI wn, .ref aO, .ref aS, .ref aH, .ref aU, lI (rSc (n, gr, pw, a, tB tb, tF tb)), iI (clC (n, gr, pw, a, tB tb, tF tb)), .ref aW, lI al, lI 0, lI 0, iI bp, lI ba, lI bb, lI hh])], [(aT, cI u 24 tb)], [(aH, cJ u 4 he2)], [(aU, cJ u 4 ut2_34)], [(aO, cJ u 16 ro2_34)], [(aS, cJ u 4 ga2_34)], [(aW, cJ u 4 wt2_34)]] [(0, .ref y0), (1, iI a), (2, iI b)] 0 0 37 []
          have hu := hn.1
          refine j_aload_n G 0 rfl dX2_compare_37 ?_
          refine j_get G FX2 (jAt_1 0 rfl) 34 (by decide) q1878 rfl dX2_compare_38 ?_
          refine j_lstore_n G [(3, lI 0), (0, .ref y0), (1, iI a), (2, iI b)] rfl (by decide) dX2_compare_41 ?_
          refine j_aload_n G 1 rfl dX2_compare_42 ?_
          refine j_get G FX2 (jAt_1 0 rfl) 35 (by decide) q1879 rfl dX2_compare_43 ?_
          refine j_lstore G [(5, lI 0), (3, lI 0), (0, .ref y0), (1, iI a), (2, iI b)] rfl (by decide) dX2_compare_46 ?_
          refine j_aload_n G 2 rfl dX2_compare_48 ?_
          refine j_iload_n G 4 rfl dX2_compare_49 ?_
          refine j_callV (wr := []) (k' := 0) (n' := 0) G FX2 (c_X2_layAverage l u y0 aT aX aR aM aG aN aQ aO aS aH aU aW 0 n gr pw po pr ix sd gn tk ln zs zl za zf ze zi (clC (n, gr, pw, a, tB tb, tF tb)) bp ls wn (rSc (n, gr, pw, a, tB tb, tF tb)) al 0 0 ba bb hh tb he2 ut2_34 ro2_34 ga2_34 wt2_34 b hn hg hw hT (by omega)) (jAt_1 0 rfl) ⟨rfl, hY_X2_layAverage⟩ q2149 q2151 qs68 q90 q2152 (jcut 7 [0, 1, 2, 3, 4, 5, 6] (by decide) rfl rfl) ⟨by omega, by omega, by omega, by omega, by omega, by omega⟩ (Nat.le_of_ble_eq_true rfl) dX2_compare_50 rfl (fun v_ w_ hp => ?_)
          rcases hp with ⟨he2, ut2_50, ro2_50, ga2_50, wt2_50, al2_50, h50_1, h50_2, h50_3, rfl, rfl⟩ | ⟨he2, ut2_50, ro2_50, ga2_50, wt2_50, h50_1, rfl, rfl⟩
          · skip
            show jJ X u 7 [[(y0, jO 1 [iI 0, iI n, iI gr, iI pw, .ref aT, iI po, iI pr, iI ix, iI sd, iI gn, iI tk, iI ln, .ref aX, iI zs, iI zl, iI za, iI zf, iI ze, iI zi, .ref aR, .ref aM, .ref aG, .ref aN, .ref aQ, lI ls, lI wn, .ref aO, .ref aS, .ref aH, .ref aU, lI (rSc (n, gr, pw, b, tB tb, tF tb)), iI (clC (n, gr, pw, b, tB tb, tF tb)), .ref aW, lI al2_50, lI ((avF (n, gr, pw, b, tB tb, tF tb)).1), lI ((avF (n, gr, pw, b, tB tb, tF tb)).2), iI bp, lI ba, lI bb, lI hh])], [(aT, cI u 24 tb)], [(aH, cJ u 4 he2)], [(aU, cJ u 4 ut2_50)], [(aO, cJ u 16 ro2_50)], [(aS, cJ u 4 ga2_50)], [(aW, cJ u 4 wt2_50)]] [(5, lI 0), (3, lI 0), (0, .ref y0), (1, iI a), (2, iI b)] 0 0 53 []
            have hvh50_1 := avF_R (c := (n, gr, pw, b, tB tb, tF tb)) ⟨hn, hg, hw, (by omega), hT⟩ h50_1
            refine j_aload_n G 2 rfl dX2_compare_53 ?_
            refine j_lload G 0 rfl dX2_compare_54 ?_
            refine j_lconst 0 G rfl dX2_compare_56 ?_
            refine j_lcmp G (by unfold lR; omega) (by unfold lR; omega) dX2_compare_57 ?_
            have k_58 := jCmp_c 0 0
            refine j_if_eq 70 G (by unfold iR at *; omega) dX2_compare_58 (by decide) (fun c_58 => ?_) (fun c_58 => ?_)
            · skip
              refine j_iconst G dX2_compare_70 ?_
              refine j_goto 75 G dX2_compare_71 (by decide) ?_
              refine j_put (ws' := [[(y0, jO 1 [iI 2, iI n, iI gr, iI pw, .ref aT, iI po, iI pr, iI ix, iI sd, iI gn, iI tk, iI ln, .ref aX, iI zs, iI zl, iI za, iI zf, iI ze, iI zi, .ref aR, .ref aM, .ref aG, .ref aN, .ref aQ, lI ls, lI wn, .ref aO, .ref aS, .ref aH, .ref aU, lI (rSc (n, gr, pw, b, tB tb, tF tb)), iI (clC (n, gr, pw, b, tB tb, tF tb)), .ref aW, lI al2_50, lI ((avF (n, gr, pw, b, tB tb, tF tb)).1), lI ((avF (n, gr, pw, b, tB tb, tF tb)).2), iI bp, lI ba, lI bb, lI hh])], [(aT, cI u 24 tb)], [(aH, cJ u 4 he2)], [(aU, cJ u 4 ut2_50)], [(aO, cJ u 16 ro2_50)], [(aS, cJ u 4 ga2_50)], [(aW, cJ u 4 wt2_50)]]) G FX2 (jAt_1 0 rfl) 0 (by decide) q1844 rfl rfl rfl (Nat.le_of_ble_eq_true rfl) dX2_compare_75 rfl ?_
              refine j_aload_n G 2 rfl dX2_compare_78 ?_
              refine j_get G FX2 (jAt_1 0 rfl) 0 (by decide) q1844 rfl dX2_compare_79 ?_
              refine j_if_le 89 G (by unfold iR; omega) dX2_compare_82 (by decide) (fun c_82 => ?_) (fun c_82 => ?_)
              · exact absurd c_82 (by decide)
              · skip
                refine j_iconst G dX2_compare_85 ?_
                refine j_goto 103 G dX2_compare_86 (by decide) ?_
                exact j_iret G E (Or.inr (Or.inr ⟨he2, ut2_50, ro2_50, ga2_50, wt2_50, (rSc (n, gr, pw, b, tB tb, tF tb)), al2_50, ((avF (n, gr, pw, b, tB tb, tF tb)).1), ((avF (n, gr, pw, b, tB tb, tF tb)).2), (clC (n, gr, pw, b, tB tb, tF tb)), (by omega), (by omega), (by first | rfl | (exfalso; omega)), (by first | rfl | (exfalso; omega))⟩)) ⟨by omega, by omega⟩ dX2_compare_103
            · skip
              refine j_aload_n G 2 rfl dX2_compare_61 ?_
              refine j_get G FX2 (jAt_1 0 rfl) 35 (by decide) q1879 rfl dX2_compare_62 ?_
              refine j_lconst 0 G rfl dX2_compare_65 ?_
              refine j_lcmp G (by unfold lR at *; omega) (by unfold lR; omega) dX2_compare_66 ?_
              have k_67 := jCmp_c ((avF (n, gr, pw, b, tB tb, tF tb)).2) 0
              refine j_if_ne 74 G (by unfold iR at *; omega) dX2_compare_67 (by decide) (fun c_67 => ?_) (fun c_67 => ?_)
              · skip
                refine j_iconst G dX2_compare_74 ?_
                refine j_put (ws' := [[(y0, jO 1 [iI 0, iI n, iI gr, iI pw, .ref aT, iI po, iI pr, iI ix, iI sd, iI gn, iI tk, iI ln, .ref aX, iI zs, iI zl, iI za, iI zf, iI ze, iI zi, .ref aR, .ref aM, .ref aG, .ref aN, .ref aQ, lI ls, lI wn, .ref aO, .ref aS, .ref aH, .ref aU, lI (rSc (n, gr, pw, b, tB tb, tF tb)), iI (clC (n, gr, pw, b, tB tb, tF tb)), .ref aW, lI al2_50, lI ((avF (n, gr, pw, b, tB tb, tF tb)).1), lI ((avF (n, gr, pw, b, tB tb, tF tb)).2), iI bp, lI ba, lI bb, lI hh])], [(aT, cI u 24 tb)], [(aH, cJ u 4 he2)], [(aU, cJ u 4 ut2_50)], [(aO, cJ u 16 ro2_50)], [(aS, cJ u 4 ga2_50)], [(aW, cJ u 4 wt2_50)]]) G FX2 (jAt_1 0 rfl) 0 (by decide) q1844 rfl rfl rfl (Nat.le_of_ble_eq_true rfl) dX2_compare_75 rfl ?_
                refine j_aload_n G 2 rfl dX2_compare_78 ?_
                refine j_get G FX2 (jAt_1 0 rfl) 0 (by decide) q1844 rfl dX2_compare_79 ?_
                refine j_if_le 89 G (by unfold iR; omega) dX2_compare_82 (by decide) (fun c_82 => ?_) (fun c_82 => ?_)
                · skip
                  refine j_lload_n G 1 rfl dX2_compare_89 ?_
                  refine j_lload G 0 rfl dX2_compare_90 ?_
                  refine j_aload_n G 2 rfl dX2_compare_92 ?_
                  refine j_get G FX2 (jAt_1 0 rfl) 34 (by decide) q1878 rfl dX2_compare_93 ?_
                  refine j_aload_n G 2 rfl dX2_compare_96 ?_
                  refine j_get G FX2 (jAt_1 0 rfl) 35 (by decide) q1879 rfl dX2_compare_97 ?_
                  refine j_callS (wr := [[(y0, jO 1 [iI 0, iI n, iI gr, iI pw, .ref aT, iI po, iI pr, iI ix, iI sd, iI gn, iI tk, iI ln, .ref aX, iI zs, iI zl, iI za, iI zf, iI ze, iI zi, .ref aR, .ref aM, .ref aG, .ref aN, .ref aQ, lI ls, lI wn, .ref aO, .ref aS, .ref aH, .ref aU, lI (rSc (n, gr, pw, b, tB tb, tF tb)), iI (clC (n, gr, pw, b, tB tb, tF tb)), .ref aW, lI al2_50, lI ((avF (n, gr, pw, b, tB tb, tF tb)).1), lI ((avF (n, gr, pw, b, tB tb, tF tb)).2), iI bp, lI ba, lI bb, lI hh])], [(aT, cI u 24 tb)], [(aH, cJ u 4 he2)], [(aU, cJ u 4 ut2_50)], [(aO, cJ u 16 ro2_50)], [(aS, cJ u 4 ga2_50)], [(aW, cJ u 4 wt2_50)]]) (k' := 0) (n' := 0) G (c_X2_sign l u 0 0 ((avF (n, gr, pw, b, tB tb, tF tb)).1) ((avF (n, gr, pw, b, tB tb, tF tb)).2) (by omega) (by omega) (by omega) (by omega)) hY_X2_sign q2200 q2201 q90 q2202 (jcut 7 [0, 1, 2, 3, 4, 5, 6] (by decide) rfl rfl) ⟨by omega, by omega, by omega, by omega, by omega, by omega⟩ (Nat.le_of_ble_eq_true rfl) dX2_compare_100 rfl (fun v_ w_ hp => ?_)
                  obtain ⟨rfl, rfl⟩ := hp
                  show jJ X u 7 [[(y0, jO 1 [iI 0, iI n, iI gr, iI pw, .ref aT, iI po, iI pr, iI ix, iI sd, iI gn, iI tk, iI ln, .ref aX, iI zs, iI zl, iI za, iI zf, iI ze, iI zi, .ref aR, .ref aM, .ref aG, .ref aN, .ref aQ, lI ls, lI wn, .ref aO, .ref aS, .ref aH, .ref aU, lI (rSc (n, gr, pw, b, tB tb, tF tb)), iI (clC (n, gr, pw, b, tB tb, tF tb)), .ref aW, lI al2_50, lI ((avF (n, gr, pw, b, tB tb, tF tb)).1), lI ((avF (n, gr, pw, b, tB tb, tF tb)).2), iI bp, lI ba, lI bb, lI hh])], [(aT, cI u 24 tb)], [(aH, cJ u 4 he2)], [(aU, cJ u 4 ut2_50)], [(aO, cJ u 16 ro2_50)], [(aS, cJ u 4 ga2_50)], [(aW, cJ u 4 wt2_50)]] [(5, lI 0), (3, lI 0), (0, .ref y0), (1, iI a), (2, iI b)] 0 0 103 [iI (cmpQ 0 0 ((avF (n, gr, pw, b, tB tb, tF tb)).1) ((avF (n, gr, pw, b, tB tb, tF tb)).2))]
                  exact j_iret G E (Or.inl ⟨he2, ut2_50, ro2_50, ga2_50, wt2_50, (rSc (n, gr, pw, b, tB tb, tF tb)), al2_50, ((avF (n, gr, pw, b, tB tb, tF tb)).1), ((avF (n, gr, pw, b, tB tb, tF tb)).2), (clC (n, gr, pw, b, tB tb, tF tb)), (cmpQ 0 0 ((avF (n, gr, pw, b, tB tb, tF tb)).1) ((avF (n, gr, pw, b, tB tb, tF tb)).2)), (by first | rfl | (exfalso; omega)), (by omega), (by omega), (by first | rfl | (exfalso; omega)), (by first | rfl | (exfalso; omega))⟩) ⟨by omega, by omega⟩ dX2_compare_103
                · exact absurd c_82 (by decide)
              · skip
                refine j_iconst G dX2_compare_70 ?_
                refine j_goto 75 G dX2_compare_71 (by decide) ?_
                refine j_put (ws' := [[(y0, jO 1 [iI 2, iI n, iI gr, iI pw, .ref aT, iI po, iI pr, iI ix, iI sd, iI gn, iI tk, iI ln, .ref aX, iI zs, iI zl, iI za, iI zf, iI ze, iI zi, .ref aR, .ref aM, .ref aG, .ref aN, .ref aQ, lI ls, lI wn, .ref aO, .ref aS, .ref aH, .ref aU, lI (rSc (n, gr, pw, b, tB tb, tF tb)), iI (clC (n, gr, pw, b, tB tb, tF tb)), .ref aW, lI al2_50, lI ((avF (n, gr, pw, b, tB tb, tF tb)).1), lI ((avF (n, gr, pw, b, tB tb, tF tb)).2), iI bp, lI ba, lI bb, lI hh])], [(aT, cI u 24 tb)], [(aH, cJ u 4 he2)], [(aU, cJ u 4 ut2_50)], [(aO, cJ u 16 ro2_50)], [(aS, cJ u 4 ga2_50)], [(aW, cJ u 4 wt2_50)]]) G FX2 (jAt_1 0 rfl) 0 (by decide) q1844 rfl rfl rfl (Nat.le_of_ble_eq_true rfl) dX2_compare_75 rfl ?_
                refine j_aload_n G 2 rfl dX2_compare_78 ?_
                refine j_get G FX2 (jAt_1 0 rfl) 0 (by decide) q1844 rfl dX2_compare_79 ?_
                refine j_if_le 89 G (by unfold iR; omega) dX2_compare_82 (by decide) (fun c_82 => ?_) (fun c_82 => ?_)
                · exact absurd c_82 (by decide)
                · skip
                  refine j_iconst G dX2_compare_85 ?_
                  refine j_goto 103 G dX2_compare_86 (by decide) ?_
                  exact j_iret G E (Or.inr (Or.inr ⟨he2, ut2_50, ro2_50, ga2_50, wt2_50, (rSc (n, gr, pw, b, tB tb, tF tb)), al2_50, ((avF (n, gr, pw, b, tB tb, tF tb)).1), ((avF (n, gr, pw, b, tB tb, tF tb)).2), (clC (n, gr, pw, b, tB tb, tF tb)), (by omega), (by omega), (by first | rfl | (exfalso; omega)), (by first | rfl | (exfalso; omega))⟩)) ⟨by omega, by omega⟩ dX2_compare_103
          · skip
            show jJ X u 7 [[(y0, jO 1 [iI 0, iI n, iI gr, iI pw, .ref aT, iI po, iI pr, iI ix, iI sd, iI gn, iI tk, iI ln, .ref aX, iI zs, iI zl, iI za, iI zf, iI ze, iI zi, .ref aR, .ref aM, .ref aG, .ref aN, .ref aQ, lI ls, lI wn, .ref aO, .ref aS, .ref aH, .ref aU, lI (rSc (n, gr, pw, b, tB tb, tF tb)), iI (clC (n, gr, pw, b, tB tb, tF tb)), .ref aW, lI al, lI 0, lI 0, iI bp, lI ba, lI bb, lI hh])], [(aT, cI u 24 tb)], [(aH, cJ u 4 he2)], [(aU, cJ u 4 ut2_50)], [(aO, cJ u 16 ro2_50)], [(aS, cJ u 4 ga2_50)], [(aW, cJ u 4 wt2_50)]] [(5, lI 0), (3, lI 0), (0, .ref y0), (1, iI a), (2, iI b)] 0 0 53 []
            have hu := hn.1
            refine j_aload_n G 2 rfl dX2_compare_53 ?_
            refine j_lload G 0 rfl dX2_compare_54 ?_
            refine j_lconst 0 G rfl dX2_compare_56 ?_
            refine j_lcmp G (by unfold lR; omega) (by unfold lR; omega) dX2_compare_57 ?_
            have k_58 := jCmp_c 0 0
            refine j_if_eq 70 G (by unfold iR at *; omega) dX2_compare_58 (by decide) (fun c_58 => ?_) (fun c_58 => ?_)
            · skip
              refine j_iconst G dX2_compare_70 ?_
              refine j_goto 75 G dX2_compare_71 (by decide) ?_
              refine j_put (ws' := [[(y0, jO 1 [iI 2, iI n, iI gr, iI pw, .ref aT, iI po, iI pr, iI ix, iI sd, iI gn, iI tk, iI ln, .ref aX, iI zs, iI zl, iI za, iI zf, iI ze, iI zi, .ref aR, .ref aM, .ref aG, .ref aN, .ref aQ, lI ls, lI wn, .ref aO, .ref aS, .ref aH, .ref aU, lI (rSc (n, gr, pw, b, tB tb, tF tb)), iI (clC (n, gr, pw, b, tB tb, tF tb)), .ref aW, lI al, lI 0, lI 0, iI bp, lI ba, lI bb, lI hh])], [(aT, cI u 24 tb)], [(aH, cJ u 4 he2)], [(aU, cJ u 4 ut2_50)], [(aO, cJ u 16 ro2_50)], [(aS, cJ u 4 ga2_50)], [(aW, cJ u 4 wt2_50)]]) G FX2 (jAt_1 0 rfl) 0 (by decide) q1844 rfl rfl rfl (Nat.le_of_ble_eq_true rfl) dX2_compare_75 rfl ?_
              refine j_aload_n G 2 rfl dX2_compare_78 ?_
              refine j_get G FX2 (jAt_1 0 rfl) 0 (by decide) q1844 rfl dX2_compare_79 ?_
              refine j_if_le 89 G (by unfold iR; omega) dX2_compare_82 (by decide) (fun c_82 => ?_) (fun c_82 => ?_)
              · exact absurd c_82 (by decide)
              · skip
                refine j_iconst G dX2_compare_85 ?_
                refine j_goto 103 G dX2_compare_86 (by decide) ?_
                exact j_iret G E (Or.inr (Or.inr ⟨he2, ut2_50, ro2_50, ga2_50, wt2_50, (rSc (n, gr, pw, b, tB tb, tF tb)), al, 0, 0, (clC (n, gr, pw, b, tB tb, tF tb)), (by omega), (by omega), (by first | rfl | (exfalso; omega)), (by first | rfl | (exfalso; omega))⟩)) ⟨by omega, by omega⟩ dX2_compare_103
            · skip
              refine j_aload_n G 2 rfl dX2_compare_61 ?_
              refine j_get G FX2 (jAt_1 0 rfl) 35 (by decide) q1879 rfl dX2_compare_62 ?_
              refine j_lconst 0 G rfl dX2_compare_65 ?_
              refine j_lcmp G (by unfold lR; omega) (by unfold lR; omega) dX2_compare_66 ?_
              have k_67 := jCmp_c 0 0
              refine j_if_ne 74 G (by unfold iR at *; omega) dX2_compare_67 (by decide) (fun c_67 => ?_) (fun c_67 => ?_)
              · skip
                refine j_iconst G dX2_compare_74 ?_
                refine j_put (ws' := [[(y0, jO 1 [iI 0, iI n, iI gr, iI pw, .ref aT, iI po, iI pr, iI ix, iI sd, iI gn, iI tk, iI ln, .ref aX, iI zs, iI zl, iI za, iI zf, iI ze, iI zi, .ref aR, .ref aM, .ref aG, .ref aN, .ref aQ, lI ls, lI wn, .ref aO, .ref aS, .ref aH, .ref aU, lI (rSc (n, gr, pw, b, tB tb, tF tb)), iI (clC (n, gr, pw, b, tB tb, tF tb)), .ref aW, lI al, lI 0, lI 0, iI bp, lI ba, lI bb, lI hh])], [(aT, cI u 24 tb)], [(aH, cJ u 4 he2)], [(aU, cJ u 4 ut2_50)], [(aO, cJ u 16 ro2_50)], [(aS, cJ u 4 ga2_50)], [(aW, cJ u 4 wt2_50)]]) G FX2 (jAt_1 0 rfl) 0 (by decide) q1844 rfl rfl rfl (Nat.le_of_ble_eq_true rfl) dX2_compare_75 rfl ?_
                refine j_aload_n G 2 rfl dX2_compare_78 ?_
                refine j_get G FX2 (jAt_1 0 rfl) 0 (by decide) q1844 rfl dX2_compare_79 ?_
                refine j_if_le 89 G (by unfold iR; omega) dX2_compare_82 (by decide) (fun c_82 => ?_) (fun c_82 => ?_)
                · skip
                  refine j_lload_n G 1 rfl dX2_compare_89 ?_
                  refine j_lload G 0 rfl dX2_compare_90 ?_
                  refine j_aload_n G 2 rfl dX2_compare_92 ?_
                  refine j_get G FX2 (jAt_1 0 rfl) 34 (by decide) q1878 rfl dX2_compare_93 ?_
                  refine j_aload_n G 2 rfl dX2_compare_96 ?_
                  refine j_get G FX2 (jAt_1 0 rfl) 35 (by decide) q1879 rfl dX2_compare_97 ?_
                  refine j_callS (wr := [[(y0, jO 1 [iI 0, iI n, iI gr, iI pw, .ref aT, iI po, iI pr, iI ix, iI sd, iI gn, iI tk, iI ln, .ref aX, iI zs, iI zl, iI za, iI zf, iI ze, iI zi, .ref aR, .ref aM, .ref aG, .ref aN, .ref aQ, lI ls, lI wn, .ref aO, .ref aS, .ref aH, .ref aU, lI (rSc (n, gr, pw, b, tB tb, tF tb)), iI (clC (n, gr, pw, b, tB tb, tF tb)), .ref aW, lI al, lI 0, lI 0, iI bp, lI ba, lI bb, lI hh])], [(aT, cI u 24 tb)], [(aH, cJ u 4 he2)], [(aU, cJ u 4 ut2_50)], [(aO, cJ u 16 ro2_50)], [(aS, cJ u 4 ga2_50)], [(aW, cJ u 4 wt2_50)]]) (k' := 0) (n' := 0) G (c_X2_sign l u 0 0 0 0 (by omega) (by omega) (by omega) (by omega)) hY_X2_sign q2200 q2201 q90 q2202 (jcut 7 [0, 1, 2, 3, 4, 5, 6] (by decide) rfl rfl) ⟨by omega, by omega, by omega, by omega, by omega, by omega⟩ (Nat.le_of_ble_eq_true rfl) dX2_compare_100 rfl (fun v_ w_ hp => ?_)
                  obtain ⟨rfl, rfl⟩ := hp
                  show jJ X u 7 [[(y0, jO 1 [iI 0, iI n, iI gr, iI pw, .ref aT, iI po, iI pr, iI ix, iI sd, iI gn, iI tk, iI ln, .ref aX, iI zs, iI zl, iI za, iI zf, iI ze, iI zi, .ref aR, .ref aM, .ref aG, .ref aN, .ref aQ, lI ls, lI wn, .ref aO, .ref aS, .ref aH, .ref aU, lI (rSc (n, gr, pw, b, tB tb, tF tb)), iI (clC (n, gr, pw, b, tB tb, tF tb)), .ref aW, lI al, lI 0, lI 0, iI bp, lI ba, lI bb, lI hh])], [(aT, cI u 24 tb)], [(aH, cJ u 4 he2)], [(aU, cJ u 4 ut2_50)], [(aO, cJ u 16 ro2_50)], [(aS, cJ u 4 ga2_50)], [(aW, cJ u 4 wt2_50)]] [(5, lI 0), (3, lI 0), (0, .ref y0), (1, iI a), (2, iI b)] 0 0 103 [iI (cmpQ 0 0 0 0)]
                  exact j_iret G E (Or.inl ⟨he2, ut2_50, ro2_50, ga2_50, wt2_50, (rSc (n, gr, pw, b, tB tb, tF tb)), al, 0, 0, (clC (n, gr, pw, b, tB tb, tF tb)), (cmpQ 0 0 0 0), (by first | rfl | (exfalso; omega)), (by omega), (by omega), (by first | rfl | (exfalso; omega)), (by first | rfl | (exfalso; omega))⟩) ⟨by omega, by omega⟩ dX2_compare_103
                · exact absurd c_82 (by decide)
              · skip
                refine j_iconst G dX2_compare_70 ?_
                refine j_goto 75 G dX2_compare_71 (by decide) ?_
                refine j_put (ws' := [[(y0, jO 1 [iI 2, iI n, iI gr, iI pw, .ref aT, iI po, iI pr, iI ix, iI sd, iI gn, iI tk, iI ln, .ref aX, iI zs, iI zl, iI za, iI zf, iI ze, iI zi, .ref aR, .ref aM, .ref aG, .ref aN, .ref aQ, lI ls, lI wn, .ref aO, .ref aS, .ref aH, .ref aU, lI (rSc (n, gr, pw, b, tB tb, tF tb)), iI (clC (n, gr, pw, b, tB tb, tF tb)), .ref aW, lI al, lI 0, lI 0, iI bp, lI ba, lI bb, lI hh])], [(aT, cI u 24 tb)], [(aH, cJ u 4 he2)], [(aU, cJ u 4 ut2_50)], [(aO, cJ u 16 ro2_50)], [(aS, cJ u 4 ga2_50)], [(aW, cJ u 4 wt2_50)]]) G FX2 (jAt_1 0 rfl) 0 (by decide) q1844 rfl rfl rfl (Nat.le_of_ble_eq_true rfl) dX2_compare_75 rfl ?_
                refine j_aload_n G 2 rfl dX2_compare_78 ?_
                refine j_get G FX2 (jAt_1 0 rfl) 0 (by decide) q1844 rfl dX2_compare_79 ?_
                refine j_if_le 89 G (by unfold iR; omega) dX2_compare_82 (by decide) (fun c_82 => ?_) (fun c_82 => ?_)
                · exact absurd c_82 (by decide)
                · skip
                  refine j_iconst G dX2_compare_85 ?_
                  refine j_goto 103 G dX2_compare_86 (by decide) ?_
                  exact j_iret G E (Or.inr (Or.inr ⟨he2, ut2_50, ro2_50, ga2_50, wt2_50, (rSc (n, gr, pw, b, tB tb, tF tb)), al, 0, 0, (clC (n, gr, pw, b, tB tb, tF tb)), (by omega), (by omega), (by first | rfl | (exfalso; omega)), (by first | rfl | (exfalso; omega))⟩)) ⟨by omega, by omega⟩ dX2_compare_103
      · exact absurd c_27 (by decide)
theorem hY_X2_usesGeared : jY yX2_usesGeared 1 := ⟨by decide +kernel, by decide +kernel, by decide +kernel⟩
set_option maxHeartbeats 4000000 in
set_option maxRecDepth 100000 in
theorem c_X2_usesGeared (l : Launch) (u : jU) (y0 aT aX aR aM aG aN aQ aO aS aH aU aW : Nat) (th n gr pw po pr ix sd gn tk ln zs zl za zf ze zi zc bp ls wn sc al nr dr ba bb hh : Int) (of : Int) (hg : 0 ≤ gr ∧ gr ≤ 7) (hof : sProg of = 1) : jC l u yX2_usesGeared cX2_usesGeared 4 (some .boolean) 2 45 0 0 [.ref y0, iI of] [[(y0, jO 1 [iI th, iI n, iI gr, iI pw, .ref aT, iI po, iI pr, iI ix, iI sd, iI gn, iI tk, iI ln, .ref aX, iI zs, iI zl, iI za, iI zf, iI ze, iI zi, .ref aR, .ref aM, .ref aG, .ref aN, .ref aQ, lI ls, lI wn, .ref aO, .ref aS, .ref aH, .ref aU, lI sc, iI zc, .ref aW, lI al, lI nr, lI dr, iI bp, lI ba, lI bb, lI hh])]] (fun v_ w_ => ∃ (r : Int), r = sUses gr of ∧ (r = 0 ∨ r = 1) ∧ v_ = some (iI r) ∧ w_ = [[(y0, jO 1 [iI th, iI n, iI gr, iI pw, .ref aT, iI po, iI pr, iI ix, iI sd, iI gn, iI tk, iI ln, .ref aX, iI zs, iI zl, iI za, iI zf, iI ze, iI zi, .ref aR, .ref aM, .ref aG, .ref aN, .ref aQ, lI ls, lI wn, .ref aO, .ref aS, .ref aH, .ref aU, lI sc, iI zc, .ref aW, lI al, lI nr, lI dr, iI bp, lI ba, lI bb, lI hh])]]) := by
  refine jC.of "FlashRatchetModel" (by decide +kernel) rfl (Nat.le_of_ble_eq_true rfl) [(0, .ref y0), (1, iI of)] rfl (fun X G E I => ?_)
  have hpi := sProg_in hof
  have hpl := sLen_prog hof
  refine j_iconst G dX2_usesGeared_0 ?_
  refine j_istore_n G [(2, iI 1), (0, .ref y0), (1, iI of)] rfl (by decide) dX2_usesGeared_1 ?_
  refine j_iconst G dX2_usesGeared_2 ?_
  refine j_istore_n G [(3, iI 0), (2, iI 1), (0, .ref y0), (1, iI of)] rfl (by decide) dX2_usesGeared_3 ?_
  have L4 : ∀ (m : Nat) (j : Nat) (k : Int) (b : Int), 4 - j < m → k = j → b = usesF gr of j → (j : Int) ≤ sLen of → (b = 0 ∨ b = 1) → jJ X u 4 [[(y0, jO 1 [iI th, iI n, iI gr, iI pw, .ref aT, iI po, iI pr, iI ix, iI sd, iI gn, iI tk, iI ln, .ref aX, iI zs, iI zl, iI za, iI zf, iI ze, iI zi, .ref aR, .ref aM, .ref aG, .ref aN, .ref aQ, lI ls, lI wn, .ref aO, .ref aS, .ref aH, .ref aU, lI sc, iI zc, .ref aW, lI al, lI nr, lI dr, iI bp, lI ba, lI bb, lI hh])]] [(0, .ref y0), (1, iI of), (2, iI b), (3, iI k)] 0 0 4 [] := by
    intro m
    induction m with
    | zero =>
      intro j k b g1 g2 g3 g4 g5
      exfalso
      omega
    | succ m ih_L4 =>
      intro j k b g1 g2 g3 g4 g5
      refine j_iload_n G 3 rfl dX2_usesGeared_4 ?_
      refine j_iload_n G 1 rfl dX2_usesGeared_5 ?_
      refine j_callS (wr := [[(y0, jO 1 [iI th, iI n, iI gr, iI pw, .ref aT, iI po, iI pr, iI ix, iI sd, iI gn, iI tk, iI ln, .ref aX, iI zs, iI zl, iI za, iI zf, iI ze, iI zi, .ref aR, .ref aM, .ref aG, .ref aN, .ref aQ, lI ls, lI wn, .ref aO, .ref aS, .ref aH, .ref aU, lI sc, iI zc, .ref aW, lI al, lI nr, lI dr, iI bp, lI ba, lI bb, lI hh])]]) (k' := 0) (n' := 0) G (c_X2_size l u of (by unfold iR; omega)) hY_X2_size q2029 q2030 q90 q2031 (jcut 1 [0] (by decide) rfl rfl) ⟨by omega, by omega, by omega, by omega, by omega, by omega⟩ (Nat.le_of_ble_eq_true rfl) dX2_usesGeared_6 rfl (fun v_ w_ hp => ?_)
      obtain ⟨r_6, h6_1, h6_2, rfl, rfl⟩ := hp
      subst h6_1
      show jJ X u 4 [[(y0, jO 1 [iI th, iI n, iI gr, iI pw, .ref aT, iI po, iI pr, iI ix, iI sd, iI gn, iI tk, iI ln, .ref aX, iI zs, iI zl, iI za, iI zf, iI ze, iI zi, .ref aR, .ref aM, .ref aG, .ref aN, .ref aQ, lI ls, lI wn, .ref aO, .ref aS, .ref aH, .ref aU, lI sc, iI zc, .ref aW, lI al, lI nr, lI dr, iI bp, lI ba, lI bb, lI hh])]] [(0, .ref y0), (1, iI of), (2, iI b), (3, iI k)] 0 0 9 [iI (sLen of), iI k]
      refine j_icmp_ge 40 G (by unfold iR at *; omega) (by unfold iR at *; omega) dX2_usesGeared_9 (by decide) (fun c_9 => ?_) (fun c_9 => ?_)
      · skip
        have hj : j = (sLen of).toNat := by omega
        refine j_iload_n G 2 rfl dX2_usesGeared_40 ?_
        exact j_zret G E (by (try unfold iR at *); omega) ⟨b, (by rw [g3, hj]; rfl), g5, rfl, rfl⟩ ⟨by omega, by omega⟩ dX2_usesGeared_41
      · skip
        refine j_iload_n G 2 rfl dX2_usesGeared_12 ?_
        refine j_if_eq 32 G (by unfold iR at *; omega) dX2_usesGeared_13 (by decide) (fun c_13 => ?_) (fun c_13 => ?_)
        · skip
          refine j_iconst G dX2_usesGeared_32 ?_
          refine j_istore_n G [(2, iI 0), (0, .ref y0), (1, iI of), (3, iI k)] rfl (by decide) dX2_usesGeared_33 ?_
          refine j_iinc G 3 rfl [(3, iI (k + 1)), (2, iI 0), (0, .ref y0), (1, iI of)] rfl (by decide) dX2_usesGeared_34 ?_
          refine j_goto 4 G dX2_usesGeared_37 (by decide) ?_
          refine j_lv [2, 3, 1, 0] rfl ?_
          exact ih_L4 (j + 1) (k + 1) 0 (by (try unfold iR at *); omega) (by (try unfold iR at *); omega) (by unfold usesF; rw [← g3, ← g2]; first | (rw [c_13, Int.zero_mul]; done) | (rw [← h19_1, ← h22_1]; rcases g5 with e | e <;> rw [e] <;> omega)) (by omega) (by (try unfold iR at *); omega)
        · skip
          refine j_aload_n G 0 rfl dX2_usesGeared_16 ?_
          refine j_iload_n G 1 rfl dX2_usesGeared_17 ?_
          refine j_iload_n G 3 rfl dX2_usesGeared_18 ?_
          refine j_callS (wr := [[(y0, jO 1 [iI th, iI n, iI gr, iI pw, .ref aT, iI po, iI pr, iI ix, iI sd, iI gn, iI tk, iI ln, .ref aX, iI zs, iI zl, iI za, iI zf, iI ze, iI zi, .ref aR, .ref aM, .ref aG, .ref aN, .ref aQ, lI ls, lI wn, .ref aO, .ref aS, .ref aH, .ref aU, lI sc, iI zc, .ref aW, lI al, lI nr, lI dr, iI bp, lI ba, lI bb, lI hh])]]) (k' := 0) (n' := 0) G (c_X2_leverAt l u of k hof (by omega)) hY_X2_leverAt q2026 q2027 q90 q2028 (jcut 1 [0] (by decide) rfl rfl) ⟨by omega, by omega, by omega, by omega, by omega, by omega⟩ (Nat.le_of_ble_eq_true rfl) dX2_usesGeared_19 rfl (fun v_ w_ hp => ?_)
          obtain ⟨r_19, h19_1, h19_2, rfl, rfl⟩ := hp
          show jJ X u 4 [[(y0, jO 1 [iI th, iI n, iI gr, iI pw, .ref aT, iI po, iI pr, iI ix, iI sd, iI gn, iI tk, iI ln, .ref aX, iI zs, iI zl, iI za, iI zf, iI ze, iI zi, .ref aR, .ref aM, .ref aG, .ref aN, .ref aQ, lI ls, lI wn, .ref aO, .ref aS, .ref aH, .ref aU, lI sc, iI zc, .ref aW, lI al, lI nr, lI dr, iI bp, lI ba, lI bb, lI hh])]] [(0, .ref y0), (1, iI of), (2, iI b), (3, iI k)] 0 0 22 [iI r_19, .ref y0]
          refine j_callV (wr := []) (k' := 0) (n' := 0) G FX2 (c_X2_isIn l u y0 aT aX aR aM aG aN aQ aO aS aH aU aW th n gr pw po pr ix sd gn tk ln zs zl za zf ze zi zc bp ls wn sc al nr dr ba bb hh r_19 h19_2 hg) (jAt_1 0 rfl) ⟨rfl, hY_X2_isIn⟩ q2032 q2034 qs48 q90 q2035 (jcut 1 [0] (by decide) rfl rfl) ⟨by omega, by omega, by omega, by omega, by omega, by omega⟩ (Nat.le_of_ble_eq_true rfl) dX2_usesGeared_22 rfl (fun v_ w_ hp => ?_)
          obtain ⟨r_22, h22_1, h22_2, rfl, rfl⟩ := hp
          show jJ X u 4 [[(y0, jO 1 [iI th, iI n, iI gr, iI pw, .ref aT, iI po, iI pr, iI ix, iI sd, iI gn, iI tk, iI ln, .ref aX, iI zs, iI zl, iI za, iI zf, iI ze, iI zi, .ref aR, .ref aM, .ref aG, .ref aN, .ref aQ, lI ls, lI wn, .ref aO, .ref aS, .ref aH, .ref aU, lI sc, iI zc, .ref aW, lI al, lI nr, lI dr, iI bp, lI ba, lI bb, lI hh])]] [(0, .ref y0), (1, iI of), (2, iI b), (3, iI k)] 0 0 25 [iI r_22]
          refine j_if_eq 32 G (by unfold iR at *; omega) dX2_usesGeared_25 (by decide) (fun c_25 => ?_) (fun c_25 => ?_)
          · skip
            refine j_iconst G dX2_usesGeared_32 ?_
            refine j_istore_n G [(2, iI 0), (0, .ref y0), (1, iI of), (3, iI k)] rfl (by decide) dX2_usesGeared_33 ?_
            refine j_iinc G 3 rfl [(3, iI (k + 1)), (2, iI 0), (0, .ref y0), (1, iI of)] rfl (by decide) dX2_usesGeared_34 ?_
            refine j_goto 4 G dX2_usesGeared_37 (by decide) ?_
            refine j_lv [2, 3, 1, 0] rfl ?_
            exact ih_L4 (j + 1) (k + 1) 0 (by (try unfold iR at *); omega) (by (try unfold iR at *); omega) (by unfold usesF; rw [← g3, ← g2]; first | (rw [c_13, Int.zero_mul]; done) | (rw [← h19_1, ← h22_1]; rcases g5 with e | e <;> rw [e] <;> omega)) (by omega) (by (try unfold iR at *); omega)
          · skip
            refine j_iconst G dX2_usesGeared_28 ?_
            refine j_goto 33 G dX2_usesGeared_29 (by decide) ?_
            refine j_istore_n G [(2, iI 1), (0, .ref y0), (1, iI of), (3, iI k)] rfl (by decide) dX2_usesGeared_33 ?_
            refine j_iinc G 3 rfl [(3, iI (k + 1)), (2, iI 1), (0, .ref y0), (1, iI of)] rfl (by decide) dX2_usesGeared_34 ?_
            refine j_goto 4 G dX2_usesGeared_37 (by decide) ?_
            refine j_lv [2, 3, 1, 0] rfl ?_
            exact ih_L4 (j + 1) (k + 1) 1 (by (try unfold iR at *); omega) (by (try unfold iR at *); omega) (by unfold usesF; rw [← g3, ← g2]; first | (rw [c_13, Int.zero_mul]; done) | (rw [← h19_1, ← h22_1]; rcases g5 with e | e <;> rw [e] <;> omega)) (by omega) (by (try unfold iR at *); omega)
  refine j_lv [2, 3, 1, 0] rfl ?_
  exact L4 5 0 0 1 (by (try unfold iR at *); omega) rfl rfl (by omega) (by (try unfold iR at *); omega)
theorem hY_X2_layBest : jY yX2_layBest 1 := ⟨by decide +kernel, by decide +kernel, by decide +kernel⟩
set_option maxHeartbeats 4000000 in
set_option maxRecDepth 100000 in
theorem c_X2_layBest (l : Launch) (u : jU) (y0 aT aX aR aM aG aN aQ aO aS aH aU aW : Nat) (th n gr pw po pr ix sd gn tk ln zs zl za zf ze zi zc bp ls wn sc al nr dr ba bb hh : Int) (tb : Int → Int) (h : Int → Int) (ut : Int → Int) (ro : Int → Int) (ga : Int → Int) (wt : Int → Int) (most : Int) (hn : 2 ≤ n ∧ n ≤ 4) (hg : 0 ≤ gr ∧ gr ≤ 7) (hw : 0 ≤ pw ∧ pw ≤ 15) (hpr : sProg pr = 1) (hT : wT (tB tb) (tF tb)) (hRmost : iR most) : jC l u yX2_layBest cX2_layBest 4 none 5 119 0 0 [.ref y0, iI most] [[(y0, jO 1 [iI th, iI n, iI gr, iI pw, .ref aT, iI po, iI pr, iI ix, iI sd, iI gn, iI tk, iI ln, .ref aX, iI zs, iI zl, iI za, iI zf, iI ze, iI zi, .ref aR, .ref aM, .ref aG, .ref aN, .ref aQ, lI ls, lI wn, .ref aO, .ref aS, .ref aH, .ref aU, lI sc, iI zc, .ref aW, lI al, lI nr, lI dr, iI bp, lI ba, lI bb, lI hh])], [(aT, cI u 24 tb)], [(aH, cJ u 4 h)], [(aU, cJ u 4 ut)], [(aO, cJ u 16 ro)], [(aS, cJ u 4 ga)], [(aW, cJ u 4 wt)]] (fun v_ w_ => ∃ (h2 ut2 ro2 ga2 wt2 : Int → Int) (sc2 al2 nr2 dr2 zc2 : Int), v_ = none ∧ w_ = [[(y0, jO 1 [iI th, iI n, iI gr, iI pw, .ref aT, iI po, iI pr, iI ix, iI sd, iI gn, iI tk, iI ln, .ref aX, iI zs, iI zl, iI za, iI zf, iI ze, iI zi, .ref aR, .ref aM, .ref aG, .ref aN, .ref aQ, lI ls, lI wn, .ref aO, .ref aS, .ref aH, .ref aU, lI sc2, iI zc2, .ref aW, lI al2, lI nr2, lI dr2, iI ((bst (n, gr, pw, pr, tB tb, tF tb) most 63).1), lI ((bst (n, gr, pw, pr, tB tb, tF tb) most 63).2.1), lI ((bst (n, gr, pw, pr, tB tb, tF tb) most 63).2.2), lI hh])], [(aT, cI u 24 tb)], [(aH, cJ u 4 h2)], [(aU, cJ u 4 ut2)], [(aO, cJ u 16 ro2)], [(aS, cJ u 4 ga2)], [(aW, cJ u 4 wt2)]]) := by
  refine jC.of "FlashRatchetModel" (by decide +kernel) rfl (Nat.le_of_ble_eq_true rfl) [(0, .ref y0), (1, iI most)] rfl (fun X G E I => ?_)
  have hc : wC (n, gr, pw, pr, tB tb, tF tb) := ⟨hn, hg, hw, hpr, hT⟩
  refine j_aload_n G 0 rfl dX2_layBest_0 ?_
  refine j_iconst G dX2_layBest_1 ?_
  refine j_put (ws' := [[(y0, jO 1 [iI th, iI n, iI gr, iI pw, .ref aT, iI po, iI pr, iI ix, iI sd, iI gn, iI tk, iI ln, .ref aX, iI zs, iI zl, iI za, iI zf, iI ze, iI zi, .ref aR, .ref aM, .ref aG, .ref aN, .ref aQ, lI ls, lI wn, .ref aO, .ref aS, .ref aH, .ref aU, lI sc, iI zc, .ref aW, lI al, lI nr, lI dr, iI (-1), lI ba, lI bb, lI hh])], [(aT, cI u 24 tb)], [(aH, cJ u 4 h)], [(aU, cJ u 4 ut)], [(aO, cJ u 16 ro)], [(aS, cJ u 4 ga)], [(aW, cJ u 4 wt)]]) G FX2 (jAt_1 0 rfl) 36 (by decide) q1880 rfl rfl rfl (Nat.le_of_ble_eq_true rfl) dX2_layBest_2 rfl ?_
  refine j_aload_n G 0 rfl dX2_layBest_5 ?_
  refine j_ldc2 (-1) G q2218 (by decide) dX2_layBest_6 ?_
  refine j_put (ws' := [[(y0, jO 1 [iI th, iI n, iI gr, iI pw, .ref aT, iI po, iI pr, iI ix, iI sd, iI gn, iI tk, iI ln, .ref aX, iI zs, iI zl, iI za, iI zf, iI ze, iI zi, .ref aR, .ref aM, .ref aG, .ref aN, .ref aQ, lI ls, lI wn, .ref aO, .ref aS, .ref aH, .ref aU, lI sc, iI zc, .ref aW, lI al, lI nr, lI dr, iI (-1), lI (-1), lI bb, lI hh])], [(aT, cI u 24 tb)], [(aH, cJ u 4 h)], [(aU, cJ u 4 ut)], [(aO, cJ u 16 ro)], [(aS, cJ u 4 ga)], [(aW, cJ u 4 wt)]]) G FX2 (jAt_1 0 rfl) 37 (by decide) q1881 rfl rfl rfl (Nat.le_of_ble_eq_true rfl) dX2_layBest_9 rfl ?_
  refine j_aload_n G 0 rfl dX2_layBest_12 ?_
  refine j_ldc2 (-1) G q2218 (by decide) dX2_layBest_13 ?_
  refine j_put (ws' := [[(y0, jO 1 [iI th, iI n, iI gr, iI pw, .ref aT, iI po, iI pr, iI ix, iI sd, iI gn, iI tk, iI ln, .ref aX, iI zs, iI zl, iI za, iI zf, iI ze, iI zi, .ref aR, .ref aM, .ref aG, .ref aN, .ref aQ, lI ls, lI wn, .ref aO, .ref aS, .ref aH, .ref aU, lI sc, iI zc, .ref aW, lI al, lI nr, lI dr, iI (-1), lI (-1), lI (-1), lI hh])], [(aT, cI u 24 tb)], [(aH, cJ u 4 h)], [(aU, cJ u 4 ut)], [(aO, cJ u 16 ro)], [(aS, cJ u 4 ga)], [(aW, cJ u 4 wt)]]) G FX2 (jAt_1 0 rfl) 38 (by decide) q1882 rfl rfl rfl (Nat.le_of_ble_eq_true rfl) dX2_layBest_16 rfl ?_
  refine j_iconst G dX2_layBest_19 ?_
  refine j_istore_n G [(2, iI 1), (0, .ref y0), (1, iI most)] rfl (by decide) dX2_layBest_20 ?_
  have L21 : ∀ (m : Nat) (j : Nat) (k : Int) (bpq : Int) (baq : Int) (bbq : Int) (e1 : Int → Int) (e2 : Int → Int) (e3 : Int → Int) (e4 : Int → Int) (e5 : Int → Int) (scq : Int) (alq : Int) (nrq : Int) (drq : Int) (zcq : Int), 63 - j < m → k = j + 1 → (bpq, baq, bbq) = (bst (n, gr, pw, pr, tB tb, tF tb) most j) → j ≤ 63 → jJ X u 4 [[(y0, jO 1 [iI th, iI n, iI gr, iI pw, .ref aT, iI po, iI pr, iI ix, iI sd, iI gn, iI tk, iI ln, .ref aX, iI zs, iI zl, iI za, iI zf, iI ze, iI zi, .ref aR, .ref aM, .ref aG, .ref aN, .ref aQ, lI ls, lI wn, .ref aO, .ref aS, .ref aH, .ref aU, lI scq, iI zcq, .ref aW, lI alq, lI nrq, lI drq, iI bpq, lI baq, lI bbq, lI hh])], [(aT, cI u 24 tb)], [(aH, cJ u 4 e1)], [(aU, cJ u 4 e2)], [(aO, cJ u 16 e3)], [(aS, cJ u 4 e4)], [(aW, cJ u 4 e5)]] [(0, .ref y0), (1, iI most), (2, iI k)] 0 0 21 [] := by
    intro m
    induction m with
    | zero =>
      intro j k bpq baq bbq e1 e2 e3 e4 e5 scq alq nrq drq zcq g1 g2 g3 g4
      exfalso
      omega
    | succ m ih_L21 =>
      intro j k bpq baq bbq e1 e2 e3 e4 e5 scq alq nrq drq zcq g1 g2 g3 g4
      have hbo := bst_R hc g3
      refine j_iload_n G 2 rfl dX2_layBest_21 ?_
      refine j_bipush G (by decide) dX2_layBest_22 ?_
      refine j_icmp_ge 160 G (by unfold iR at *; omega) (by unfold iR; omega) dX2_layBest_24 (by decide) (fun c_24 => ?_) (fun c_24 => ?_)
      · skip
        have hj : j = 63 := by omega
        subst hj
        exact j_vret G E ⟨e1, e2, e3, e4, e5, scq, alq, nrq, drq, zcq, rfl, (by rw [← g3])⟩ ⟨by omega, by omega⟩ dX2_layBest_160
      · skip
        refine j_iload_n G 2 rfl dX2_layBest_27 ?_
        refine j_callS (wr := [[(y0, jO 1 [iI th, iI n, iI gr, iI pw, .ref aT, iI po, iI pr, iI ix, iI sd, iI gn, iI tk, iI ln, .ref aX, iI zs, iI zl, iI za, iI zf, iI ze, iI zi, .ref aR, .ref aM, .ref aG, .ref aN, .ref aQ, lI ls, lI wn, .ref aO, .ref aS, .ref aH, .ref aU, lI scq, iI zcq, .ref aW, lI alq, lI nrq, lI drq, iI bpq, lI baq, lI bbq, lI hh])], [(aT, cI u 24 tb)], [(aH, cJ u 4 e1)], [(aU, cJ u 4 e2)], [(aO, cJ u 16 e3)], [(aS, cJ u 4 e4)], [(aW, cJ u 4 e5)]]) (k' := 0) (n' := 0) G (c_X2_isProgram l u k (by unfold iR; omega)) hY_X2_isProgram q2010 q2011 q90 q2012 (jcut 7 [0, 1, 2, 3, 4, 5, 6] (by decide) rfl rfl) ⟨by omega, by omega, by omega, by omega, by omega, by omega⟩ (Nat.le_of_ble_eq_true rfl) dX2_layBest_28 rfl (fun v_ w_ hp => ?_)
        obtain ⟨r_28, h28_1, h28_2, rfl, rfl⟩ := hp
        show jJ X u 4 [[(y0, jO 1 [iI th, iI n, iI gr, iI pw, .ref aT, iI po, iI pr, iI ix, iI sd, iI gn, iI tk, iI ln, .ref aX, iI zs, iI zl, iI za, iI zf, iI ze, iI zi, .ref aR, .ref aM, .ref aG, .ref aN, .ref aQ, lI ls, lI wn, .ref aO, .ref aS, .ref aH, .ref aU, lI scq, iI zcq, .ref aW, lI alq, lI nrq, lI drq, iI bpq, lI baq, lI bbq, lI hh])], [(aT, cI u 24 tb)], [(aH, cJ u 4 e1)], [(aU, cJ u 4 e2)], [(aO, cJ u 16 e3)], [(aS, cJ u 4 e4)], [(aW, cJ u 4 e5)]] [(0, .ref y0), (1, iI most), (2, iI k)] 0 0 31 [iI r_28]
        refine j_if_eq 154 G (by unfold iR at *; omega) dX2_layBest_31 (by decide) (fun c_31 => ?_) (fun c_31 => ?_)
        · skip
          refine j_iinc G 2 rfl [(2, iI (k + 1)), (0, .ref y0), (1, iI most)] rfl (by decide) dX2_layBest_154 ?_
          refine j_goto 21 G dX2_layBest_157 (by decide) ?_
          refine j_lv [1, 2, 0] rfl ?_
          exact ih_L21 (j + 1) (k + 1) bpq baq bbq e1 e2 e3 e4 e5 scq alq nrq drq zcq (by (try unfold iR at *); omega) (by omega) (by
            show _ = bstS (n, gr, pw, pr, tB tb, tF tb) most ((j : Int) + 1) (bst (n, gr, pw, pr, tB tb, tF tb) most j)
            rw [← g3, ← g2]
            unfold bstS
            show _ = if (sProg k = 1 ∧ sLen k ≤ most ∧ sUses gr k = 1 ∧ clC (n, gr, pw, k, tB tb, tF tb) ≤ 1) ∧ (bpq = -1 ∨ 0 < cmpQ (avF (n, gr, pw, k, tB tb, tF tb)).1 (avF (n, gr, pw, k, tB tb, tF tb)).2 baq bbq) then (k, (avF (n, gr, pw, k, tB tb, tF tb)).1, (avF (n, gr, pw, k, tB tb, tF tb)).2) else (bpq, baq, bbq)
            first | (exfalso; omega) | (rw [if_pos (by omega)]; done) | rw [if_neg (by omega)]) (by (try unfold iR at *); omega)
        · skip
          refine j_iload_n G 2 rfl dX2_layBest_34 ?_
          refine j_callS (wr := [[(y0, jO 1 [iI th, iI n, iI gr, iI pw, .ref aT, iI po, iI pr, iI ix, iI sd, iI gn, iI tk, iI ln, .ref aX, iI zs, iI zl, iI za, iI zf, iI ze, iI zi, .ref aR, .ref aM, .ref aG, .ref aN, .ref aQ, lI ls, lI wn, .ref aO, .ref aS, .ref aH, .ref aU, lI scq, iI zcq, .ref aW, lI alq, lI nrq, lI drq, iI bpq, lI baq, lI bbq, lI hh])], [(aT, cI u 24 tb)], [(aH, cJ u 4 e1)], [(aU, cJ u 4 e2)], [(aO, cJ u 16 e3)], [(aS, cJ u 4 e4)], [(aW, cJ u 4 e5)]]) (k' := 0) (n' := 0) G (c_X2_size l u k (by unfold iR; omega)) hY_X2_size q2029 q2030 q90 q2031 (jcut 7 [0, 1, 2, 3, 4, 5, 6] (by decide) rfl rfl) ⟨by omega, by omega, by omega, by omega, by omega, by omega⟩ (Nat.le_of_ble_eq_true rfl) dX2_layBest_35 rfl (fun v_ w_ hp => ?_)
          obtain ⟨r_35, h35_1, h35_2, rfl, rfl⟩ := hp
          subst h35_1
          show jJ X u 4 [[(y0, jO 1 [iI th, iI n, iI gr, iI pw, .ref aT, iI po, iI pr, iI ix, iI sd, iI gn, iI tk, iI ln, .ref aX, iI zs, iI zl, iI za, iI zf, iI ze, iI zi, .ref aR, .ref aM, .ref aG, .ref aN, .ref aQ, lI ls, lI wn, .ref aO, .ref aS, .ref aH, .ref aU, lI scq, iI zcq, .ref aW, lI alq, lI nrq, lI drq, iI bpq, lI baq, lI bbq, lI hh])], [(aT, cI u 24 tb)], [(aH, cJ u 4 e1)], [(aU, cJ u 4 e2)], [(aO, cJ u 16 e3)], [(aS, cJ u 4 e4)], [(aW, cJ u 4 e5)]] [(0, .ref y0), (1, iI most), (2, iI k)] 0 0 38 [iI (sLen k)]
          refine j_iload_n G 1 rfl dX2_layBest_38 ?_
          refine j_icmp_gt 154 G (by unfold iR at *; omega) hRmost dX2_layBest_39 (by decide) (fun c_39 => ?_) (fun c_39 => ?_)
          · skip
            refine j_iinc G 2 rfl [(2, iI (k + 1)), (0, .ref y0), (1, iI most)] rfl (by decide) dX2_layBest_154 ?_
            refine j_goto 21 G dX2_layBest_157 (by decide) ?_
            refine j_lv [1, 2, 0] rfl ?_
            exact ih_L21 (j + 1) (k + 1) bpq baq bbq e1 e2 e3 e4 e5 scq alq nrq drq zcq (by (try unfold iR at *); omega) (by omega) (by
              show _ = bstS (n, gr, pw, pr, tB tb, tF tb) most ((j : Int) + 1) (bst (n, gr, pw, pr, tB tb, tF tb) most j)
              rw [← g3, ← g2]
              unfold bstS
              show _ = if (sProg k = 1 ∧ sLen k ≤ most ∧ sUses gr k = 1 ∧ clC (n, gr, pw, k, tB tb, tF tb) ≤ 1) ∧ (bpq = -1 ∨ 0 < cmpQ (avF (n, gr, pw, k, tB tb, tF tb)).1 (avF (n, gr, pw, k, tB tb, tF tb)).2 baq bbq) then (k, (avF (n, gr, pw, k, tB tb, tF tb)).1, (avF (n, gr, pw, k, tB tb, tF tb)).2) else (bpq, baq, bbq)
              first | (exfalso; omega) | (rw [if_pos (by omega)]; done) | rw [if_neg (by omega)]) (by (try unfold iR at *); omega)
          · skip
            refine j_aload_n G 0 rfl dX2_layBest_42 ?_
            refine j_iload_n G 2 rfl dX2_layBest_43 ?_
            refine j_callV (wr := [[(aT, cI u 24 tb)], [(aH, cJ u 4 e1)], [(aU, cJ u 4 e2)], [(aO, cJ u 16 e3)], [(aS, cJ u 4 e4)], [(aW, cJ u 4 e5)]]) (k' := 0) (n' := 0) G FX2 (c_X2_usesGeared l u y0 aT aX aR aM aG aN aQ aO aS aH aU aW th n gr pw po pr ix sd gn tk ln zs zl za zf ze zi zcq bpq ls wn scq alq nrq drq baq bbq hh k hg (by omega)) (jAt_1 0 rfl) ⟨rfl, hY_X2_usesGeared⟩ q2219 q2221 qs79 q90 q2222 (jcut 7 [0, 1, 2, 3, 4, 5, 6] (by decide) rfl rfl) ⟨by omega, by omega, by omega, by omega, by omega, by omega⟩ (Nat.le_of_ble_eq_true rfl) dX2_layBest_44 rfl (fun v_ w_ hp => ?_)
            obtain ⟨r_44, h44_1, h44_2, rfl, rfl⟩ := hp
            show jJ X u 4 [[(y0, jO 1 [iI th, iI n, iI gr, iI pw, .ref aT, iI po, iI pr, iI ix, iI sd, iI gn, iI tk, iI ln, .ref aX, iI zs, iI zl, iI za, iI zf, iI ze, iI zi, .ref aR, .ref aM, .ref aG, .ref aN, .ref aQ, lI ls, lI wn, .ref aO, .ref aS, .ref aH, .ref aU, lI scq, iI zcq, .ref aW, lI alq, lI nrq, lI drq, iI bpq, lI baq, lI bbq, lI hh])], [(aT, cI u 24 tb)], [(aH, cJ u 4 e1)], [(aU, cJ u 4 e2)], [(aO, cJ u 16 e3)], [(aS, cJ u 4 e4)], [(aW, cJ u 4 e5)]] [(0, .ref y0), (1, iI most), (2, iI k)] 0 0 47 [iI r_44]
            refine j_if_eq 154 G (by unfold iR at *; omega) dX2_layBest_47 (by decide) (fun c_47 => ?_) (fun c_47 => ?_)
            · skip
              refine j_iinc G 2 rfl [(2, iI (k + 1)), (0, .ref y0), (1, iI most)] rfl (by decide) dX2_layBest_154 ?_
              refine j_goto 21 G dX2_layBest_157 (by decide) ?_
              refine j_lv [1, 2, 0] rfl ?_
              exact ih_L21 (j + 1) (k + 1) bpq baq bbq e1 e2 e3 e4 e5 scq alq nrq drq zcq (by (try unfold iR at *); omega) (by omega) (by
                show _ = bstS (n, gr, pw, pr, tB tb, tF tb) most ((j : Int) + 1) (bst (n, gr, pw, pr, tB tb, tF tb) most j)
                rw [← g3, ← g2]
                unfold bstS
                show _ = if (sProg k = 1 ∧ sLen k ≤ most ∧ sUses gr k = 1 ∧ clC (n, gr, pw, k, tB tb, tF tb) ≤ 1) ∧ (bpq = -1 ∨ 0 < cmpQ (avF (n, gr, pw, k, tB tb, tF tb)).1 (avF (n, gr, pw, k, tB tb, tF tb)).2 baq bbq) then (k, (avF (n, gr, pw, k, tB tb, tF tb)).1, (avF (n, gr, pw, k, tB tb, tF tb)).2) else (bpq, baq, bbq)
                first | (exfalso; omega) | (rw [if_pos (by omega)]; done) | rw [if_neg (by omega)]) (by (try unfold iR at *); omega)
            · skip
              refine j_aload_n G 0 rfl dX2_layBest_50 ?_
              refine j_iload_n G 2 rfl dX2_layBest_51 ?_
              refine j_callV (wr := []) (k' := 0) (n' := 0) G FX2 (c_X2_layAverage l u y0 aT aX aR aM aG aN aQ aO aS aH aU aW th n gr pw po pr ix sd gn tk ln zs zl za zf ze zi zcq bpq ls wn scq alq nrq drq baq bbq hh tb e1 e2 e3 e4 e5 k hn hg hw hT (by omega)) (jAt_1 0 rfl) ⟨rfl, hY_X2_layAverage⟩ q2149 q2151 qs68 q90 q2152 (jcut 7 [0, 1, 2, 3, 4, 5, 6] (by decide) rfl rfl) ⟨by omega, by omega, by omega, by omega, by omega, by omega⟩ (Nat.le_of_ble_eq_true rfl) dX2_layBest_52 rfl (fun v_ w_ hp => ?_)
              rcases hp with ⟨he2, ut2_52, ro2_52, ga2_52, wt2_52, al2_52, h52_1, h52_2, h52_3, rfl, rfl⟩ | ⟨he2, ut2_52, ro2_52, ga2_52, wt2_52, h52_1, rfl, rfl⟩
              · skip
                show jJ X u 4 [[(y0, jO 1 [iI th, iI n, iI gr, iI pw, .ref aT, iI po, iI pr, iI ix, iI sd, iI gn, iI tk, iI ln, .ref aX, iI zs, iI zl, iI za, iI zf, iI ze, iI zi, .ref aR, .ref aM, .ref aG, .ref aN, .ref aQ, lI ls, lI wn, .ref aO, .ref aS, .ref aH, .ref aU, lI (rSc (n, gr, pw, k, tB tb, tF tb)), iI (clC (n, gr, pw, k, tB tb, tF tb)), .ref aW, lI al2_52, lI ((avF (n, gr, pw, k, tB tb, tF tb)).1), lI ((avF (n, gr, pw, k, tB tb, tF tb)).2), iI bpq, lI baq, lI bbq, lI hh])], [(aT, cI u 24 tb)], [(aH, cJ u 4 he2)], [(aU, cJ u 4 ut2_52)], [(aO, cJ u 16 ro2_52)], [(aS, cJ u 4 ga2_52)], [(aW, cJ u 4 wt2_52)]] [(0, .ref y0), (1, iI most), (2, iI k)] 0 0 55 []
                have hvh52_1 := avF_R (c := (n, gr, pw, k, tB tb, tF tb)) ⟨hn, hg, hw, (by omega), hT⟩ h52_1
                refine j_aload_n G 0 rfl dX2_layBest_55 ?_
                refine j_get G FX2 (jAt_1 0 rfl) 35 (by decide) q1879 rfl dX2_layBest_56 ?_
                refine j_lconst 0 G rfl dX2_layBest_59 ?_
                refine j_lcmp G (by unfold lR at *; omega) (by unfold lR; omega) dX2_layBest_60 ?_
                have k_61 := jCmp_c ((avF (n, gr, pw, k, tB tb, tF tb)).2) 0
                refine j_if_le 98 G (by unfold iR at *; omega) dX2_layBest_61 (by decide) (fun c_61 => ?_) (fun c_61 => ?_)
                · skip
                  refine j_iconst G dX2_layBest_98 ?_
                  refine j_istore_n G [(3, iI 0), (0, .ref y0), (1, iI most), (2, iI k)] rfl (by decide) dX2_layBest_99 ?_
                  refine j_aload_n G 1 rfl dX2_layBest_100 ?_
                  refine j_iload_n G 0 rfl dX2_layBest_101 ?_
                  refine j_if_eq 109 G (by unfold iR; omega) dX2_layBest_102 (by decide) (fun c_102 => ?_) (fun c_102 => ?_)
                  · skip
                    refine j_aload_n G 1 rfl dX2_layBest_109 ?_
                    refine j_get G FX2 (jAt_1 0 rfl) 36 (by decide) q1880 rfl dX2_layBest_110 ?_
                    refine j_put (ws' := [[(y0, jO 1 [iI th, iI n, iI gr, iI pw, .ref aT, iI po, iI pr, iI ix, iI sd, iI gn, iI tk, iI ln, .ref aX, iI zs, iI zl, iI za, iI zf, iI ze, iI zi, .ref aR, .ref aM, .ref aG, .ref aN, .ref aQ, lI ls, lI wn, .ref aO, .ref aS, .ref aH, .ref aU, lI (rSc (n, gr, pw, k, tB tb, tF tb)), iI (clC (n, gr, pw, k, tB tb, tF tb)), .ref aW, lI al2_52, lI ((avF (n, gr, pw, k, tB tb, tF tb)).1), lI ((avF (n, gr, pw, k, tB tb, tF tb)).2), iI bpq, lI baq, lI bbq, lI hh])], [(aT, cI u 24 tb)], [(aH, cJ u 4 he2)], [(aU, cJ u 4 ut2_52)], [(aO, cJ u 16 ro2_52)], [(aS, cJ u 4 ga2_52)], [(aW, cJ u 4 wt2_52)]]) G FX2 (jAt_1 0 rfl) 36 (by decide) q1880 rfl rfl rfl (Nat.le_of_ble_eq_true rfl) dX2_layBest_113 rfl ?_
                    refine j_aload_n G 1 rfl dX2_layBest_116 ?_
                    refine j_iload_n G 0 rfl dX2_layBest_117 ?_
                    refine j_if_eq 128 G (by unfold iR; omega) dX2_layBest_118 (by decide) (fun c_118 => ?_) (fun c_118 => ?_)
                    · skip
                      refine j_aload_n G 1 rfl dX2_layBest_128 ?_
                      refine j_get G FX2 (jAt_1 0 rfl) 37 (by decide) q1881 rfl dX2_layBest_129 ?_
                      refine j_put (ws' := [[(y0, jO 1 [iI th, iI n, iI gr, iI pw, .ref aT, iI po, iI pr, iI ix, iI sd, iI gn, iI tk, iI ln, .ref aX, iI zs, iI zl, iI za, iI zf, iI ze, iI zi, .ref aR, .ref aM, .ref aG, .ref aN, .ref aQ, lI ls, lI wn, .ref aO, .ref aS, .ref aH, .ref aU, lI (rSc (n, gr, pw, k, tB tb, tF tb)), iI (clC (n, gr, pw, k, tB tb, tF tb)), .ref aW, lI al2_52, lI ((avF (n, gr, pw, k, tB tb, tF tb)).1), lI ((avF (n, gr, pw, k, tB tb, tF tb)).2), iI bpq, lI baq, lI bbq, lI hh])], [(aT, cI u 24 tb)], [(aH, cJ u 4 he2)], [(aU, cJ u 4 ut2_52)], [(aO, cJ u 16 ro2_52)], [(aS, cJ u 4 ga2_52)], [(aW, cJ u 4 wt2_52)]]) G FX2 (jAt_1 0 rfl) 37 (by decide) q1881 rfl rfl rfl (Nat.le_of_ble_eq_true rfl) dX2_layBest_132 rfl ?_
                      refine j_aload_n G 1 rfl dX2_layBest_135 ?_
                      refine j_iload_n G 0 rfl dX2_layBest_136 ?_
                      refine j_if_eq 147 G (by unfold iR; omega) dX2_layBest_137 (by decide) (fun c_137 => ?_) (fun c_137 => ?_)
                      · skip
                        refine j_aload_n G 1 rfl dX2_layBest_147 ?_
                        refine j_get G FX2 (jAt_1 0 rfl) 38 (by decide) q1882 rfl dX2_layBest_148 ?_
                        refine j_put (ws' := [[(y0, jO 1 [iI th, iI n, iI gr, iI pw, .ref aT, iI po, iI pr, iI ix, iI sd, iI gn, iI tk, iI ln, .ref aX, iI zs, iI zl, iI za, iI zf, iI ze, iI zi, .ref aR, .ref aM, .ref aG, .ref aN, .ref aQ, lI ls, lI wn, .ref aO, .ref aS, .ref aH, .ref aU, lI (rSc (n, gr, pw, k, tB tb, tF tb)), iI (clC (n, gr, pw, k, tB tb, tF tb)), .ref aW, lI al2_52, lI ((avF (n, gr, pw, k, tB tb, tF tb)).1), lI ((avF (n, gr, pw, k, tB tb, tF tb)).2), iI bpq, lI baq, lI bbq, lI hh])], [(aT, cI u 24 tb)], [(aH, cJ u 4 he2)], [(aU, cJ u 4 ut2_52)], [(aO, cJ u 16 ro2_52)], [(aS, cJ u 4 ga2_52)], [(aW, cJ u 4 wt2_52)]]) G FX2 (jAt_1 0 rfl) 38 (by decide) q1882 rfl rfl rfl (Nat.le_of_ble_eq_true rfl) dX2_layBest_151 rfl ?_
                        refine j_iinc G 3 rfl [(2, iI (k + 1)), (3, iI 0), (0, .ref y0), (1, iI most)] rfl (by decide) dX2_layBest_154 ?_
                        refine j_goto 21 G dX2_layBest_157 (by decide) ?_
                        refine j_lv [2, 3, 0] rfl ?_
                        exact ih_L21 (j + 1) (k + 1) bpq baq bbq he2 ut2_52 ro2_52 ga2_52 wt2_52 (rSc (n, gr, pw, k, tB tb, tF tb)) al2_52 ((avF (n, gr, pw, k, tB tb, tF tb)).1) ((avF (n, gr, pw, k, tB tb, tF tb)).2) (clC (n, gr, pw, k, tB tb, tF tb)) (by (try unfold iR at *); omega) (by omega) (by
                          show _ = bstS (n, gr, pw, pr, tB tb, tF tb) most ((j : Int) + 1) (bst (n, gr, pw, pr, tB tb, tF tb) most j)
                          rw [← g3, ← g2]
                          unfold bstS
                          show _ = if (sProg k = 1 ∧ sLen k ≤ most ∧ sUses gr k = 1 ∧ clC (n, gr, pw, k, tB tb, tF tb) ≤ 1) ∧ (bpq = -1 ∨ 0 < cmpQ (avF (n, gr, pw, k, tB tb, tF tb)).1 (avF (n, gr, pw, k, tB tb, tF tb)).2 baq bbq) then (k, (avF (n, gr, pw, k, tB tb, tF tb)).1, (avF (n, gr, pw, k, tB tb, tF tb)).2) else (bpq, baq, bbq)
                          first | (exfalso; omega) | (rw [if_pos (by omega)]; done) | rw [if_neg (by omega)]) (by (try unfold iR at *); omega)
                      · exact absurd c_137 (by decide)
                    · exact absurd c_118 (by decide)
                  · exact absurd c_102 (by decide)
                · skip
                  refine j_aload_n G 0 rfl dX2_layBest_64 ?_
                  refine j_get G FX2 (jAt_1 0 rfl) 36 (by decide) q1880 rfl dX2_layBest_65 ?_
                  refine j_iconst G dX2_layBest_68 ?_
                  refine j_icmp_eq 94 G (by unfold iR at *; omega) (by unfold iR; omega) dX2_layBest_69 (by decide) (fun c_69 => ?_) (fun c_69 => ?_)
                  · skip
                    refine j_iconst G dX2_layBest_94 ?_
                    refine j_goto 99 G dX2_layBest_95 (by decide) ?_
                    refine j_istore_n G [(3, iI 1), (0, .ref y0), (1, iI most), (2, iI k)] rfl (by decide) dX2_layBest_99 ?_
                    refine j_aload_n G 1 rfl dX2_layBest_100 ?_
                    refine j_iload_n G 0 rfl dX2_layBest_101 ?_
                    refine j_if_eq 109 G (by unfold iR; omega) dX2_layBest_102 (by decide) (fun c_102 => ?_) (fun c_102 => ?_)
                    · exact absurd c_102 (by decide)
                    · skip
                      refine j_iload_n G 3 rfl dX2_layBest_105 ?_
                      refine j_goto 113 G dX2_layBest_106 (by decide) ?_
                      refine j_put (ws' := [[(y0, jO 1 [iI th, iI n, iI gr, iI pw, .ref aT, iI po, iI pr, iI ix, iI sd, iI gn, iI tk, iI ln, .ref aX, iI zs, iI zl, iI za, iI zf, iI ze, iI zi, .ref aR, .ref aM, .ref aG, .ref aN, .ref aQ, lI ls, lI wn, .ref aO, .ref aS, .ref aH, .ref aU, lI (rSc (n, gr, pw, k, tB tb, tF tb)), iI (clC (n, gr, pw, k, tB tb, tF tb)), .ref aW, lI al2_52, lI ((avF (n, gr, pw, k, tB tb, tF tb)).1), lI ((avF (n, gr, pw, k, tB tb, tF tb)).2), iI k, lI baq, lI bbq, lI hh])], [(aT, cI u 24 tb)], [(aH, cJ u 4 he2)], [(aU, cJ u 4 ut2_52)], [(aO, cJ u 16 ro2_52)], [(aS, cJ u 4 ga2_52)], [(aW, cJ u 4 wt2_52)]]) G FX2 (jAt_1 0 rfl) 36 (by decide) q1880 rfl rfl rfl (Nat.le_of_ble_eq_true rfl) dX2_layBest_113 rfl ?_
                      refine j_aload_n G 1 rfl dX2_layBest_116 ?_
                      refine j_iload_n G 0 rfl dX2_layBest_117 ?_
                      refine j_if_eq 128 G (by unfold iR; omega) dX2_layBest_118 (by decide) (fun c_118 => ?_) (fun c_118 => ?_)
                      · exact absurd c_118 (by decide)
                      · skip
                        refine j_aload_n G 1 rfl dX2_layBest_121 ?_
                        refine j_get G FX2 (jAt_1 0 rfl) 34 (by decide) q1878 rfl dX2_layBest_122 ?_
                        refine j_goto 132 G dX2_layBest_125 (by decide) ?_
                        refine j_put (ws' := [[(y0, jO 1 [iI th, iI n, iI gr, iI pw, .ref aT, iI po, iI pr, iI ix, iI sd, iI gn, iI tk, iI ln, .ref aX, iI zs, iI zl, iI za, iI zf, iI ze, iI zi, .ref aR, .ref aM, .ref aG, .ref aN, .ref aQ, lI ls, lI wn, .ref aO, .ref aS, .ref aH, .ref aU, lI (rSc (n, gr, pw, k, tB tb, tF tb)), iI (clC (n, gr, pw, k, tB tb, tF tb)), .ref aW, lI al2_52, lI ((avF (n, gr, pw, k, tB tb, tF tb)).1), lI ((avF (n, gr, pw, k, tB tb, tF tb)).2), iI k, lI ((avF (n, gr, pw, k, tB tb, tF tb)).1), lI bbq, lI hh])], [(aT, cI u 24 tb)], [(aH, cJ u 4 he2)], [(aU, cJ u 4 ut2_52)], [(aO, cJ u 16 ro2_52)], [(aS, cJ u 4 ga2_52)], [(aW, cJ u 4 wt2_52)]]) G FX2 (jAt_1 0 rfl) 37 (by decide) q1881 rfl rfl rfl (Nat.le_of_ble_eq_true rfl) dX2_layBest_132 rfl ?_
                        refine j_aload_n G 1 rfl dX2_layBest_135 ?_
                        refine j_iload_n G 0 rfl dX2_layBest_136 ?_
                        refine j_if_eq 147 G (by unfold iR; omega) dX2_layBest_137 (by decide) (fun c_137 => ?_) (fun c_137 => ?_)
                        · exact absurd c_137 (by decide)
                        · skip
                          refine j_aload_n G 1 rfl dX2_layBest_140 ?_
                          refine j_get G FX2 (jAt_1 0 rfl) 35 (by decide) q1879 rfl dX2_layBest_141 ?_
                          refine j_goto 151 G dX2_layBest_144 (by decide) ?_
                          refine j_put (ws' := [[(y0, jO 1 [iI th, iI n, iI gr, iI pw, .ref aT, iI po, iI pr, iI ix, iI sd, iI gn, iI tk, iI ln, .ref aX, iI zs, iI zl, iI za, iI zf, iI ze, iI zi, .ref aR, .ref aM, .ref aG, .ref aN, .ref aQ, lI ls, lI wn, .ref aO, .ref aS, .ref aH, .ref aU, lI (rSc (n, gr, pw, k, tB tb, tF tb)), iI (clC (n, gr, pw, k, tB tb, tF tb)), .ref aW, lI al2_52, lI ((avF (n, gr, pw, k, tB tb, tF tb)).1), lI ((avF (n, gr, pw, k, tB tb, tF tb)).2), iI k, lI ((avF (n, gr, pw, k, tB tb, tF tb)).1), lI ((avF (n, gr, pw, k, tB tb, tF tb)).2), lI hh])], [(aT, cI u 24 tb)], [(aH, cJ u 4 he2)], [(aU, cJ u 4 ut2_52)], [(aO, cJ u 16 ro2_52)], [(aS, cJ u 4 ga2_52)], [(aW, cJ u 4 wt2_52)]]) G FX2 (jAt_1 0 rfl) 38 (by decide) q1882 rfl rfl rfl (Nat.le_of_ble_eq_true rfl) dX2_layBest_151 rfl ?_
                          refine j_iinc G 3 rfl [(2, iI (k + 1)), (3, iI 1), (0, .ref y0), (1, iI most)] rfl (by decide) dX2_layBest_154 ?_
                          refine j_goto 21 G dX2_layBest_157 (by decide) ?_
                          refine j_lv [2, 3, 0] rfl ?_
                          exact ih_L21 (j + 1) (k + 1) k ((avF (n, gr, pw, k, tB tb, tF tb)).1) ((avF (n, gr, pw, k, tB tb, tF tb)).2) he2 ut2_52 ro2_52 ga2_52 wt2_52 (rSc (n, gr, pw, k, tB tb, tF tb)) al2_52 ((avF (n, gr, pw, k, tB tb, tF tb)).1) ((avF (n, gr, pw, k, tB tb, tF tb)).2) (clC (n, gr, pw, k, tB tb, tF tb)) (by (try unfold iR at *); omega) (by omega) (by
                            show _ = bstS (n, gr, pw, pr, tB tb, tF tb) most ((j : Int) + 1) (bst (n, gr, pw, pr, tB tb, tF tb) most j)
                            rw [← g3, ← g2]
                            unfold bstS
                            show _ = if (sProg k = 1 ∧ sLen k ≤ most ∧ sUses gr k = 1 ∧ clC (n, gr, pw, k, tB tb, tF tb) ≤ 1) ∧ (bpq = -1 ∨ 0 < cmpQ (avF (n, gr, pw, k, tB tb, tF tb)).1 (avF (n, gr, pw, k, tB tb, tF tb)).2 baq bbq) then (k, (avF (n, gr, pw, k, tB tb, tF tb)).1, (avF (n, gr, pw, k, tB tb, tF tb)).2) else (bpq, baq, bbq)
                            first | (exfalso; omega) | (rw [if_pos (by omega)]; done) | rw [if_neg (by omega)]) (by (try unfold iR at *); omega)
                  · skip
                    refine j_aload_n G 0 rfl dX2_layBest_72 ?_
                    refine j_get G FX2 (jAt_1 0 rfl) 34 (by decide) q1878 rfl dX2_layBest_73 ?_
                    refine j_aload_n G 0 rfl dX2_layBest_76 ?_
                    refine j_get G FX2 (jAt_1 0 rfl) 35 (by decide) q1879 rfl dX2_layBest_77 ?_
                    refine j_aload_n G 0 rfl dX2_layBest_80 ?_
                    refine j_get G FX2 (jAt_1 0 rfl) 37 (by decide) q1881 rfl dX2_layBest_81 ?_
                    refine j_aload_n G 0 rfl dX2_layBest_84 ?_
                    refine j_get G FX2 (jAt_1 0 rfl) 38 (by decide) q1882 rfl dX2_layBest_85 ?_
                    refine j_callS (wr := [[(y0, jO 1 [iI th, iI n, iI gr, iI pw, .ref aT, iI po, iI pr, iI ix, iI sd, iI gn, iI tk, iI ln, .ref aX, iI zs, iI zl, iI za, iI zf, iI ze, iI zi, .ref aR, .ref aM, .ref aG, .ref aN, .ref aQ, lI ls, lI wn, .ref aO, .ref aS, .ref aH, .ref aU, lI (rSc (n, gr, pw, k, tB tb, tF tb)), iI (clC (n, gr, pw, k, tB tb, tF tb)), .ref aW, lI al2_52, lI ((avF (n, gr, pw, k, tB tb, tF tb)).1), lI ((avF (n, gr, pw, k, tB tb, tF tb)).2), iI bpq, lI baq, lI bbq, lI hh])], [(aT, cI u 24 tb)], [(aH, cJ u 4 he2)], [(aU, cJ u 4 ut2_52)], [(aO, cJ u 16 ro2_52)], [(aS, cJ u 4 ga2_52)], [(aW, cJ u 4 wt2_52)]]) (k' := 0) (n' := 0) G (c_X2_sign l u ((avF (n, gr, pw, k, tB tb, tF tb)).1) ((avF (n, gr, pw, k, tB tb, tF tb)).2) baq bbq (by omega) (by omega) (by omega) (by omega)) hY_X2_sign q2200 q2201 q90 q2202 (jcut 7 [0, 1, 2, 3, 4, 5, 6] (by decide) rfl rfl) ⟨by omega, by omega, by omega, by omega, by omega, by omega⟩ (Nat.le_of_ble_eq_true rfl) dX2_layBest_88 rfl (fun v_ w_ hp => ?_)
                    obtain ⟨rfl, rfl⟩ := hp
                    show jJ X u 4 [[(y0, jO 1 [iI th, iI n, iI gr, iI pw, .ref aT, iI po, iI pr, iI ix, iI sd, iI gn, iI tk, iI ln, .ref aX, iI zs, iI zl, iI za, iI zf, iI ze, iI zi, .ref aR, .ref aM, .ref aG, .ref aN, .ref aQ, lI ls, lI wn, .ref aO, .ref aS, .ref aH, .ref aU, lI (rSc (n, gr, pw, k, tB tb, tF tb)), iI (clC (n, gr, pw, k, tB tb, tF tb)), .ref aW, lI al2_52, lI ((avF (n, gr, pw, k, tB tb, tF tb)).1), lI ((avF (n, gr, pw, k, tB tb, tF tb)).2), iI bpq, lI baq, lI bbq, lI hh])], [(aT, cI u 24 tb)], [(aH, cJ u 4 he2)], [(aU, cJ u 4 ut2_52)], [(aO, cJ u 16 ro2_52)], [(aS, cJ u 4 ga2_52)], [(aW, cJ u 4 wt2_52)]] [(0, .ref y0), (1, iI most), (2, iI k)] 0 0 91 [iI (cmpQ ((avF (n, gr, pw, k, tB tb, tF tb)).1) ((avF (n, gr, pw, k, tB tb, tF tb)).2) baq bbq)]
                    have hcq := cmp_R (avF (n, gr, pw, k, tB tb, tF tb)).1 (avF (n, gr, pw, k, tB tb, tF tb)).2 baq bbq
                    refine j_if_le 98 G (by unfold iR at *; omega) dX2_layBest_91 (by decide) (fun c_91 => ?_) (fun c_91 => ?_)
                    · skip
                      refine j_iconst G dX2_layBest_98 ?_
                      refine j_istore_n G [(3, iI 0), (0, .ref y0), (1, iI most), (2, iI k)] rfl (by decide) dX2_layBest_99 ?_
                      refine j_aload_n G 1 rfl dX2_layBest_100 ?_
                      refine j_iload_n G 0 rfl dX2_layBest_101 ?_
                      refine j_if_eq 109 G (by unfold iR; omega) dX2_layBest_102 (by decide) (fun c_102 => ?_) (fun c_102 => ?_)
                      · skip
                        refine j_aload_n G 1 rfl dX2_layBest_109 ?_
                        refine j_get G FX2 (jAt_1 0 rfl) 36 (by decide) q1880 rfl dX2_layBest_110 ?_
                        refine j_put (ws' := [[(y0, jO 1 [iI th, iI n, iI gr, iI pw, .ref aT, iI po, iI pr, iI ix, iI sd, iI gn, iI tk, iI ln, .ref aX, iI zs, iI zl, iI za, iI zf, iI ze, iI zi, .ref aR, .ref aM, .ref aG, .ref aN, .ref aQ, lI ls, lI wn, .ref aO, .ref aS, .ref aH, .ref aU, lI (rSc (n, gr, pw, k, tB tb, tF tb)), iI (clC (n, gr, pw, k, tB tb, tF tb)), .ref aW, lI al2_52, lI ((avF (n, gr, pw, k, tB tb, tF tb)).1), lI ((avF (n, gr, pw, k, tB tb, tF tb)).2), iI bpq, lI baq, lI bbq, lI hh])], [(aT, cI u 24 tb)], [(aH, cJ u 4 he2)], [(aU, cJ u 4 ut2_52)], [(aO, cJ u 16 ro2_52)], [(aS, cJ u 4 ga2_52)], [(aW, cJ u 4 wt2_52)]]) G FX2 (jAt_1 0 rfl) 36 (by decide) q1880 rfl rfl rfl (Nat.le_of_ble_eq_true rfl) dX2_layBest_113 rfl ?_
                        refine j_aload_n G 1 rfl dX2_layBest_116 ?_
                        refine j_iload_n G 0 rfl dX2_layBest_117 ?_
                        refine j_if_eq 128 G (by unfold iR; omega) dX2_layBest_118 (by decide) (fun c_118 => ?_) (fun c_118 => ?_)
                        · skip
                          refine j_aload_n G 1 rfl dX2_layBest_128 ?_
                          refine j_get G FX2 (jAt_1 0 rfl) 37 (by decide) q1881 rfl dX2_layBest_129 ?_
                          refine j_put (ws' := [[(y0, jO 1 [iI th, iI n, iI gr, iI pw, .ref aT, iI po, iI pr, iI ix, iI sd, iI gn, iI tk, iI ln, .ref aX, iI zs, iI zl, iI za, iI zf, iI ze, iI zi, .ref aR, .ref aM, .ref aG, .ref aN, .ref aQ, lI ls, lI wn, .ref aO, .ref aS, .ref aH, .ref aU, lI (rSc (n, gr, pw, k, tB tb, tF tb)), iI (clC (n, gr, pw, k, tB tb, tF tb)), .ref aW, lI al2_52, lI ((avF (n, gr, pw, k, tB tb, tF tb)).1), lI ((avF (n, gr, pw, k, tB tb, tF tb)).2), iI bpq, lI baq, lI bbq, lI hh])], [(aT, cI u 24 tb)], [(aH, cJ u 4 he2)], [(aU, cJ u 4 ut2_52)], [(aO, cJ u 16 ro2_52)], [(aS, cJ u 4 ga2_52)], [(aW, cJ u 4 wt2_52)]]) G FX2 (jAt_1 0 rfl) 37 (by decide) q1881 rfl rfl rfl (Nat.le_of_ble_eq_true rfl) dX2_layBest_132 rfl ?_
                          refine j_aload_n G 1 rfl dX2_layBest_135 ?_
                          refine j_iload_n G 0 rfl dX2_layBest_136 ?_
                          refine j_if_eq 147 G (by unfold iR; omega) dX2_layBest_137 (by decide) (fun c_137 => ?_) (fun c_137 => ?_)
                          · skip
                            refine j_aload_n G 1 rfl dX2_layBest_147 ?_
                            refine j_get G FX2 (jAt_1 0 rfl) 38 (by decide) q1882 rfl dX2_layBest_148 ?_
                            refine j_put (ws' := [[(y0, jO 1 [iI th, iI n, iI gr, iI pw, .ref aT, iI po, iI pr, iI ix, iI sd, iI gn, iI tk, iI ln, .ref aX, iI zs, iI zl, iI za, iI zf, iI ze, iI zi, .ref aR, .ref aM, .ref aG, .ref aN, .ref aQ, lI ls, lI wn, .ref aO, .ref aS, .ref aH, .ref aU, lI (rSc (n, gr, pw, k, tB tb, tF tb)), iI (clC (n, gr, pw, k, tB tb, tF tb)), .ref aW, lI al2_52, lI ((avF (n, gr, pw, k, tB tb, tF tb)).1), lI ((avF (n, gr, pw, k, tB tb, tF tb)).2), iI bpq, lI baq, lI bbq, lI hh])], [(aT, cI u 24 tb)], [(aH, cJ u 4 he2)], [(aU, cJ u 4 ut2_52)], [(aO, cJ u 16 ro2_52)], [(aS, cJ u 4 ga2_52)], [(aW, cJ u 4 wt2_52)]]) G FX2 (jAt_1 0 rfl) 38 (by decide) q1882 rfl rfl rfl (Nat.le_of_ble_eq_true rfl) dX2_layBest_151 rfl ?_
                            refine j_iinc G 3 rfl [(2, iI (k + 1)), (3, iI 0), (0, .ref y0), (1, iI most)] rfl (by decide) dX2_layBest_154 ?_
                            refine j_goto 21 G dX2_layBest_157 (by decide) ?_
                            refine j_lv [2, 3, 0] rfl ?_
                            exact ih_L21 (j + 1) (k + 1) bpq baq bbq he2 ut2_52 ro2_52 ga2_52 wt2_52 (rSc (n, gr, pw, k, tB tb, tF tb)) al2_52 ((avF (n, gr, pw, k, tB tb, tF tb)).1) ((avF (n, gr, pw, k, tB tb, tF tb)).2) (clC (n, gr, pw, k, tB tb, tF tb)) (by (try unfold iR at *); omega) (by omega) (by
                              show _ = bstS (n, gr, pw, pr, tB tb, tF tb) most ((j : Int) + 1) (bst (n, gr, pw, pr, tB tb, tF tb) most j)
                              rw [← g3, ← g2]
                              unfold bstS
                              show _ = if (sProg k = 1 ∧ sLen k ≤ most ∧ sUses gr k = 1 ∧ clC (n, gr, pw, k, tB tb, tF tb) ≤ 1) ∧ (bpq = -1 ∨ 0 < cmpQ (avF (n, gr, pw, k, tB tb, tF tb)).1 (avF (n, gr, pw, k, tB tb, tF tb)).2 baq bbq) then (k, (avF (n, gr, pw, k, tB tb, tF tb)).1, (avF (n, gr, pw, k, tB tb, tF tb)).2) else (bpq, baq, bbq)
                              first | (exfalso; omega) | (rw [if_pos (by omega)]; done) | rw [if_neg (by omega)]) (by (try unfold iR at *); omega)
                          · exact absurd c_137 (by decide)
                        · exact absurd c_118 (by decide)
                      · exact absurd c_102 (by decide)
                    · skip
                      refine j_iconst G dX2_layBest_94 ?_
                      refine j_goto 99 G dX2_layBest_95 (by decide) ?_
                      refine j_istore_n G [(3, iI 1), (0, .ref y0), (1, iI most), (2, iI k)] rfl (by decide) dX2_layBest_99 ?_
                      refine j_aload_n G 1 rfl dX2_layBest_100 ?_
                      refine j_iload_n G 0 rfl dX2_layBest_101 ?_
                      refine j_if_eq 109 G (by unfold iR; omega) dX2_layBest_102 (by decide) (fun c_102 => ?_) (fun c_102 => ?_)
                      · exact absurd c_102 (by decide)
                      · skip
                        refine j_iload_n G 3 rfl dX2_layBest_105 ?_
                        refine j_goto 113 G dX2_layBest_106 (by decide) ?_
                        refine j_put (ws' := [[(y0, jO 1 [iI th, iI n, iI gr, iI pw, .ref aT, iI po, iI pr, iI ix, iI sd, iI gn, iI tk, iI ln, .ref aX, iI zs, iI zl, iI za, iI zf, iI ze, iI zi, .ref aR, .ref aM, .ref aG, .ref aN, .ref aQ, lI ls, lI wn, .ref aO, .ref aS, .ref aH, .ref aU, lI (rSc (n, gr, pw, k, tB tb, tF tb)), iI (clC (n, gr, pw, k, tB tb, tF tb)), .ref aW, lI al2_52, lI ((avF (n, gr, pw, k, tB tb, tF tb)).1), lI ((avF (n, gr, pw, k, tB tb, tF tb)).2), iI k, lI baq, lI bbq, lI hh])], [(aT, cI u 24 tb)], [(aH, cJ u 4 he2)], [(aU, cJ u 4 ut2_52)], [(aO, cJ u 16 ro2_52)], [(aS, cJ u 4 ga2_52)], [(aW, cJ u 4 wt2_52)]]) G FX2 (jAt_1 0 rfl) 36 (by decide) q1880 rfl rfl rfl (Nat.le_of_ble_eq_true rfl) dX2_layBest_113 rfl ?_
                        refine j_aload_n G 1 rfl dX2_layBest_116 ?_
                        refine j_iload_n G 0 rfl dX2_layBest_117 ?_
                        refine j_if_eq 128 G (by unfold iR; omega) dX2_layBest_118 (by decide) (fun c_118 => ?_) (fun c_118 => ?_)
                        · exact absurd c_118 (by decide)
                        · skip
                          refine j_aload_n G 1 rfl dX2_layBest_121 ?_
                          refine j_get G FX2 (jAt_1 0 rfl) 34 (by decide) q1878 rfl dX2_layBest_122 ?_
                          refine j_goto 132 G dX2_layBest_125 (by decide) ?_
                          refine j_put (ws' := [[(y0, jO 1 [iI th, iI n, iI gr, iI pw, .ref aT, iI po, iI pr, iI ix, iI sd, iI gn, iI tk, iI ln, .ref aX, iI zs, iI zl, iI za, iI zf, iI ze, iI zi, .ref aR, .ref aM, .ref aG, .ref aN, .ref aQ, lI ls, lI wn, .ref aO, .ref aS, .ref aH, .ref aU, lI (rSc (n, gr, pw, k, tB tb, tF tb)), iI (clC (n, gr, pw, k, tB tb, tF tb)), .ref aW, lI al2_52, lI ((avF (n, gr, pw, k, tB tb, tF tb)).1), lI ((avF (n, gr, pw, k, tB tb, tF tb)).2), iI k, lI ((avF (n, gr, pw, k, tB tb, tF tb)).1), lI bbq, lI hh])], [(aT, cI u 24 tb)], [(aH, cJ u 4 he2)], [(aU, cJ u 4 ut2_52)], [(aO, cJ u 16 ro2_52)], [(aS, cJ u 4 ga2_52)], [(aW, cJ u 4 wt2_52)]]) G FX2 (jAt_1 0 rfl) 37 (by decide) q1881 rfl rfl rfl (Nat.le_of_ble_eq_true rfl) dX2_layBest_132 rfl ?_
                          refine j_aload_n G 1 rfl dX2_layBest_135 ?_
                          refine j_iload_n G 0 rfl dX2_layBest_136 ?_
                          refine j_if_eq 147 G (by unfold iR; omega) dX2_layBest_137 (by decide) (fun c_137 => ?_) (fun c_137 => ?_)
                          · exact absurd c_137 (by decide)
                          · skip
                            refine j_aload_n G 1 rfl dX2_layBest_140 ?_
                            refine j_get G FX2 (jAt_1 0 rfl) 35 (by decide) q1879 rfl dX2_layBest_141 ?_
                            refine j_goto 151 G dX2_layBest_144 (by decide) ?_
                            refine j_put (ws' := [[(y0, jO 1 [iI th, iI n, iI gr, iI pw, .ref aT, iI po, iI pr, iI ix, iI sd, iI gn, iI tk, iI ln, .ref aX, iI zs, iI zl, iI za, iI zf, iI ze, iI zi, .ref aR, .ref aM, .ref aG, .ref aN, .ref aQ, lI ls, lI wn, .ref aO, .ref aS, .ref aH, .ref aU, lI (rSc (n, gr, pw, k, tB tb, tF tb)), iI (clC (n, gr, pw, k, tB tb, tF tb)), .ref aW, lI al2_52, lI ((avF (n, gr, pw, k, tB tb, tF tb)).1), lI ((avF (n, gr, pw, k, tB tb, tF tb)).2), iI k, lI ((avF (n, gr, pw, k, tB tb, tF tb)).1), lI ((avF (n, gr, pw, k, tB tb, tF tb)).2), lI hh])], [(aT, cI u 24 tb)], [(aH, cJ u 4 he2)], [(aU, cJ u 4 ut2_52)], [(aO, cJ u 16 ro2_52)], [(aS, cJ u 4 ga2_52)], [(aW, cJ u 4 wt2_52)]]) G FX2 (jAt_1 0 rfl) 38 (by decide) q1882 rfl rfl rfl (Nat.le_of_ble_eq_true rfl) dX2_layBest_151 rfl ?_
                            refine j_iinc G 3 rfl [(2, iI (k + 1)), (3, iI 1), (0, .ref y0), (1, iI most)] rfl (by decide) dX2_layBest_154 ?_
                            refine j_goto 21 G dX2_layBest_157 (by decide) ?_
                            refine j_lv [2, 3, 0] rfl ?_
                            exact ih_L21 (j + 1) (k + 1) k ((avF (n, gr, pw, k, tB tb, tF tb)).1) ((avF (n, gr, pw, k, tB tb, tF tb)).2) he2 ut2_52 ro2_52 ga2_52 wt2_52 (rSc (n, gr, pw, k, tB tb, tF tb)) al2_52 ((avF (n, gr, pw, k, tB tb, tF tb)).1) ((avF (n, gr, pw, k, tB tb, tF tb)).2) (clC (n, gr, pw, k, tB tb, tF tb)) (by (try unfold iR at *); omega) (by omega) (by
                              show _ = bstS (n, gr, pw, pr, tB tb, tF tb) most ((j : Int) + 1) (bst (n, gr, pw, pr, tB tb, tF tb) most j)
                              rw [← g3, ← g2]
                              unfold bstS
                              show _ = if (sProg k = 1 ∧ sLen k ≤ most ∧ sUses gr k = 1 ∧ clC (n, gr, pw, k, tB tb, tF tb) ≤ 1) ∧ (bpq = -1 ∨ 0 < cmpQ (avF (n, gr, pw, k, tB tb, tF tb)).1 (avF (n, gr, pw, k, tB tb, tF tb)).2 baq bbq) then (k, (avF (n, gr, pw, k, tB tb, tF tb)).1, (avF (n, gr, pw, k, tB tb, tF tb)).2) else (bpq, baq, bbq)
                              first | (exfalso; omega) | (rw [if_pos (by omega)]; done) | rw [if_neg (by omega)]) (by (try unfold iR at *); omega)
              · skip
                show jJ X u 4 [[(y0, jO 1 [iI th, iI n, iI gr, iI pw, .ref aT, iI po, iI pr, iI ix, iI sd, iI gn, iI tk, iI ln, .ref aX, iI zs, iI zl, iI za, iI zf, iI ze, iI zi, .ref aR, .ref aM, .ref aG, .ref aN, .ref aQ, lI ls, lI wn, .ref aO, .ref aS, .ref aH, .ref aU, lI (rSc (n, gr, pw, k, tB tb, tF tb)), iI (clC (n, gr, pw, k, tB tb, tF tb)), .ref aW, lI alq, lI 0, lI 0, iI bpq, lI baq, lI bbq, lI hh])], [(aT, cI u 24 tb)], [(aH, cJ u 4 he2)], [(aU, cJ u 4 ut2_52)], [(aO, cJ u 16 ro2_52)], [(aS, cJ u 4 ga2_52)], [(aW, cJ u 4 wt2_52)]] [(0, .ref y0), (1, iI most), (2, iI k)] 0 0 55 []
                have hu := hn.1
                refine j_aload_n G 0 rfl dX2_layBest_55 ?_
                refine j_get G FX2 (jAt_1 0 rfl) 35 (by decide) q1879 rfl dX2_layBest_56 ?_
                refine j_lconst 0 G rfl dX2_layBest_59 ?_
                refine j_lcmp G (by unfold lR; omega) (by unfold lR; omega) dX2_layBest_60 ?_
                have k_61 := jCmp_c 0 0
                refine j_if_le 98 G (by unfold iR at *; omega) dX2_layBest_61 (by decide) (fun c_61 => ?_) (fun c_61 => ?_)
                · skip
                  refine j_iconst G dX2_layBest_98 ?_
                  refine j_istore_n G [(3, iI 0), (0, .ref y0), (1, iI most), (2, iI k)] rfl (by decide) dX2_layBest_99 ?_
                  refine j_aload_n G 1 rfl dX2_layBest_100 ?_
                  refine j_iload_n G 0 rfl dX2_layBest_101 ?_
                  refine j_if_eq 109 G (by unfold iR; omega) dX2_layBest_102 (by decide) (fun c_102 => ?_) (fun c_102 => ?_)
                  · skip
                    refine j_aload_n G 1 rfl dX2_layBest_109 ?_
                    refine j_get G FX2 (jAt_1 0 rfl) 36 (by decide) q1880 rfl dX2_layBest_110 ?_
                    refine j_put (ws' := [[(y0, jO 1 [iI th, iI n, iI gr, iI pw, .ref aT, iI po, iI pr, iI ix, iI sd, iI gn, iI tk, iI ln, .ref aX, iI zs, iI zl, iI za, iI zf, iI ze, iI zi, .ref aR, .ref aM, .ref aG, .ref aN, .ref aQ, lI ls, lI wn, .ref aO, .ref aS, .ref aH, .ref aU, lI (rSc (n, gr, pw, k, tB tb, tF tb)), iI (clC (n, gr, pw, k, tB tb, tF tb)), .ref aW, lI alq, lI 0, lI 0, iI bpq, lI baq, lI bbq, lI hh])], [(aT, cI u 24 tb)], [(aH, cJ u 4 he2)], [(aU, cJ u 4 ut2_52)], [(aO, cJ u 16 ro2_52)], [(aS, cJ u 4 ga2_52)], [(aW, cJ u 4 wt2_52)]]) G FX2 (jAt_1 0 rfl) 36 (by decide) q1880 rfl rfl rfl (Nat.le_of_ble_eq_true rfl) dX2_layBest_113 rfl ?_
                    refine j_aload_n G 1 rfl dX2_layBest_116 ?_
                    refine j_iload_n G 0 rfl dX2_layBest_117 ?_
                    refine j_if_eq 128 G (by unfold iR; omega) dX2_layBest_118 (by decide) (fun c_118 => ?_) (fun c_118 => ?_)
                    · skip
                      refine j_aload_n G 1 rfl dX2_layBest_128 ?_
                      refine j_get G FX2 (jAt_1 0 rfl) 37 (by decide) q1881 rfl dX2_layBest_129 ?_
                      refine j_put (ws' := [[(y0, jO 1 [iI th, iI n, iI gr, iI pw, .ref aT, iI po, iI pr, iI ix, iI sd, iI gn, iI tk, iI ln, .ref aX, iI zs, iI zl, iI za, iI zf, iI ze, iI zi, .ref aR, .ref aM, .ref aG, .ref aN, .ref aQ, lI ls, lI wn, .ref aO, .ref aS, .ref aH, .ref aU, lI (rSc (n, gr, pw, k, tB tb, tF tb)), iI (clC (n, gr, pw, k, tB tb, tF tb)), .ref aW, lI alq, lI 0, lI 0, iI bpq, lI baq, lI bbq, lI hh])], [(aT, cI u 24 tb)], [(aH, cJ u 4 he2)], [(aU, cJ u 4 ut2_52)], [(aO, cJ u 16 ro2_52)], [(aS, cJ u 4 ga2_52)], [(aW, cJ u 4 wt2_52)]]) G FX2 (jAt_1 0 rfl) 37 (by decide) q1881 rfl rfl rfl (Nat.le_of_ble_eq_true rfl) dX2_layBest_132 rfl ?_
                      refine j_aload_n G 1 rfl dX2_layBest_135 ?_
                      refine j_iload_n G 0 rfl dX2_layBest_136 ?_
                      refine j_if_eq 147 G (by unfold iR; omega) dX2_layBest_137 (by decide) (fun c_137 => ?_) (fun c_137 => ?_)
                      · skip
                        refine j_aload_n G 1 rfl dX2_layBest_147 ?_
                        refine j_get G FX2 (jAt_1 0 rfl) 38 (by decide) q1882 rfl dX2_layBest_148 ?_
                        refine j_put (ws' := [[(y0, jO 1 [iI th, iI n, iI gr, iI pw, .ref aT, iI po, iI pr, iI ix, iI sd, iI gn, iI tk, iI ln, .ref aX, iI zs, iI zl, iI za, iI zf, iI ze, iI zi, .ref aR, .ref aM, .ref aG, .ref aN, .ref aQ, lI ls, lI wn, .ref aO, .ref aS, .ref aH, .ref aU, lI (rSc (n, gr, pw, k, tB tb, tF tb)), iI (clC (n, gr, pw, k, tB tb, tF tb)), .ref aW, lI alq, lI 0, lI 0, iI bpq, lI baq, lI bbq, lI hh])], [(aT, cI u 24 tb)], [(aH, cJ u 4 he2)], [(aU, cJ u 4 ut2_52)], [(aO, cJ u 16 ro2_52)], [(aS, cJ u 4 ga2_52)], [(aW, cJ u 4 wt2_52)]]) G FX2 (jAt_1 0 rfl) 38 (by decide) q1882 rfl rfl rfl (Nat.le_of_ble_eq_true rfl) dX2_layBest_151 rfl ?_
                        refine j_iinc G 3 rfl [(2, iI (k + 1)), (3, iI 0), (0, .ref y0), (1, iI most)] rfl (by decide) dX2_layBest_154 ?_
                        refine j_goto 21 G dX2_layBest_157 (by decide) ?_
                        refine j_lv [2, 3, 0] rfl ?_
                        exact ih_L21 (j + 1) (k + 1) bpq baq bbq he2 ut2_52 ro2_52 ga2_52 wt2_52 (rSc (n, gr, pw, k, tB tb, tF tb)) alq 0 0 (clC (n, gr, pw, k, tB tb, tF tb)) (by (try unfold iR at *); omega) (by omega) (by
                          show _ = bstS (n, gr, pw, pr, tB tb, tF tb) most ((j : Int) + 1) (bst (n, gr, pw, pr, tB tb, tF tb) most j)
                          rw [← g3, ← g2]
                          unfold bstS
                          show _ = if (sProg k = 1 ∧ sLen k ≤ most ∧ sUses gr k = 1 ∧ clC (n, gr, pw, k, tB tb, tF tb) ≤ 1) ∧ (bpq = -1 ∨ 0 < cmpQ (avF (n, gr, pw, k, tB tb, tF tb)).1 (avF (n, gr, pw, k, tB tb, tF tb)).2 baq bbq) then (k, (avF (n, gr, pw, k, tB tb, tF tb)).1, (avF (n, gr, pw, k, tB tb, tF tb)).2) else (bpq, baq, bbq)
                          first | (exfalso; omega) | (rw [if_pos (by omega)]; done) | rw [if_neg (by omega)]) (by (try unfold iR at *); omega)
                      · exact absurd c_137 (by decide)
                    · exact absurd c_118 (by decide)
                  · exact absurd c_102 (by decide)
                · skip
                  refine j_aload_n G 0 rfl dX2_layBest_64 ?_
                  refine j_get G FX2 (jAt_1 0 rfl) 36 (by decide) q1880 rfl dX2_layBest_65 ?_
                  refine j_iconst G dX2_layBest_68 ?_
                  refine j_icmp_eq 94 G (by unfold iR at *; omega) (by unfold iR; omega) dX2_layBest_69 (by decide) (fun c_69 => ?_) (fun c_69 => ?_)
                  · skip
                    refine j_iconst G dX2_layBest_94 ?_
                    refine j_goto 99 G dX2_layBest_95 (by decide) ?_
                    refine j_istore_n G [(3, iI 1), (0, .ref y0), (1, iI most), (2, iI k)] rfl (by decide) dX2_layBest_99 ?_
                    refine j_aload_n G 1 rfl dX2_layBest_100 ?_
                    refine j_iload_n G 0 rfl dX2_layBest_101 ?_
                    refine j_if_eq 109 G (by unfold iR; omega) dX2_layBest_102 (by decide) (fun c_102 => ?_) (fun c_102 => ?_)
                    · exact absurd c_102 (by decide)
                    · skip
                      refine j_iload_n G 3 rfl dX2_layBest_105 ?_
                      refine j_goto 113 G dX2_layBest_106 (by decide) ?_
                      refine j_put (ws' := [[(y0, jO 1 [iI th, iI n, iI gr, iI pw, .ref aT, iI po, iI pr, iI ix, iI sd, iI gn, iI tk, iI ln, .ref aX, iI zs, iI zl, iI za, iI zf, iI ze, iI zi, .ref aR, .ref aM, .ref aG, .ref aN, .ref aQ, lI ls, lI wn, .ref aO, .ref aS, .ref aH, .ref aU, lI (rSc (n, gr, pw, k, tB tb, tF tb)), iI (clC (n, gr, pw, k, tB tb, tF tb)), .ref aW, lI alq, lI 0, lI 0, iI k, lI baq, lI bbq, lI hh])], [(aT, cI u 24 tb)], [(aH, cJ u 4 he2)], [(aU, cJ u 4 ut2_52)], [(aO, cJ u 16 ro2_52)], [(aS, cJ u 4 ga2_52)], [(aW, cJ u 4 wt2_52)]]) G FX2 (jAt_1 0 rfl) 36 (by decide) q1880 rfl rfl rfl (Nat.le_of_ble_eq_true rfl) dX2_layBest_113 rfl ?_
                      refine j_aload_n G 1 rfl dX2_layBest_116 ?_
                      refine j_iload_n G 0 rfl dX2_layBest_117 ?_
                      refine j_if_eq 128 G (by unfold iR; omega) dX2_layBest_118 (by decide) (fun c_118 => ?_) (fun c_118 => ?_)
                      · exact absurd c_118 (by decide)
                      · skip
                        refine j_aload_n G 1 rfl dX2_layBest_121 ?_
                        refine j_get G FX2 (jAt_1 0 rfl) 34 (by decide) q1878 rfl dX2_layBest_122 ?_
                        refine j_goto 132 G dX2_layBest_125 (by decide) ?_
                        refine j_put (ws' := [[(y0, jO 1 [iI th, iI n, iI gr, iI pw, .ref aT, iI po, iI pr, iI ix, iI sd, iI gn, iI tk, iI ln, .ref aX, iI zs, iI zl, iI za, iI zf, iI ze, iI zi, .ref aR, .ref aM, .ref aG, .ref aN, .ref aQ, lI ls, lI wn, .ref aO, .ref aS, .ref aH, .ref aU, lI (rSc (n, gr, pw, k, tB tb, tF tb)), iI (clC (n, gr, pw, k, tB tb, tF tb)), .ref aW, lI alq, lI 0, lI 0, iI k, lI 0, lI bbq, lI hh])], [(aT, cI u 24 tb)], [(aH, cJ u 4 he2)], [(aU, cJ u 4 ut2_52)], [(aO, cJ u 16 ro2_52)], [(aS, cJ u 4 ga2_52)], [(aW, cJ u 4 wt2_52)]]) G FX2 (jAt_1 0 rfl) 37 (by decide) q1881 rfl rfl rfl (Nat.le_of_ble_eq_true rfl) dX2_layBest_132 rfl ?_
                        refine j_aload_n G 1 rfl dX2_layBest_135 ?_
                        refine j_iload_n G 0 rfl dX2_layBest_136 ?_
                        refine j_if_eq 147 G (by unfold iR; omega) dX2_layBest_137 (by decide) (fun c_137 => ?_) (fun c_137 => ?_)
                        · exact absurd c_137 (by decide)
                        · skip
                          refine j_aload_n G 1 rfl dX2_layBest_140 ?_
                          refine j_get G FX2 (jAt_1 0 rfl) 35 (by decide) q1879 rfl dX2_layBest_141 ?_
                          refine j_goto 151 G dX2_layBest_144 (by decide) ?_
                          refine j_put (ws' := [[(y0, jO 1 [iI th, iI n, iI gr, iI pw, .ref aT, iI po, iI pr, iI ix, iI sd, iI gn, iI tk, iI ln, .ref aX, iI zs, iI zl, iI za, iI zf, iI ze, iI zi, .ref aR, .ref aM, .ref aG, .ref aN, .ref aQ, lI ls, lI wn, .ref aO, .ref aS, .ref aH, .ref aU, lI (rSc (n, gr, pw, k, tB tb, tF tb)), iI (clC (n, gr, pw, k, tB tb, tF tb)), .ref aW, lI alq, lI 0, lI 0, iI k, lI 0, lI 0, lI hh])], [(aT, cI u 24 tb)], [(aH, cJ u 4 he2)], [(aU, cJ u 4 ut2_52)], [(aO, cJ u 16 ro2_52)], [(aS, cJ u 4 ga2_52)], [(aW, cJ u 4 wt2_52)]]) G FX2 (jAt_1 0 rfl) 38 (by decide) q1882 rfl rfl rfl (Nat.le_of_ble_eq_true rfl) dX2_layBest_151 rfl ?_
                          refine j_iinc G 3 rfl [(2, iI (k + 1)), (3, iI 1), (0, .ref y0), (1, iI most)] rfl (by decide) dX2_layBest_154 ?_
                          refine j_goto 21 G dX2_layBest_157 (by decide) ?_
                          refine j_lv [2, 3, 0] rfl ?_
                          exact ih_L21 (j + 1) (k + 1) k 0 0 he2 ut2_52 ro2_52 ga2_52 wt2_52 (rSc (n, gr, pw, k, tB tb, tF tb)) alq 0 0 (clC (n, gr, pw, k, tB tb, tF tb)) (by (try unfold iR at *); omega) (by omega) (by
                            show _ = bstS (n, gr, pw, pr, tB tb, tF tb) most ((j : Int) + 1) (bst (n, gr, pw, pr, tB tb, tF tb) most j)
                            rw [← g3, ← g2]
                            unfold bstS
                            show _ = if (sProg k = 1 ∧ sLen k ≤ most ∧ sUses gr k = 1 ∧ clC (n, gr, pw, k, tB tb, tF tb) ≤ 1) ∧ (bpq = -1 ∨ 0 < cmpQ (avF (n, gr, pw, k, tB tb, tF tb)).1 (avF (n, gr, pw, k, tB tb, tF tb)).2 baq bbq) then (k, (avF (n, gr, pw, k, tB tb, tF tb)).1, (avF (n, gr, pw, k, tB tb, tF tb)).2) else (bpq, baq, bbq)
                            first | (exfalso; omega) | (rw [if_pos (by omega)]; done) | rw [if_neg (by omega)]) (by (try unfold iR at *); omega)
                  · skip
                    refine j_aload_n G 0 rfl dX2_layBest_72 ?_
                    refine j_get G FX2 (jAt_1 0 rfl) 34 (by decide) q1878 rfl dX2_layBest_73 ?_
                    refine j_aload_n G 0 rfl dX2_layBest_76 ?_
                    refine j_get G FX2 (jAt_1 0 rfl) 35 (by decide) q1879 rfl dX2_layBest_77 ?_
                    refine j_aload_n G 0 rfl dX2_layBest_80 ?_
                    refine j_get G FX2 (jAt_1 0 rfl) 37 (by decide) q1881 rfl dX2_layBest_81 ?_
                    refine j_aload_n G 0 rfl dX2_layBest_84 ?_
                    refine j_get G FX2 (jAt_1 0 rfl) 38 (by decide) q1882 rfl dX2_layBest_85 ?_
                    refine j_callS (wr := [[(y0, jO 1 [iI th, iI n, iI gr, iI pw, .ref aT, iI po, iI pr, iI ix, iI sd, iI gn, iI tk, iI ln, .ref aX, iI zs, iI zl, iI za, iI zf, iI ze, iI zi, .ref aR, .ref aM, .ref aG, .ref aN, .ref aQ, lI ls, lI wn, .ref aO, .ref aS, .ref aH, .ref aU, lI (rSc (n, gr, pw, k, tB tb, tF tb)), iI (clC (n, gr, pw, k, tB tb, tF tb)), .ref aW, lI alq, lI 0, lI 0, iI bpq, lI baq, lI bbq, lI hh])], [(aT, cI u 24 tb)], [(aH, cJ u 4 he2)], [(aU, cJ u 4 ut2_52)], [(aO, cJ u 16 ro2_52)], [(aS, cJ u 4 ga2_52)], [(aW, cJ u 4 wt2_52)]]) (k' := 0) (n' := 0) G (c_X2_sign l u 0 0 baq bbq (by omega) (by omega) (by omega) (by omega)) hY_X2_sign q2200 q2201 q90 q2202 (jcut 7 [0, 1, 2, 3, 4, 5, 6] (by decide) rfl rfl) ⟨by omega, by omega, by omega, by omega, by omega, by omega⟩ (Nat.le_of_ble_eq_true rfl) dX2_layBest_88 rfl (fun v_ w_ hp => ?_)
                    obtain ⟨rfl, rfl⟩ := hp
                    show jJ X u 4 [[(y0, jO 1 [iI th, iI n, iI gr, iI pw, .ref aT, iI po, iI pr, iI ix, iI sd, iI gn, iI tk, iI ln, .ref aX, iI zs, iI zl, iI za, iI zf, iI ze, iI zi, .ref aR, .ref aM, .ref aG, .ref aN, .ref aQ, lI ls, lI wn, .ref aO, .ref aS, .ref aH, .ref aU, lI (rSc (n, gr, pw, k, tB tb, tF tb)), iI (clC (n, gr, pw, k, tB tb, tF tb)), .ref aW, lI alq, lI 0, lI 0, iI bpq, lI baq, lI bbq, lI hh])], [(aT, cI u 24 tb)], [(aH, cJ u 4 he2)], [(aU, cJ u 4 ut2_52)], [(aO, cJ u 16 ro2_52)], [(aS, cJ u 4 ga2_52)], [(aW, cJ u 4 wt2_52)]] [(0, .ref y0), (1, iI most), (2, iI k)] 0 0 91 [iI (cmpQ 0 0 baq bbq)]
                    have hcq := cmp_R (avF (n, gr, pw, k, tB tb, tF tb)).1 (avF (n, gr, pw, k, tB tb, tF tb)).2 baq bbq
                    refine j_if_le 98 G (by unfold iR at *; omega) dX2_layBest_91 (by decide) (fun c_91 => ?_) (fun c_91 => ?_)
                    · skip
                      refine j_iconst G dX2_layBest_98 ?_
                      refine j_istore_n G [(3, iI 0), (0, .ref y0), (1, iI most), (2, iI k)] rfl (by decide) dX2_layBest_99 ?_
                      refine j_aload_n G 1 rfl dX2_layBest_100 ?_
                      refine j_iload_n G 0 rfl dX2_layBest_101 ?_
                      refine j_if_eq 109 G (by unfold iR; omega) dX2_layBest_102 (by decide) (fun c_102 => ?_) (fun c_102 => ?_)
                      · skip
                        refine j_aload_n G 1 rfl dX2_layBest_109 ?_
                        refine j_get G FX2 (jAt_1 0 rfl) 36 (by decide) q1880 rfl dX2_layBest_110 ?_
                        refine j_put (ws' := [[(y0, jO 1 [iI th, iI n, iI gr, iI pw, .ref aT, iI po, iI pr, iI ix, iI sd, iI gn, iI tk, iI ln, .ref aX, iI zs, iI zl, iI za, iI zf, iI ze, iI zi, .ref aR, .ref aM, .ref aG, .ref aN, .ref aQ, lI ls, lI wn, .ref aO, .ref aS, .ref aH, .ref aU, lI (rSc (n, gr, pw, k, tB tb, tF tb)), iI (clC (n, gr, pw, k, tB tb, tF tb)), .ref aW, lI alq, lI 0, lI 0, iI bpq, lI baq, lI bbq, lI hh])], [(aT, cI u 24 tb)], [(aH, cJ u 4 he2)], [(aU, cJ u 4 ut2_52)], [(aO, cJ u 16 ro2_52)], [(aS, cJ u 4 ga2_52)], [(aW, cJ u 4 wt2_52)]]) G FX2 (jAt_1 0 rfl) 36 (by decide) q1880 rfl rfl rfl (Nat.le_of_ble_eq_true rfl) dX2_layBest_113 rfl ?_
                        refine j_aload_n G 1 rfl dX2_layBest_116 ?_
                        refine j_iload_n G 0 rfl dX2_layBest_117 ?_
                        refine j_if_eq 128 G (by unfold iR; omega) dX2_layBest_118 (by decide) (fun c_118 => ?_) (fun c_118 => ?_)
                        · skip
                          refine j_aload_n G 1 rfl dX2_layBest_128 ?_
                          refine j_get G FX2 (jAt_1 0 rfl) 37 (by decide) q1881 rfl dX2_layBest_129 ?_
                          refine j_put (ws' := [[(y0, jO 1 [iI th, iI n, iI gr, iI pw, .ref aT, iI po, iI pr, iI ix, iI sd, iI gn, iI tk, iI ln, .ref aX, iI zs, iI zl, iI za, iI zf, iI ze, iI zi, .ref aR, .ref aM, .ref aG, .ref aN, .ref aQ, lI ls, lI wn, .ref aO, .ref aS, .ref aH, .ref aU, lI (rSc (n, gr, pw, k, tB tb, tF tb)), iI (clC (n, gr, pw, k, tB tb, tF tb)), .ref aW, lI alq, lI 0, lI 0, iI bpq, lI baq, lI bbq, lI hh])], [(aT, cI u 24 tb)], [(aH, cJ u 4 he2)], [(aU, cJ u 4 ut2_52)], [(aO, cJ u 16 ro2_52)], [(aS, cJ u 4 ga2_52)], [(aW, cJ u 4 wt2_52)]]) G FX2 (jAt_1 0 rfl) 37 (by decide) q1881 rfl rfl rfl (Nat.le_of_ble_eq_true rfl) dX2_layBest_132 rfl ?_
                          refine j_aload_n G 1 rfl dX2_layBest_135 ?_
                          refine j_iload_n G 0 rfl dX2_layBest_136 ?_
                          refine j_if_eq 147 G (by unfold iR; omega) dX2_layBest_137 (by decide) (fun c_137 => ?_) (fun c_137 => ?_)
                          · skip
                            refine j_aload_n G 1 rfl dX2_layBest_147 ?_
                            refine j_get G FX2 (jAt_1 0 rfl) 38 (by decide) q1882 rfl dX2_layBest_148 ?_
                            refine j_put (ws' := [[(y0, jO 1 [iI th, iI n, iI gr, iI pw, .ref aT, iI po, iI pr, iI ix, iI sd, iI gn, iI tk, iI ln, .ref aX, iI zs, iI zl, iI za, iI zf, iI ze, iI zi, .ref aR, .ref aM, .ref aG, .ref aN, .ref aQ, lI ls, lI wn, .ref aO, .ref aS, .ref aH, .ref aU, lI (rSc (n, gr, pw, k, tB tb, tF tb)), iI (clC (n, gr, pw, k, tB tb, tF tb)), .ref aW, lI alq, lI 0, lI 0, iI bpq, lI baq, lI bbq, lI hh])], [(aT, cI u 24 tb)], [(aH, cJ u 4 he2)], [(aU, cJ u 4 ut2_52)], [(aO, cJ u 16 ro2_52)], [(aS, cJ u 4 ga2_52)], [(aW, cJ u 4 wt2_52)]]) G FX2 (jAt_1 0 rfl) 38 (by decide) q1882 rfl rfl rfl (Nat.le_of_ble_eq_true rfl) dX2_layBest_151 rfl ?_
                            refine j_iinc G 3 rfl [(2, iI (k + 1)), (3, iI 0), (0, .ref y0), (1, iI most)] rfl (by decide) dX2_layBest_154 ?_
                            refine j_goto 21 G dX2_layBest_157 (by decide) ?_
                            refine j_lv [2, 3, 0] rfl ?_
                            exact ih_L21 (j + 1) (k + 1) bpq baq bbq he2 ut2_52 ro2_52 ga2_52 wt2_52 (rSc (n, gr, pw, k, tB tb, tF tb)) alq 0 0 (clC (n, gr, pw, k, tB tb, tF tb)) (by (try unfold iR at *); omega) (by omega) (by
                              show _ = bstS (n, gr, pw, pr, tB tb, tF tb) most ((j : Int) + 1) (bst (n, gr, pw, pr, tB tb, tF tb) most j)
                              rw [← g3, ← g2]
                              unfold bstS
                              show _ = if (sProg k = 1 ∧ sLen k ≤ most ∧ sUses gr k = 1 ∧ clC (n, gr, pw, k, tB tb, tF tb) ≤ 1) ∧ (bpq = -1 ∨ 0 < cmpQ (avF (n, gr, pw, k, tB tb, tF tb)).1 (avF (n, gr, pw, k, tB tb, tF tb)).2 baq bbq) then (k, (avF (n, gr, pw, k, tB tb, tF tb)).1, (avF (n, gr, pw, k, tB tb, tF tb)).2) else (bpq, baq, bbq)
                              first | (exfalso; omega) | (rw [if_pos (by omega)]; done) | rw [if_neg (by omega)]) (by (try unfold iR at *); omega)
                          · exact absurd c_137 (by decide)
                        · exact absurd c_118 (by decide)
                      · exact absurd c_102 (by decide)
                    · skip
                      refine j_iconst G dX2_layBest_94 ?_
                      refine j_goto 99 G dX2_layBest_95 (by decide) ?_
                      refine j_istore_n G [(3, iI 1), (0, .ref y0), (1, iI most), (2, iI k)] rfl (by decide) dX2_layBest_99 ?_
                      refine j_aload_n G 1 rfl dX2_layBest_100 ?_
                      refine j_iload_n G 0 rfl dX2_layBest_101 ?_
                      refine j_if_eq 109 G (by unfold iR; omega) dX2_layBest_102 (by decide) (fun c_102 => ?_) (fun c_102 => ?_)
                      · exact absurd c_102 (by decide)
                      · skip
                        refine j_iload_n G 3 rfl dX2_layBest_105 ?_
                        refine j_goto 113 G dX2_layBest_106 (by decide) ?_
                        refine j_put (ws' := [[(y0, jO 1 [iI th, iI n, iI gr, iI pw, .ref aT, iI po, iI pr, iI ix, iI sd, iI gn, iI tk, iI ln, .ref aX, iI zs, iI zl, iI za, iI zf, iI ze, iI zi, .ref aR, .ref aM, .ref aG, .ref aN, .ref aQ, lI ls, lI wn, .ref aO, .ref aS, .ref aH, .ref aU, lI (rSc (n, gr, pw, k, tB tb, tF tb)), iI (clC (n, gr, pw, k, tB tb, tF tb)), .ref aW, lI alq, lI 0, lI 0, iI k, lI baq, lI bbq, lI hh])], [(aT, cI u 24 tb)], [(aH, cJ u 4 he2)], [(aU, cJ u 4 ut2_52)], [(aO, cJ u 16 ro2_52)], [(aS, cJ u 4 ga2_52)], [(aW, cJ u 4 wt2_52)]]) G FX2 (jAt_1 0 rfl) 36 (by decide) q1880 rfl rfl rfl (Nat.le_of_ble_eq_true rfl) dX2_layBest_113 rfl ?_
                        refine j_aload_n G 1 rfl dX2_layBest_116 ?_
                        refine j_iload_n G 0 rfl dX2_layBest_117 ?_
                        refine j_if_eq 128 G (by unfold iR; omega) dX2_layBest_118 (by decide) (fun c_118 => ?_) (fun c_118 => ?_)
                        · exact absurd c_118 (by decide)
                        · skip
                          refine j_aload_n G 1 rfl dX2_layBest_121 ?_
                          refine j_get G FX2 (jAt_1 0 rfl) 34 (by decide) q1878 rfl dX2_layBest_122 ?_
                          refine j_goto 132 G dX2_layBest_125 (by decide) ?_
                          refine j_put (ws' := [[(y0, jO 1 [iI th, iI n, iI gr, iI pw, .ref aT, iI po, iI pr, iI ix, iI sd, iI gn, iI tk, iI ln, .ref aX, iI zs, iI zl, iI za, iI zf, iI ze, iI zi, .ref aR, .ref aM, .ref aG, .ref aN, .ref aQ, lI ls, lI wn, .ref aO, .ref aS, .ref aH, .ref aU, lI (rSc (n, gr, pw, k, tB tb, tF tb)), iI (clC (n, gr, pw, k, tB tb, tF tb)), .ref aW, lI alq, lI 0, lI 0, iI k, lI 0, lI bbq, lI hh])], [(aT, cI u 24 tb)], [(aH, cJ u 4 he2)], [(aU, cJ u 4 ut2_52)], [(aO, cJ u 16 ro2_52)], [(aS, cJ u 4 ga2_52)], [(aW, cJ u 4 wt2_52)]]) G FX2 (jAt_1 0 rfl) 37 (by decide) q1881 rfl rfl rfl (Nat.le_of_ble_eq_true rfl) dX2_layBest_132 rfl ?_
                          refine j_aload_n G 1 rfl dX2_layBest_135 ?_
                          refine j_iload_n G 0 rfl dX2_layBest_136 ?_
                          refine j_if_eq 147 G (by unfold iR; omega) dX2_layBest_137 (by decide) (fun c_137 => ?_) (fun c_137 => ?_)
                          · exact absurd c_137 (by decide)
                          · skip
                            refine j_aload_n G 1 rfl dX2_layBest_140 ?_
                            refine j_get G FX2 (jAt_1 0 rfl) 35 (by decide) q1879 rfl dX2_layBest_141 ?_
                            refine j_goto 151 G dX2_layBest_144 (by decide) ?_
                            refine j_put (ws' := [[(y0, jO 1 [iI th, iI n, iI gr, iI pw, .ref aT, iI po, iI pr, iI ix, iI sd, iI gn, iI tk, iI ln, .ref aX, iI zs, iI zl, iI za, iI zf, iI ze, iI zi, .ref aR, .ref aM, .ref aG, .ref aN, .ref aQ, lI ls, lI wn, .ref aO, .ref aS, .ref aH, .ref aU, lI (rSc (n, gr, pw, k, tB tb, tF tb)), iI (clC (n, gr, pw, k, tB tb, tF tb)), .ref aW, lI alq, lI 0, lI 0, iI k, lI 0, lI 0, lI hh])], [(aT, cI u 24 tb)], [(aH, cJ u 4 he2)], [(aU, cJ u 4 ut2_52)], [(aO, cJ u 16 ro2_52)], [(aS, cJ u 4 ga2_52)], [(aW, cJ u 4 wt2_52)]]) G FX2 (jAt_1 0 rfl) 38 (by decide) q1882 rfl rfl rfl (Nat.le_of_ble_eq_true rfl) dX2_layBest_151 rfl ?_
                            refine j_iinc G 3 rfl [(2, iI (k + 1)), (3, iI 1), (0, .ref y0), (1, iI most)] rfl (by decide) dX2_layBest_154 ?_
                            refine j_goto 21 G dX2_layBest_157 (by decide) ?_
                            refine j_lv [2, 3, 0] rfl ?_
                            exact ih_L21 (j + 1) (k + 1) k 0 0 he2 ut2_52 ro2_52 ga2_52 wt2_52 (rSc (n, gr, pw, k, tB tb, tF tb)) alq 0 0 (clC (n, gr, pw, k, tB tb, tF tb)) (by (try unfold iR at *); omega) (by omega) (by
                              show _ = bstS (n, gr, pw, pr, tB tb, tF tb) most ((j : Int) + 1) (bst (n, gr, pw, pr, tB tb, tF tb) most j)
                              rw [← g3, ← g2]
                              unfold bstS
                              show _ = if (sProg k = 1 ∧ sLen k ≤ most ∧ sUses gr k = 1 ∧ clC (n, gr, pw, k, tB tb, tF tb) ≤ 1) ∧ (bpq = -1 ∨ 0 < cmpQ (avF (n, gr, pw, k, tB tb, tF tb)).1 (avF (n, gr, pw, k, tB tb, tF tb)).2 baq bbq) then (k, (avF (n, gr, pw, k, tB tb, tF tb)).1, (avF (n, gr, pw, k, tB tb, tF tb)).2) else (bpq, baq, bbq)
                              first | (exfalso; omega) | (rw [if_pos (by omega)]; done) | rw [if_neg (by omega)]) (by (try unfold iR at *); omega)
  refine j_lv [1, 2, 0] rfl ?_
  exact L21 64 0 1 (-1) (-1) (-1) h ut ro ga wt sc al nr dr zc (by (try unfold iR at *); omega) rfl rfl (by (try unfold iR at *); omega)
theorem hY_X2_bestNow : jY yX2_bestNow 2 := ⟨by decide +kernel, by decide +kernel, by decide +kernel⟩
set_option maxHeartbeats 4000000 in
set_option maxRecDepth 100000 in
theorem c_X2_bestNow (l : Launch) (u : jU) (y0 aT aX aR aM aG aN aQ aO aS aH aU aW : Nat) (th n gr pw po pr ix sd gn tk ln zs zl za zf ze zi zc bp ls wn sc al nr dr ba bb hh : Int) (tb : Int → Int) (h : Int → Int) (ut : Int → Int) (ro : Int → Int) (ga : Int → Int) (wt : Int → Int) (most w : Int) (hn : 2 ≤ n ∧ n ≤ 4) (hg : 0 ≤ gr ∧ gr ≤ 7) (hw : 0 ≤ pw ∧ pw ≤ 15) (hpr : sProg pr = 1) (hT : wT (tB tb) (tF tb)) (hRmost : iR most) (hRw : iR w) : jC l u yX2_bestNow cX2_bestNow 3 (some .long) 6 142 0 0 [.ref y0, iI most, iI w] [[(y0, jO 1 [iI th, iI n, iI gr, iI pw, .ref aT, iI po, iI pr, iI ix, iI sd, iI gn, iI tk, iI ln, .ref aX, iI zs, iI zl, iI za, iI zf, iI ze, iI zi, .ref aR, .ref aM, .ref aG, .ref aN, .ref aQ, lI ls, lI wn, .ref aO, .ref aS, .ref aH, .ref aU, lI sc, iI zc, .ref aW, lI al, lI nr, lI dr, iI bp, lI ba, lI bb, lI hh])], [(aT, cI u 24 tb)], [(aH, cJ u 4 h)], [(aU, cJ u 4 ut)], [(aO, cJ u 16 ro)], [(aS, cJ u 4 ga)], [(aW, cJ u 4 wt)]] (fun v_ w_ => ∃ (h2 ut2 ro2 ga2 wt2 : Int → Int) (sc2 al2 nr2 dr2 zc2 : Int) (bp2 ba2 bb2 r : Int), r = (if w = 0 then (bst (n, gr, pw, pr, tB tb, tF tb) most 63).1 else if w = 1 then (bst (n, gr, pw, pr, tB tb, tF tb) most 63).2.1 else (bst (n, gr, pw, pr, tB tb, tF tb) most 63).2.2) ∧ v_ = some (lI r) ∧ w_ = [[(y0, jO 1 [iI th, iI n, iI gr, iI pw, .ref aT, iI po, iI pr, iI ix, iI sd, iI gn, iI tk, iI ln, .ref aX, iI zs, iI zl, iI za, iI zf, iI ze, iI zi, .ref aR, .ref aM, .ref aG, .ref aN, .ref aQ, lI ls, lI wn, .ref aO, .ref aS, .ref aH, .ref aU, lI sc2, iI zc2, .ref aW, lI al2, lI nr2, lI dr2, iI bp2, lI ba2, lI bb2, lI hh])], [(aT, cI u 24 tb)], [(aH, cJ u 4 h2)], [(aU, cJ u 4 ut2)], [(aO, cJ u 16 ro2)], [(aS, cJ u 4 ga2)], [(aW, cJ u 4 wt2)]]) := by
  refine jC.of "FlashRatchetModel" (by decide +kernel) rfl (Nat.le_of_ble_eq_true rfl) [(0, .ref y0), (1, iI most), (2, iI w)] rfl (fun X G E I => ?_)
  have hc : wC (n, gr, pw, pr, tB tb, tF tb) := ⟨hn, hg, hw, hpr, hT⟩
  have hbo := bst_R hc (x := (bst (n, gr, pw, pr, tB tb, tF tb) most 63).1) (y := (bst (n, gr, pw, pr, tB tb, tF tb) most 63).2.1) (z := (bst (n, gr, pw, pr, tB tb, tF tb) most 63).2.2) rfl
  refine j_aload_n G 0 rfl dX2_bestNow_0 ?_
  refine j_iload_n G 1 rfl dX2_bestNow_1 ?_
  refine j_callV (wr := []) (k' := 0) (n' := 0) G FX2 (c_X2_layBest l u y0 aT aX aR aM aG aN aQ aO aS aH aU aW th n gr pw po pr ix sd gn tk ln zs zl za zf ze zi zc bp ls wn sc al nr dr ba bb hh tb h ut ro ga wt most hn hg hw hpr hT hRmost) (jAt_1 0 rfl) ⟨rfl, hY_X2_layBest⟩ q2214 q2216 qs78 q90 q2217 (jcut 7 [0, 1, 2, 3, 4, 5, 6] (by decide) rfl rfl) ⟨by omega, by omega, by omega, by omega, by omega, by omega⟩ (Nat.le_of_ble_eq_true rfl) dX2_bestNow_2 rfl (fun v_ w_ hp => ?_)
  obtain ⟨he2, ut2_2, ro2_2, ga2_2, wt2_2, sc2_2, al2_2, nr2_2, dr2_2, zc2_2, rfl, rfl⟩ := hp
  show jJ X u 3 [[(y0, jO 1 [iI th, iI n, iI gr, iI pw, .ref aT, iI po, iI pr, iI ix, iI sd, iI gn, iI tk, iI ln, .ref aX, iI zs, iI zl, iI za, iI zf, iI ze, iI zi, .ref aR, .ref aM, .ref aG, .ref aN, .ref aQ, lI ls, lI wn, .ref aO, .ref aS, .ref aH, .ref aU, lI sc2_2, iI zc2_2, .ref aW, lI al2_2, lI nr2_2, lI dr2_2, iI ((bst (n, gr, pw, pr, tB tb, tF tb) most 63).1), lI ((bst (n, gr, pw, pr, tB tb, tF tb) most 63).2.1), lI ((bst (n, gr, pw, pr, tB tb, tF tb) most 63).2.2), lI hh])], [(aT, cI u 24 tb)], [(aH, cJ u 4 he2)], [(aU, cJ u 4 ut2_2)], [(aO, cJ u 16 ro2_2)], [(aS, cJ u 4 ga2_2)], [(aW, cJ u 4 wt2_2)]] [(0, .ref y0), (1, iI most), (2, iI w)] 0 0 5 []
  refine j_iload_n G 2 rfl dX2_bestNow_5 ?_
  refine j_if_ne 17 G hRw dX2_bestNow_6 (by decide) (fun c_6 => ?_) (fun c_6 => ?_)
  · skip
    refine j_iload_n G 2 rfl dX2_bestNow_17 ?_
    refine j_iconst G dX2_bestNow_18 ?_
    refine j_icmp_ne 29 G hRw (by unfold iR; omega) dX2_bestNow_19 (by decide) (fun c_19 => ?_) (fun c_19 => ?_)
    · skip
      refine j_aload_n G 0 rfl dX2_bestNow_29 ?_
      refine j_get G FX2 (jAt_1 0 rfl) 38 (by decide) q1882 rfl dX2_bestNow_30 ?_
      exact j_lret G E ⟨he2, ut2_2, ro2_2, ga2_2, wt2_2, sc2_2, al2_2, nr2_2, dr2_2, zc2_2, ((bst (n, gr, pw, pr, tB tb, tF tb) most 63).1), ((bst (n, gr, pw, pr, tB tb, tF tb) most 63).2.1), ((bst (n, gr, pw, pr, tB tb, tF tb) most 63).2.2), ((bst (n, gr, pw, pr, tB tb, tF tb) most 63).2.2), (by first | (rw [if_pos c_6]; done) | (rw [if_neg c_6, if_pos c_19]; done) | (rw [if_neg c_6, if_neg c_19])), rfl, rfl⟩ ⟨by omega, by omega⟩ dX2_bestNow_33
    · skip
      refine j_aload_n G 0 rfl dX2_bestNow_22 ?_
      refine j_get G FX2 (jAt_1 0 rfl) 37 (by decide) q1881 rfl dX2_bestNow_23 ?_
      refine j_goto 33 G dX2_bestNow_26 (by decide) ?_
      exact j_lret G E ⟨he2, ut2_2, ro2_2, ga2_2, wt2_2, sc2_2, al2_2, nr2_2, dr2_2, zc2_2, ((bst (n, gr, pw, pr, tB tb, tF tb) most 63).1), ((bst (n, gr, pw, pr, tB tb, tF tb) most 63).2.1), ((bst (n, gr, pw, pr, tB tb, tF tb) most 63).2.2), ((bst (n, gr, pw, pr, tB tb, tF tb) most 63).2.1), (by first | (rw [if_pos c_6]; done) | (rw [if_neg c_6, if_pos c_19]; done) | (rw [if_neg c_6, if_neg c_19])), rfl, rfl⟩ ⟨by omega, by omega⟩ dX2_bestNow_33
  · skip
    refine j_aload_n G 0 rfl dX2_bestNow_9 ?_
    refine j_get G FX2 (jAt_1 0 rfl) 36 (by decide) q1880 rfl dX2_bestNow_10 ?_
    refine j_i2l G (by unfold iR at *; omega) dX2_bestNow_13 ?_
    refine j_goto 33 G dX2_bestNow_14 (by decide) ?_
    exact j_lret G E ⟨he2, ut2_2, ro2_2, ga2_2, wt2_2, sc2_2, al2_2, nr2_2, dr2_2, zc2_2, ((bst (n, gr, pw, pr, tB tb, tF tb) most 63).1), ((bst (n, gr, pw, pr, tB tb, tF tb) most 63).2.1), ((bst (n, gr, pw, pr, tB tb, tF tb) most 63).2.2), ((bst (n, gr, pw, pr, tB tb, tF tb) most 63).1), (by first | (rw [if_pos c_6]; done) | (rw [if_neg c_6, if_pos c_19]; done) | (rw [if_neg c_6, if_neg c_19])), rfl, rfl⟩ ⟨by omega, by omega⟩ dX2_bestNow_33
theorem hY_X2_best : jY yX2_best 2 := ⟨by decide +kernel, by decide +kernel, by decide +kernel⟩
set_option maxHeartbeats 4000000 in
set_option maxRecDepth 100000 in
theorem c_X2_best (l : Launch) (u : jU) (y0 aT aX aR aM aG aN aQ aO aS aH aU aW : Nat) (th n gr pw po pr ix sd gn tk ln zs zl za zf ze zi zc bp ls wn sc al nr dr ba bb hh : Int) (tb : Int → Int) (h : Int → Int) (ut : Int → Int) (ro : Int → Int) (ga : Int → Int) (wt : Int → Int) (most w : Int) (hn : 2 ≤ n ∧ n ≤ 4) (hg : 0 ≤ gr ∧ gr ≤ 7) (hw : 0 ≤ pw ∧ pw ≤ 15) (hpr : sProg pr = 1) (hT : wT (tB tb) (tF tb)) (hRmost : iR most) (hRw : iR w) : jC l u yX2_best cX2_best 3 (some .long) 7 164 0 0 [.ref y0, iI most, iI w] [[(y0, jO 1 [iI th, iI n, iI gr, iI pw, .ref aT, iI po, iI pr, iI ix, iI sd, iI gn, iI tk, iI ln, .ref aX, iI zs, iI zl, iI za, iI zf, iI ze, iI zi, .ref aR, .ref aM, .ref aG, .ref aN, .ref aQ, lI ls, lI wn, .ref aO, .ref aS, .ref aH, .ref aU, lI sc, iI zc, .ref aW, lI al, lI nr, lI dr, iI bp, lI ba, lI bb, lI hh])], [(aT, cI u 24 tb)], [(aH, cJ u 4 h)], [(aU, cJ u 4 ut)], [(aO, cJ u 16 ro)], [(aS, cJ u 4 ga)], [(aW, cJ u 4 wt)]] (fun v_ w_ => (∃ (h2 ut2 ro2 ga2 wt2 : Int → Int) (sc2 al2 nr2 dr2 zc2 : Int) (bp2 ba2 bb2 r : Int), r = (if w = 0 then (bst (n, gr, pw, pr, tB tb, tF tb) most 63).1 else if w = 1 then (bst (n, gr, pw, pr, tB tb, tF tb) most 63).2.1 else (bst (n, gr, pw, pr, tB tb, tF tb) most 63).2.2) ∧ ((1 ≤ most ∧ most ≤ 3) ∧ 0 ≤ w ∧ w ≤ 2) ∧ v_ = some (lI r) ∧ w_ = [[(y0, jO 1 [iI 0, iI n, iI gr, iI pw, .ref aT, iI po, iI pr, iI ix, iI sd, iI gn, iI tk, iI ln, .ref aX, iI zs, iI zl, iI za, iI zf, iI ze, iI zi, .ref aR, .ref aM, .ref aG, .ref aN, .ref aQ, lI ls, lI wn, .ref aO, .ref aS, .ref aH, .ref aU, lI sc2, iI zc2, .ref aW, lI al2, lI nr2, lI dr2, iI bp2, lI ba2, lI bb2, lI hh])], [(aT, cI u 24 tb)], [(aH, cJ u 4 h2)], [(aU, cJ u 4 ut2)], [(aO, cJ u 16 ro2)], [(aS, cJ u 4 ga2)], [(aW, cJ u 4 wt2)]]) ∨ ((¬ ((1 ≤ most ∧ most ≤ 3) ∧ 0 ≤ w ∧ w ≤ 2)) ∧ v_ = some (lI 0) ∧ w_ = [[(y0, jO 1 [iI 1, iI n, iI gr, iI pw, .ref aT, iI po, iI pr, iI ix, iI sd, iI gn, iI tk, iI ln, .ref aX, iI zs, iI zl, iI za, iI zf, iI ze, iI zi, .ref aR, .ref aM, .ref aG, .ref aN, .ref aQ, lI ls, lI wn, .ref aO, .ref aS, .ref aH, .ref aU, lI sc, iI zc, .ref aW, lI al, lI nr, lI dr, iI bp, lI ba, lI bb, lI hh])], [(aT, cI u 24 tb)], [(aH, cJ u 4 h)], [(aU, cJ u 4 ut)], [(aO, cJ u 16 ro)], [(aS, cJ u 4 ga)], [(aW, cJ u 4 wt)]])) := by
  refine jC.of "FlashRatchetModel" (by decide +kernel) rfl (Nat.le_of_ble_eq_true rfl) [(0, .ref y0), (1, iI most), (2, iI w)] rfl (fun X G E I => ?_)
  refine j_aload_n G 0 rfl dX2_best_0 ?_
  refine j_iload_n G 1 rfl dX2_best_1 ?_
  refine j_iconst G dX2_best_2 ?_
  refine j_iconst G dX2_best_3 ?_
  refine j_callS (wr := [[(y0, jO 1 [iI th, iI n, iI gr, iI pw, .ref aT, iI po, iI pr, iI ix, iI sd, iI gn, iI tk, iI ln, .ref aX, iI zs, iI zl, iI za, iI zf, iI ze, iI zi, .ref aR, .ref aM, .ref aG, .ref aN, .ref aQ, lI ls, lI wn, .ref aO, .ref aS, .ref aH, .ref aU, lI sc, iI zc, .ref aW, lI al, lI nr, lI dr, iI bp, lI ba, lI bb, lI hh])], [(aT, cI u 24 tb)], [(aH, cJ u 4 h)], [(aU, cJ u 4 ut)], [(aO, cJ u 16 ro)], [(aS, cJ u 4 ga)], [(aW, cJ u 4 wt)]]) (k' := 0) (n' := 0) G (c_X2_within l u most 1 3 hRmost (by unfold iR; omega) (by unfold iR; omega)) hY_X2_within q1973 q1974 q90 q1975 (jcut 7 [0, 1, 2, 3, 4, 5, 6] (by decide) rfl rfl) ⟨by omega, by omega, by omega, by omega, by omega, by omega⟩ (Nat.le_of_ble_eq_true rfl) dX2_best_4 rfl (fun v_ w_ hp => ?_)
  obtain ⟨r_4, h4_1, rfl, rfl⟩ := hp
  show jJ X u 3 [[(y0, jO 1 [iI th, iI n, iI gr, iI pw, .ref aT, iI po, iI pr, iI ix, iI sd, iI gn, iI tk, iI ln, .ref aX, iI zs, iI zl, iI za, iI zf, iI ze, iI zi, .ref aR, .ref aM, .ref aG, .ref aN, .ref aQ, lI ls, lI wn, .ref aO, .ref aS, .ref aH, .ref aU, lI sc, iI zc, .ref aW, lI al, lI nr, lI dr, iI bp, lI ba, lI bb, lI hh])], [(aT, cI u 24 tb)], [(aH, cJ u 4 h)], [(aU, cJ u 4 ut)], [(aO, cJ u 16 ro)], [(aS, cJ u 4 ga)], [(aW, cJ u 4 wt)]] [(0, .ref y0), (1, iI most), (2, iI w)] 0 0 7 [iI r_4, .ref y0]
  refine j_if_eq 23 G (by unfold iR at *; omega) dX2_best_7 (by decide) (fun c_7 => ?_) (fun c_7 => ?_)
  · skip
    refine j_iconst G dX2_best_23 ?_
    refine j_put (ws' := [[(y0, jO 1 [iI 1, iI n, iI gr, iI pw, .ref aT, iI po, iI pr, iI ix, iI sd, iI gn, iI tk, iI ln, .ref aX, iI zs, iI zl, iI za, iI zf, iI ze, iI zi, .ref aR, .ref aM, .ref aG, .ref aN, .ref aQ, lI ls, lI wn, .ref aO, .ref aS, .ref aH, .ref aU, lI sc, iI zc, .ref aW, lI al, lI nr, lI dr, iI bp, lI ba, lI bb, lI hh])], [(aT, cI u 24 tb)], [(aH, cJ u 4 h)], [(aU, cJ u 4 ut)], [(aO, cJ u 16 ro)], [(aS, cJ u 4 ga)], [(aW, cJ u 4 wt)]]) G FX2 (jAt_1 0 rfl) 0 (by decide) q1844 rfl rfl rfl (Nat.le_of_ble_eq_true rfl) dX2_best_24 rfl ?_
    refine j_aload_n G 0 rfl dX2_best_27 ?_
    refine j_get G FX2 (jAt_1 0 rfl) 0 (by decide) q1844 rfl dX2_best_28 ?_
    refine j_if_le 38 G (by unfold iR; omega) dX2_best_31 (by decide) (fun c_31 => ?_) (fun c_31 => ?_)
    · exact absurd c_31 (by decide)
    · skip
      refine j_lconst 0 G rfl dX2_best_34 ?_
      refine j_goto 44 G dX2_best_35 (by decide) ?_
      exact j_lret G E (Or.inr ⟨(by omega), rfl, rfl⟩) ⟨by omega, by omega⟩ dX2_best_44
  · skip
    refine j_iload_n G 2 rfl dX2_best_10 ?_
    refine j_iconst G dX2_best_11 ?_
    refine j_iconst G dX2_best_12 ?_
    refine j_callS (wr := [[(y0, jO 1 [iI th, iI n, iI gr, iI pw, .ref aT, iI po, iI pr, iI ix, iI sd, iI gn, iI tk, iI ln, .ref aX, iI zs, iI zl, iI za, iI zf, iI ze, iI zi, .ref aR, .ref aM, .ref aG, .ref aN, .ref aQ, lI ls, lI wn, .ref aO, .ref aS, .ref aH, .ref aU, lI sc, iI zc, .ref aW, lI al, lI nr, lI dr, iI bp, lI ba, lI bb, lI hh])], [(aT, cI u 24 tb)], [(aH, cJ u 4 h)], [(aU, cJ u 4 ut)], [(aO, cJ u 16 ro)], [(aS, cJ u 4 ga)], [(aW, cJ u 4 wt)]]) (k' := 0) (n' := 0) G (c_X2_within l u w 0 2 hRw (by unfold iR; omega) (by unfold iR; omega)) hY_X2_within q1973 q1974 q90 q1975 (jcut 7 [0, 1, 2, 3, 4, 5, 6] (by decide) rfl rfl) ⟨by omega, by omega, by omega, by omega, by omega, by omega⟩ (Nat.le_of_ble_eq_true rfl) dX2_best_13 rfl (fun v_ w_ hp => ?_)
    obtain ⟨r_13, h13_1, rfl, rfl⟩ := hp
    show jJ X u 3 [[(y0, jO 1 [iI th, iI n, iI gr, iI pw, .ref aT, iI po, iI pr, iI ix, iI sd, iI gn, iI tk, iI ln, .ref aX, iI zs, iI zl, iI za, iI zf, iI ze, iI zi, .ref aR, .ref aM, .ref aG, .ref aN, .ref aQ, lI ls, lI wn, .ref aO, .ref aS, .ref aH, .ref aU, lI sc, iI zc, .ref aW, lI al, lI nr, lI dr, iI bp, lI ba, lI bb, lI hh])], [(aT, cI u 24 tb)], [(aH, cJ u 4 h)], [(aU, cJ u 4 ut)], [(aO, cJ u 16 ro)], [(aS, cJ u 4 ga)], [(aW, cJ u 4 wt)]] [(0, .ref y0), (1, iI most), (2, iI w)] 0 0 16 [iI r_13, .ref y0]
    refine j_if_eq 23 G (by unfold iR at *; omega) dX2_best_16 (by decide) (fun c_16 => ?_) (fun c_16 => ?_)
    · skip
      refine j_iconst G dX2_best_23 ?_
      refine j_put (ws' := [[(y0, jO 1 [iI 1, iI n, iI gr, iI pw, .ref aT, iI po, iI pr, iI ix, iI sd, iI gn, iI tk, iI ln, .ref aX, iI zs, iI zl, iI za, iI zf, iI ze, iI zi, .ref aR, .ref aM, .ref aG, .ref aN, .ref aQ, lI ls, lI wn, .ref aO, .ref aS, .ref aH, .ref aU, lI sc, iI zc, .ref aW, lI al, lI nr, lI dr, iI bp, lI ba, lI bb, lI hh])], [(aT, cI u 24 tb)], [(aH, cJ u 4 h)], [(aU, cJ u 4 ut)], [(aO, cJ u 16 ro)], [(aS, cJ u 4 ga)], [(aW, cJ u 4 wt)]]) G FX2 (jAt_1 0 rfl) 0 (by decide) q1844 rfl rfl rfl (Nat.le_of_ble_eq_true rfl) dX2_best_24 rfl ?_
      refine j_aload_n G 0 rfl dX2_best_27 ?_
      refine j_get G FX2 (jAt_1 0 rfl) 0 (by decide) q1844 rfl dX2_best_28 ?_
      refine j_if_le 38 G (by unfold iR; omega) dX2_best_31 (by decide) (fun c_31 => ?_) (fun c_31 => ?_)
      · exact absurd c_31 (by decide)
      · skip
        refine j_lconst 0 G rfl dX2_best_34 ?_
        refine j_goto 44 G dX2_best_35 (by decide) ?_
        exact j_lret G E (Or.inr ⟨(by omega), rfl, rfl⟩) ⟨by omega, by omega⟩ dX2_best_44
    · skip
      refine j_iconst G dX2_best_19 ?_
      refine j_goto 24 G dX2_best_20 (by decide) ?_
      refine j_put (ws' := [[(y0, jO 1 [iI 0, iI n, iI gr, iI pw, .ref aT, iI po, iI pr, iI ix, iI sd, iI gn, iI tk, iI ln, .ref aX, iI zs, iI zl, iI za, iI zf, iI ze, iI zi, .ref aR, .ref aM, .ref aG, .ref aN, .ref aQ, lI ls, lI wn, .ref aO, .ref aS, .ref aH, .ref aU, lI sc, iI zc, .ref aW, lI al, lI nr, lI dr, iI bp, lI ba, lI bb, lI hh])], [(aT, cI u 24 tb)], [(aH, cJ u 4 h)], [(aU, cJ u 4 ut)], [(aO, cJ u 16 ro)], [(aS, cJ u 4 ga)], [(aW, cJ u 4 wt)]]) G FX2 (jAt_1 0 rfl) 0 (by decide) q1844 rfl rfl rfl (Nat.le_of_ble_eq_true rfl) dX2_best_24 rfl ?_
      refine j_aload_n G 0 rfl dX2_best_27 ?_
      refine j_get G FX2 (jAt_1 0 rfl) 0 (by decide) q1844 rfl dX2_best_28 ?_
      refine j_if_le 38 G (by unfold iR; omega) dX2_best_31 (by decide) (fun c_31 => ?_) (fun c_31 => ?_)
      · skip
        refine j_aload_n G 0 rfl dX2_best_38 ?_
        refine j_iload_n G 1 rfl dX2_best_39 ?_
        refine j_iload_n G 2 rfl dX2_best_40 ?_
        refine j_callV (wr := []) (k' := 0) (n' := 0) G FX2 (c_X2_bestNow l u y0 aT aX aR aM aG aN aQ aO aS aH aU aW 0 n gr pw po pr ix sd gn tk ln zs zl za zf ze zi zc bp ls wn sc al nr dr ba bb hh tb h ut ro ga wt most w hn hg hw hpr hT hRmost hRw) (jAt_1 0 rfl) ⟨rfl, hY_X2_bestNow⟩ q2210 q2212 qs77 q90 q2213 (jcut 7 [0, 1, 2, 3, 4, 5, 6] (by decide) rfl rfl) ⟨by omega, by omega, by omega, by omega, by omega, by omega⟩ (Nat.le_of_ble_eq_true rfl) dX2_best_41 rfl (fun v_ w_ hp => ?_)
        obtain ⟨he2, ut2_41, ro2_41, ga2_41, wt2_41, sc2_41, al2_41, nr2_41, dr2_41, zc2_41, bp2_41, ba2_41, bb2_41, r_41, h41_1, rfl, rfl⟩ := hp
        show jJ X u 3 [[(y0, jO 1 [iI 0, iI n, iI gr, iI pw, .ref aT, iI po, iI pr, iI ix, iI sd, iI gn, iI tk, iI ln, .ref aX, iI zs, iI zl, iI za, iI zf, iI ze, iI zi, .ref aR, .ref aM, .ref aG, .ref aN, .ref aQ, lI ls, lI wn, .ref aO, .ref aS, .ref aH, .ref aU, lI sc2_41, iI zc2_41, .ref aW, lI al2_41, lI nr2_41, lI dr2_41, iI bp2_41, lI ba2_41, lI bb2_41, lI hh])], [(aT, cI u 24 tb)], [(aH, cJ u 4 he2)], [(aU, cJ u 4 ut2_41)], [(aO, cJ u 16 ro2_41)], [(aS, cJ u 4 ga2_41)], [(aW, cJ u 4 wt2_41)]] [(0, .ref y0), (1, iI most), (2, iI w)] 0 0 44 [lI r_41]
        exact j_lret G E (Or.inl ⟨he2, ut2_41, ro2_41, ga2_41, wt2_41, sc2_41, al2_41, nr2_41, dr2_41, zc2_41, bp2_41, ba2_41, bb2_41, r_41, h41_1, (by omega), rfl, rfl⟩) ⟨by omega, by omega⟩ dX2_best_44
      · exact absurd c_31 (by decide)
theorem hY_X2_paradoxNow : jY yX2_paradoxNow 0 := ⟨by decide +kernel, by decide +kernel, by decide +kernel⟩
set_option maxHeartbeats 4000000 in
set_option maxRecDepth 100000 in
theorem c_X2_paradoxNow (l : Launch) (u : jU) (y0 aT aX aR aM aG aN aQ aO aS aH aU aW : Nat) (th n gr pw po pr ix sd gn tk ln zs zl za zf ze zi zc bp ls wn sc al nr dr ba bb hh : Int) (tb : Int → Int) (h : Int → Int) (ut : Int → Int) (ro : Int → Int) (ga : Int → Int) (wt : Int → Int) (hn : 2 ≤ n ∧ n ≤ 4) (hg : 0 ≤ gr ∧ gr ≤ 7) (hw : 0 ≤ pw ∧ pw ≤ 15) (hpr : sProg pr = 1) (hT : wT (tB tb) (tF tb)) : jC l u yX2_paradoxNow cX2_paradoxNow 3 (some .int) 6 142 0 0 [.ref y0] [[(y0, jO 1 [iI th, iI n, iI gr, iI pw, .ref aT, iI po, iI pr, iI ix, iI sd, iI gn, iI tk, iI ln, .ref aX, iI zs, iI zl, iI za, iI zf, iI ze, iI zi, .ref aR, .ref aM, .ref aG, .ref aN, .ref aQ, lI ls, lI wn, .ref aO, .ref aS, .ref aH, .ref aU, lI sc, iI zc, .ref aW, lI al, lI nr, lI dr, iI bp, lI ba, lI bb, lI hh])], [(aT, cI u 24 tb)], [(aH, cJ u 4 h)], [(aU, cJ u 4 ut)], [(aO, cJ u 16 ro)], [(aS, cJ u 4 ga)], [(aW, cJ u 4 wt)]] (fun v_ w_ => ∃ (h2 ut2 ro2 ga2 wt2 : Int → Int) (sc2 al2 nr2 dr2 zc2 : Int) (bp2 ba2 bb2 : Int), v_ = some (iI (parN (n, gr, pw, pr, tB tb, tF tb))) ∧ w_ = [[(y0, jO 1 [iI th, iI n, iI gr, iI pw, .ref aT, iI po, iI pr, iI ix, iI sd, iI gn, iI tk, iI ln, .ref aX, iI zs, iI zl, iI za, iI zf, iI ze, iI zi, .ref aR, .ref aM, .ref aG, .ref aN, .ref aQ, lI ls, lI wn, .ref aO, .ref aS, .ref aH, .ref aU, lI sc2, iI zc2, .ref aW, lI al2, lI nr2, lI dr2, iI bp2, lI ba2, lI bb2, lI hh])], [(aT, cI u 24 tb)], [(aH, cJ u 4 h2)], [(aU, cJ u 4 ut2)], [(aO, cJ u 16 ro2)], [(aS, cJ u 4 ga2)], [(aW, cJ u 4 wt2)]]) := by
  refine jC.of "FlashRatchetModel" (by decide +kernel) rfl (Nat.le_of_ble_eq_true rfl) [(0, .ref y0)] rfl (fun X G E I => ?_)
  have hc : wC (n, gr, pw, pr, tB tb, tF tb) := ⟨hn, hg, hw, hpr, hT⟩
  have hbo := bst_R hc (x := (bst (n, gr, pw, pr, tB tb, tF tb) 3 63).1) (y := (bst (n, gr, pw, pr, tB tb, tF tb) 3 63).2.1) (z := (bst (n, gr, pw, pr, tB tb, tF tb) 3 63).2.2) rfl
  have L15 : ∀ (m : Nat) (j : Nat) (k : Int) (b : Int) (e1 : Int → Int) (e2 : Int → Int) (e3 : Int → Int) (e4 : Int → Int) (e5 : Int → Int) (scq : Int) (alq : Int) (nrq : Int) (drq : Int) (zcq : Int), 3 - j < m → k = j → b = parF (n, gr, pw, pr, tB tb, tF tb) j → j ≤ 3 → jJ X u 3 [[(y0, jO 1 [iI th, iI n, iI gr, iI pw, .ref aT, iI po, iI pr, iI ix, iI sd, iI gn, iI tk, iI ln, .ref aX, iI zs, iI zl, iI za, iI zf, iI ze, iI zi, .ref aR, .ref aM, .ref aG, .ref aN, .ref aQ, lI ls, lI wn, .ref aO, .ref aS, .ref aH, .ref aU, lI scq, iI zcq, .ref aW, lI alq, lI nrq, lI drq, iI bp, lI ba, lI bb, lI hh])], [(aT, cI u 24 tb)], [(aH, cJ u 4 e1)], [(aU, cJ u 4 e2)], [(aO, cJ u 16 e3)], [(aS, cJ u 4 e4)], [(aW, cJ u 4 e5)]] [(0, .ref y0), (1, iI b), (2, iI k)] 0 0 15 [] := by
    intro m
    induction m with
    | zero =>
      intro j k b e1 e2 e3 e4 e5 scq alq nrq drq zcq g1 g2 g3 g4
      exfalso
      omega
    | succ m ih_L15 =>
      intro j k b e1 e2 e3 e4 e5 scq alq nrq drq zcq g1 g2 g3 g4
      have hb01 := parF_01 (n, gr, pw, pr, tB tb, tF tb) j
      rw [← g3] at hb01
      refine j_iload_n G 2 rfl dX2_paradoxNow_15 ?_
      refine j_iconst G dX2_paradoxNow_16 ?_
      refine j_icmp_ge 69 G (by unfold iR at *; omega) (by unfold iR; omega) dX2_paradoxNow_17 (by decide) (fun c_17 => ?_) (fun c_17 => ?_)
      · skip
        have hj : j = 3 := by omega
        subst hj
        refine j_aload_n G 0 rfl dX2_paradoxNow_69 ?_
        refine j_iconst G dX2_paradoxNow_70 ?_
        refine j_callV (wr := []) (k' := 0) (n' := 0) G FX2 (c_X2_layBest l u y0 aT aX aR aM aG aN aQ aO aS aH aU aW th n gr pw po pr ix sd gn tk ln zs zl za zf ze zi zcq bp ls wn scq alq nrq drq ba bb hh tb e1 e2 e3 e4 e5 3 hn hg hw hpr hT (by unfold iR; omega)) (jAt_1 0 rfl) ⟨rfl, hY_X2_layBest⟩ q2214 q2216 qs78 q90 q2217 (jcut 7 [0, 1, 2, 3, 4, 5, 6] (by decide) rfl rfl) ⟨by omega, by omega, by omega, by omega, by omega, by omega⟩ (Nat.le_of_ble_eq_true rfl) dX2_paradoxNow_71 rfl (fun v_ w_ hp => ?_)
        obtain ⟨he2, ut2_71, ro2_71, ga2_71, wt2_71, sc2_71, al2_71, nr2_71, dr2_71, zc2_71, rfl, rfl⟩ := hp
        show jJ X u 3 [[(y0, jO 1 [iI th, iI n, iI gr, iI pw, .ref aT, iI po, iI pr, iI ix, iI sd, iI gn, iI tk, iI ln, .ref aX, iI zs, iI zl, iI za, iI zf, iI ze, iI zi, .ref aR, .ref aM, .ref aG, .ref aN, .ref aQ, lI ls, lI wn, .ref aO, .ref aS, .ref aH, .ref aU, lI sc2_71, iI zc2_71, .ref aW, lI al2_71, lI nr2_71, lI dr2_71, iI ((bst (n, gr, pw, pr, tB tb, tF tb) 3 63).1), lI ((bst (n, gr, pw, pr, tB tb, tF tb) 3 63).2.1), lI ((bst (n, gr, pw, pr, tB tb, tF tb) 3 63).2.2), lI hh])], [(aT, cI u 24 tb)], [(aH, cJ u 4 he2)], [(aU, cJ u 4 ut2_71)], [(aO, cJ u 16 ro2_71)], [(aS, cJ u 4 ga2_71)], [(aW, cJ u 4 wt2_71)]] [(0, .ref y0), (1, iI b), (2, iI k)] 0 0 74 []
        refine j_iload_n G 1 rfl dX2_paradoxNow_74 ?_
        refine j_if_eq 99 G (by unfold iR at *; omega) dX2_paradoxNow_75 (by decide) (fun c_75 => ?_) (fun c_75 => ?_)
        · skip
          refine j_iconst G dX2_paradoxNow_99 ?_
          exact j_iret G E ⟨he2, ut2_71, ro2_71, ga2_71, wt2_71, sc2_71, al2_71, nr2_71, dr2_71, zc2_71, ((bst (n, gr, pw, pr, tB tb, tF tb) 3 63).1), ((bst (n, gr, pw, pr, tB tb, tF tb) 3 63).2.1), ((bst (n, gr, pw, pr, tB tb, tF tb) 3 63).2.2), (by unfold parN; rw [← g3]; first | (exfalso; omega) | rw [if_pos (by omega)] | rw [if_neg (by omega)]), rfl⟩ ⟨by omega, by omega⟩ dX2_paradoxNow_100
        · skip
          refine j_aload_n G 0 rfl dX2_paradoxNow_78 ?_
          refine j_get G FX2 (jAt_1 0 rfl) 36 (by decide) q1880 rfl dX2_paradoxNow_79 ?_
          refine j_iconst G dX2_paradoxNow_82 ?_
          refine j_icmp_eq 99 G (by unfold iR at *; omega) (by unfold iR; omega) dX2_paradoxNow_83 (by decide) (fun c_83 => ?_) (fun c_83 => ?_)
          · skip
            refine j_iconst G dX2_paradoxNow_99 ?_
            exact j_iret G E ⟨he2, ut2_71, ro2_71, ga2_71, wt2_71, sc2_71, al2_71, nr2_71, dr2_71, zc2_71, ((bst (n, gr, pw, pr, tB tb, tF tb) 3 63).1), ((bst (n, gr, pw, pr, tB tb, tF tb) 3 63).2.1), ((bst (n, gr, pw, pr, tB tb, tF tb) 3 63).2.2), (by unfold parN; rw [← g3]; first | (exfalso; omega) | rw [if_pos (by omega)] | rw [if_neg (by omega)]), rfl⟩ ⟨by omega, by omega⟩ dX2_paradoxNow_100
          · skip
            refine j_aload_n G 0 rfl dX2_paradoxNow_86 ?_
            refine j_get G FX2 (jAt_1 0 rfl) 37 (by decide) q1881 rfl dX2_paradoxNow_87 ?_
            refine j_lconst 0 G rfl dX2_paradoxNow_90 ?_
            refine j_lcmp G (by unfold lR at *; omega) (by unfold lR; omega) dX2_paradoxNow_91 ?_
            have k_92 := jCmp_c ((bst (n, gr, pw, pr, tB tb, tF tb) 3 63).2.1) 0
            refine j_if_le 99 G (by unfold iR at *; omega) dX2_paradoxNow_92 (by decide) (fun c_92 => ?_) (fun c_92 => ?_)
            · skip
              refine j_iconst G dX2_paradoxNow_99 ?_
              exact j_iret G E ⟨he2, ut2_71, ro2_71, ga2_71, wt2_71, sc2_71, al2_71, nr2_71, dr2_71, zc2_71, ((bst (n, gr, pw, pr, tB tb, tF tb) 3 63).1), ((bst (n, gr, pw, pr, tB tb, tF tb) 3 63).2.1), ((bst (n, gr, pw, pr, tB tb, tF tb) 3 63).2.2), (by unfold parN; rw [← g3]; first | (exfalso; omega) | rw [if_pos (by omega)] | rw [if_neg (by omega)]), rfl⟩ ⟨by omega, by omega⟩ dX2_paradoxNow_100
            · skip
              refine j_iconst G dX2_paradoxNow_95 ?_
              refine j_goto 100 G dX2_paradoxNow_96 (by decide) ?_
              exact j_iret G E ⟨he2, ut2_71, ro2_71, ga2_71, wt2_71, sc2_71, al2_71, nr2_71, dr2_71, zc2_71, ((bst (n, gr, pw, pr, tB tb, tF tb) 3 63).1), ((bst (n, gr, pw, pr, tB tb, tF tb) 3 63).2.1), ((bst (n, gr, pw, pr, tB tb, tF tb) 3 63).2.2), (by unfold parN; rw [← g3]; first | (exfalso; omega) | rw [if_pos (by omega)] | rw [if_neg (by omega)]), rfl⟩ ⟨by omega, by omega⟩ dX2_paradoxNow_100
      · skip
        refine j_aload_n G 0 rfl dX2_paradoxNow_20 ?_
        refine j_iload_n G 2 rfl dX2_paradoxNow_21 ?_
        refine j_callV (wr := [[(aT, cI u 24 tb)], [(aH, cJ u 4 e1)], [(aU, cJ u 4 e2)], [(aO, cJ u 16 e3)], [(aS, cJ u 4 e4)], [(aW, cJ u 4 e5)]]) (k' := 0) (n' := 0) G FX2 (c_X2_isIn l u y0 aT aX aR aM aG aN aQ aO aS aH aU aW th n gr pw po pr ix sd gn tk ln zs zl za zf ze zi zcq bp ls wn scq alq nrq drq ba bb hh k (by omega) hg) (jAt_1 0 rfl) ⟨rfl, hY_X2_isIn⟩ q2032 q2034 qs48 q90 q2035 (jcut 7 [0, 1, 2, 3, 4, 5, 6] (by decide) rfl rfl) ⟨by omega, by omega, by omega, by omega, by omega, by omega⟩ (Nat.le_of_ble_eq_true rfl) dX2_paradoxNow_22 rfl (fun v_ w_ hp => ?_)
        obtain ⟨r_22, h22_1, h22_2, rfl, rfl⟩ := hp
        show jJ X u 3 [[(y0, jO 1 [iI th, iI n, iI gr, iI pw, .ref aT, iI po, iI pr, iI ix, iI sd, iI gn, iI tk, iI ln, .ref aX, iI zs, iI zl, iI za, iI zf, iI ze, iI zi, .ref aR, .ref aM, .ref aG, .ref aN, .ref aQ, lI ls, lI wn, .ref aO, .ref aS, .ref aH, .ref aU, lI scq, iI zcq, .ref aW, lI alq, lI nrq, lI drq, iI bp, lI ba, lI bb, lI hh])], [(aT, cI u 24 tb)], [(aH, cJ u 4 e1)], [(aU, cJ u 4 e2)], [(aO, cJ u 16 e3)], [(aS, cJ u 4 e4)], [(aW, cJ u 4 e5)]] [(0, .ref y0), (1, iI b), (2, iI k)] 0 0 25 [iI r_22]
        refine j_if_eq 63 G (by unfold iR at *; omega) dX2_paradoxNow_25 (by decide) (fun c_25 => ?_) (fun c_25 => ?_)
        · skip
          refine j_iinc G 2 rfl [(2, iI (k + 1)), (0, .ref y0), (1, iI b)] rfl (by decide) dX2_paradoxNow_63 ?_
          refine j_goto 15 G dX2_paradoxNow_66 (by decide) ?_
          refine j_lv [1, 2, 0] rfl ?_
          exact ih_L15 (j + 1) (k + 1) b e1 e2 e3 e4 e5 scq alq nrq drq zcq (by (try unfold iR at *); omega) (by (try unfold iR at *); omega) (by
            show _ = if sBit gr (j : Int) = 1 then (if parF (n, gr, pw, pr, tB tb, tF tb) j = 1 ∧ clC (n, gr, pw, ((j : Int) + 1), tB tb, tF tb) ≤ 1 ∧ (avF (n, gr, pw, ((j : Int) + 1), tB tb, tF tb)).1 < 0 then 1 else 0) else parF (n, gr, pw, pr, tB tb, tF tb) j
            rw [← g3, ← g2]
            first | (exfalso; omega) | (rw [if_neg (by omega)]; done) | (rw [if_pos (by omega), if_pos (by omega)]; done) | (rw [if_pos (by omega), if_neg (by omega)])) (by (try unfold iR at *); omega)
        · skip
          refine j_aload_n G 0 rfl dX2_paradoxNow_28 ?_
          refine j_iload_n G 2 rfl dX2_paradoxNow_29 ?_
          refine j_iconst G dX2_paradoxNow_30 ?_
          refine j_iadd G dX2_paradoxNow_31 ?_
          refine j_callV (wr := []) (k' := 0) (n' := 0) G FX2 (c_X2_layAverage l u y0 aT aX aR aM aG aN aQ aO aS aH aU aW th n gr pw po pr ix sd gn tk ln zs zl za zf ze zi zcq bp ls wn scq alq nrq drq ba bb hh tb e1 e2 e3 e4 e5 (k + 1) hn hg hw hT (by rcases (show k = 0 ∨ k = 1 ∨ k = 2 by omega) with e | e | e <;> rw [e] <;> decide)) (jAt_1 0 rfl) ⟨rfl, hY_X2_layAverage⟩ q2149 q2151 qs68 q90 q2152 (jcut 7 [0, 1, 2, 3, 4, 5, 6] (by decide) rfl rfl) ⟨by omega, by omega, by omega, by omega, by omega, by omega⟩ (Nat.le_of_ble_eq_true rfl) dX2_paradoxNow_32 rfl (fun v_ w_ hp => ?_)
          rcases hp with ⟨he2, ut2_32, ro2_32, ga2_32, wt2_32, al2_32, h32_1, h32_2, h32_3, rfl, rfl⟩ | ⟨he2, ut2_32, ro2_32, ga2_32, wt2_32, h32_1, rfl, rfl⟩
          · skip
            show jJ X u 3 [[(y0, jO 1 [iI th, iI n, iI gr, iI pw, .ref aT, iI po, iI pr, iI ix, iI sd, iI gn, iI tk, iI ln, .ref aX, iI zs, iI zl, iI za, iI zf, iI ze, iI zi, .ref aR, .ref aM, .ref aG, .ref aN, .ref aQ, lI ls, lI wn, .ref aO, .ref aS, .ref aH, .ref aU, lI (rSc (n, gr, pw, (k + 1), tB tb, tF tb)), iI (clC (n, gr, pw, (k + 1), tB tb, tF tb)), .ref aW, lI al2_32, lI ((avF (n, gr, pw, (k + 1), tB tb, tF tb)).1), lI ((avF (n, gr, pw, (k + 1), tB tb, tF tb)).2), iI bp, lI ba, lI bb, lI hh])], [(aT, cI u 24 tb)], [(aH, cJ u 4 he2)], [(aU, cJ u 4 ut2_32)], [(aO, cJ u 16 ro2_32)], [(aS, cJ u 4 ga2_32)], [(aW, cJ u 4 wt2_32)]] [(0, .ref y0), (1, iI b), (2, iI k)] 0 0 35 []
            have hvh32_1 := avF_R (c := (n, gr, pw, (k + 1), tB tb, tF tb)) ⟨hn, hg, hw, (by rcases (show k = 0 ∨ k = 1 ∨ k = 2 by omega) with e | e | e <;> rw [e] <;> decide), hT⟩ h32_1
            refine j_iload_n G 1 rfl dX2_paradoxNow_35 ?_
            refine j_if_eq 61 G (by unfold iR at *; omega) dX2_paradoxNow_36 (by decide) (fun c_36 => ?_) (fun c_36 => ?_)
            · skip
              refine j_iconst G dX2_paradoxNow_61 ?_
              refine j_istore_n G [(1, iI 0), (0, .ref y0), (2, iI k)] rfl (by decide) dX2_paradoxNow_62 ?_
              refine j_iinc G 2 rfl [(2, iI (k + 1)), (1, iI 0), (0, .ref y0)] rfl (by decide) dX2_paradoxNow_63 ?_
              refine j_goto 15 G dX2_paradoxNow_66 (by decide) ?_
              refine j_lv [2, 1, 0] rfl ?_
              exact ih_L15 (j + 1) (k + 1) 0 he2 ut2_32 ro2_32 ga2_32 wt2_32 (rSc (n, gr, pw, (k + 1), tB tb, tF tb)) al2_32 ((avF (n, gr, pw, (k + 1), tB tb, tF tb)).1) ((avF (n, gr, pw, (k + 1), tB tb, tF tb)).2) (clC (n, gr, pw, (k + 1), tB tb, tF tb)) (by (try unfold iR at *); omega) (by (try unfold iR at *); omega) (by
                show _ = if sBit gr (j : Int) = 1 then (if parF (n, gr, pw, pr, tB tb, tF tb) j = 1 ∧ clC (n, gr, pw, ((j : Int) + 1), tB tb, tF tb) ≤ 1 ∧ (avF (n, gr, pw, ((j : Int) + 1), tB tb, tF tb)).1 < 0 then 1 else 0) else parF (n, gr, pw, pr, tB tb, tF tb) j
                rw [← g3, ← g2]
                first | (exfalso; omega) | (rw [if_neg (by omega)]; done) | (rw [if_pos (by omega), if_pos (by omega)]; done) | (rw [if_pos (by omega), if_neg (by omega)])) (by (try unfold iR at *); omega)
            · skip
              refine j_aload_n G 0 rfl dX2_paradoxNow_39 ?_
              refine j_get G FX2 (jAt_1 0 rfl) 35 (by decide) q1879 rfl dX2_paradoxNow_40 ?_
              refine j_lconst 0 G rfl dX2_paradoxNow_43 ?_
              refine j_lcmp G (by unfold lR at *; omega) (by unfold lR; omega) dX2_paradoxNow_44 ?_
              have k_45 := jCmp_c ((avF (n, gr, pw, (k + 1), tB tb, tF tb)).2) 0
              refine j_if_le 61 G (by unfold iR at *; omega) dX2_paradoxNow_45 (by decide) (fun c_45 => ?_) (fun c_45 => ?_)
              · skip
                refine j_iconst G dX2_paradoxNow_61 ?_
                refine j_istore_n G [(1, iI 0), (0, .ref y0), (2, iI k)] rfl (by decide) dX2_paradoxNow_62 ?_
                refine j_iinc G 2 rfl [(2, iI (k + 1)), (1, iI 0), (0, .ref y0)] rfl (by decide) dX2_paradoxNow_63 ?_
                refine j_goto 15 G dX2_paradoxNow_66 (by decide) ?_
                refine j_lv [2, 1, 0] rfl ?_
                exact ih_L15 (j + 1) (k + 1) 0 he2 ut2_32 ro2_32 ga2_32 wt2_32 (rSc (n, gr, pw, (k + 1), tB tb, tF tb)) al2_32 ((avF (n, gr, pw, (k + 1), tB tb, tF tb)).1) ((avF (n, gr, pw, (k + 1), tB tb, tF tb)).2) (clC (n, gr, pw, (k + 1), tB tb, tF tb)) (by (try unfold iR at *); omega) (by (try unfold iR at *); omega) (by
                  show _ = if sBit gr (j : Int) = 1 then (if parF (n, gr, pw, pr, tB tb, tF tb) j = 1 ∧ clC (n, gr, pw, ((j : Int) + 1), tB tb, tF tb) ≤ 1 ∧ (avF (n, gr, pw, ((j : Int) + 1), tB tb, tF tb)).1 < 0 then 1 else 0) else parF (n, gr, pw, pr, tB tb, tF tb) j
                  rw [← g3, ← g2]
                  first | (exfalso; omega) | (rw [if_neg (by omega)]; done) | (rw [if_pos (by omega), if_pos (by omega)]; done) | (rw [if_pos (by omega), if_neg (by omega)])) (by (try unfold iR at *); omega)
              · skip
                refine j_aload_n G 0 rfl dX2_paradoxNow_48 ?_
                refine j_get G FX2 (jAt_1 0 rfl) 34 (by decide) q1878 rfl dX2_paradoxNow_49 ?_
                refine j_lconst 0 G rfl dX2_paradoxNow_52 ?_
                refine j_lcmp G (by unfold lR at *; omega) (by unfold lR; omega) dX2_paradoxNow_53 ?_
                have k_54 := jCmp_c ((avF (n, gr, pw, (k + 1), tB tb, tF tb)).1) 0
                refine j_if_ge 61 G (by unfold iR at *; omega) dX2_paradoxNow_54 (by decide) (fun c_54 => ?_) (fun c_54 => ?_)
                · skip
                  refine j_iconst G dX2_paradoxNow_61 ?_
                  refine j_istore_n G [(1, iI 0), (0, .ref y0), (2, iI k)] rfl (by decide) dX2_paradoxNow_62 ?_
                  refine j_iinc G 2 rfl [(2, iI (k + 1)), (1, iI 0), (0, .ref y0)] rfl (by decide) dX2_paradoxNow_63 ?_
                  refine j_goto 15 G dX2_paradoxNow_66 (by decide) ?_
                  refine j_lv [2, 1, 0] rfl ?_
                  exact ih_L15 (j + 1) (k + 1) 0 he2 ut2_32 ro2_32 ga2_32 wt2_32 (rSc (n, gr, pw, (k + 1), tB tb, tF tb)) al2_32 ((avF (n, gr, pw, (k + 1), tB tb, tF tb)).1) ((avF (n, gr, pw, (k + 1), tB tb, tF tb)).2) (clC (n, gr, pw, (k + 1), tB tb, tF tb)) (by (try unfold iR at *); omega) (by (try unfold iR at *); omega) (by
                    show _ = if sBit gr (j : Int) = 1 then (if parF (n, gr, pw, pr, tB tb, tF tb) j = 1 ∧ clC (n, gr, pw, ((j : Int) + 1), tB tb, tF tb) ≤ 1 ∧ (avF (n, gr, pw, ((j : Int) + 1), tB tb, tF tb)).1 < 0 then 1 else 0) else parF (n, gr, pw, pr, tB tb, tF tb) j
                    rw [← g3, ← g2]
                    first | (exfalso; omega) | (rw [if_neg (by omega)]; done) | (rw [if_pos (by omega), if_pos (by omega)]; done) | (rw [if_pos (by omega), if_neg (by omega)])) (by (try unfold iR at *); omega)
                · skip
                  refine j_iconst G dX2_paradoxNow_57 ?_
                  refine j_goto 62 G dX2_paradoxNow_58 (by decide) ?_
                  refine j_istore_n G [(1, iI 1), (0, .ref y0), (2, iI k)] rfl (by decide) dX2_paradoxNow_62 ?_
                  refine j_iinc G 2 rfl [(2, iI (k + 1)), (1, iI 1), (0, .ref y0)] rfl (by decide) dX2_paradoxNow_63 ?_
                  refine j_goto 15 G dX2_paradoxNow_66 (by decide) ?_
                  refine j_lv [2, 1, 0] rfl ?_
                  exact ih_L15 (j + 1) (k + 1) 1 he2 ut2_32 ro2_32 ga2_32 wt2_32 (rSc (n, gr, pw, (k + 1), tB tb, tF tb)) al2_32 ((avF (n, gr, pw, (k + 1), tB tb, tF tb)).1) ((avF (n, gr, pw, (k + 1), tB tb, tF tb)).2) (clC (n, gr, pw, (k + 1), tB tb, tF tb)) (by (try unfold iR at *); omega) (by (try unfold iR at *); omega) (by
                    show _ = if sBit gr (j : Int) = 1 then (if parF (n, gr, pw, pr, tB tb, tF tb) j = 1 ∧ clC (n, gr, pw, ((j : Int) + 1), tB tb, tF tb) ≤ 1 ∧ (avF (n, gr, pw, ((j : Int) + 1), tB tb, tF tb)).1 < 0 then 1 else 0) else parF (n, gr, pw, pr, tB tb, tF tb) j
                    rw [← g3, ← g2]
                    first | (exfalso; omega) | (rw [if_neg (by omega)]; done) | (rw [if_pos (by omega), if_pos (by omega)]; done) | (rw [if_pos (by omega), if_neg (by omega)])) (by (try unfold iR at *); omega)
          · skip
            show jJ X u 3 [[(y0, jO 1 [iI th, iI n, iI gr, iI pw, .ref aT, iI po, iI pr, iI ix, iI sd, iI gn, iI tk, iI ln, .ref aX, iI zs, iI zl, iI za, iI zf, iI ze, iI zi, .ref aR, .ref aM, .ref aG, .ref aN, .ref aQ, lI ls, lI wn, .ref aO, .ref aS, .ref aH, .ref aU, lI (rSc (n, gr, pw, (k + 1), tB tb, tF tb)), iI (clC (n, gr, pw, (k + 1), tB tb, tF tb)), .ref aW, lI alq, lI 0, lI 0, iI bp, lI ba, lI bb, lI hh])], [(aT, cI u 24 tb)], [(aH, cJ u 4 he2)], [(aU, cJ u 4 ut2_32)], [(aO, cJ u 16 ro2_32)], [(aS, cJ u 4 ga2_32)], [(aW, cJ u 4 wt2_32)]] [(0, .ref y0), (1, iI b), (2, iI k)] 0 0 35 []
            have hu := hn.1
            refine j_iload_n G 1 rfl dX2_paradoxNow_35 ?_
            refine j_if_eq 61 G (by unfold iR at *; omega) dX2_paradoxNow_36 (by decide) (fun c_36 => ?_) (fun c_36 => ?_)
            · skip
              refine j_iconst G dX2_paradoxNow_61 ?_
              refine j_istore_n G [(1, iI 0), (0, .ref y0), (2, iI k)] rfl (by decide) dX2_paradoxNow_62 ?_
              refine j_iinc G 2 rfl [(2, iI (k + 1)), (1, iI 0), (0, .ref y0)] rfl (by decide) dX2_paradoxNow_63 ?_
              refine j_goto 15 G dX2_paradoxNow_66 (by decide) ?_
              refine j_lv [2, 1, 0] rfl ?_
              exact ih_L15 (j + 1) (k + 1) 0 he2 ut2_32 ro2_32 ga2_32 wt2_32 (rSc (n, gr, pw, (k + 1), tB tb, tF tb)) alq 0 0 (clC (n, gr, pw, (k + 1), tB tb, tF tb)) (by (try unfold iR at *); omega) (by (try unfold iR at *); omega) (by
                show _ = if sBit gr (j : Int) = 1 then (if parF (n, gr, pw, pr, tB tb, tF tb) j = 1 ∧ clC (n, gr, pw, ((j : Int) + 1), tB tb, tF tb) ≤ 1 ∧ (avF (n, gr, pw, ((j : Int) + 1), tB tb, tF tb)).1 < 0 then 1 else 0) else parF (n, gr, pw, pr, tB tb, tF tb) j
                rw [← g3, ← g2]
                first | (exfalso; omega) | (rw [if_neg (by omega)]; done) | (rw [if_pos (by omega), if_pos (by omega)]; done) | (rw [if_pos (by omega), if_neg (by omega)])) (by (try unfold iR at *); omega)
            · skip
              refine j_aload_n G 0 rfl dX2_paradoxNow_39 ?_
              refine j_get G FX2 (jAt_1 0 rfl) 35 (by decide) q1879 rfl dX2_paradoxNow_40 ?_
              refine j_lconst 0 G rfl dX2_paradoxNow_43 ?_
              refine j_lcmp G (by unfold lR; omega) (by unfold lR; omega) dX2_paradoxNow_44 ?_
              have k_45 := jCmp_c 0 0
              refine j_if_le 61 G (by unfold iR at *; omega) dX2_paradoxNow_45 (by decide) (fun c_45 => ?_) (fun c_45 => ?_)
              · skip
                refine j_iconst G dX2_paradoxNow_61 ?_
                refine j_istore_n G [(1, iI 0), (0, .ref y0), (2, iI k)] rfl (by decide) dX2_paradoxNow_62 ?_
                refine j_iinc G 2 rfl [(2, iI (k + 1)), (1, iI 0), (0, .ref y0)] rfl (by decide) dX2_paradoxNow_63 ?_
                refine j_goto 15 G dX2_paradoxNow_66 (by decide) ?_
                refine j_lv [2, 1, 0] rfl ?_
                exact ih_L15 (j + 1) (k + 1) 0 he2 ut2_32 ro2_32 ga2_32 wt2_32 (rSc (n, gr, pw, (k + 1), tB tb, tF tb)) alq 0 0 (clC (n, gr, pw, (k + 1), tB tb, tF tb)) (by (try unfold iR at *); omega) (by (try unfold iR at *); omega) (by
                  show _ = if sBit gr (j : Int) = 1 then (if parF (n, gr, pw, pr, tB tb, tF tb) j = 1 ∧ clC (n, gr, pw, ((j : Int) + 1), tB tb, tF tb) ≤ 1 ∧ (avF (n, gr, pw, ((j : Int) + 1), tB tb, tF tb)).1 < 0 then 1 else 0) else parF (n, gr, pw, pr, tB tb, tF tb) j
                  rw [← g3, ← g2]
                  first | (exfalso; omega) | (rw [if_neg (by omega)]; done) | (rw [if_pos (by omega), if_pos (by omega)]; done) | (rw [if_pos (by omega), if_neg (by omega)])) (by (try unfold iR at *); omega)
              · skip
                refine j_aload_n G 0 rfl dX2_paradoxNow_48 ?_
                refine j_get G FX2 (jAt_1 0 rfl) 34 (by decide) q1878 rfl dX2_paradoxNow_49 ?_
                refine j_lconst 0 G rfl dX2_paradoxNow_52 ?_
                refine j_lcmp G (by unfold lR; omega) (by unfold lR; omega) dX2_paradoxNow_53 ?_
                have k_54 := jCmp_c 0 0
                refine j_if_ge 61 G (by unfold iR at *; omega) dX2_paradoxNow_54 (by decide) (fun c_54 => ?_) (fun c_54 => ?_)
                · skip
                  refine j_iconst G dX2_paradoxNow_61 ?_
                  refine j_istore_n G [(1, iI 0), (0, .ref y0), (2, iI k)] rfl (by decide) dX2_paradoxNow_62 ?_
                  refine j_iinc G 2 rfl [(2, iI (k + 1)), (1, iI 0), (0, .ref y0)] rfl (by decide) dX2_paradoxNow_63 ?_
                  refine j_goto 15 G dX2_paradoxNow_66 (by decide) ?_
                  refine j_lv [2, 1, 0] rfl ?_
                  exact ih_L15 (j + 1) (k + 1) 0 he2 ut2_32 ro2_32 ga2_32 wt2_32 (rSc (n, gr, pw, (k + 1), tB tb, tF tb)) alq 0 0 (clC (n, gr, pw, (k + 1), tB tb, tF tb)) (by (try unfold iR at *); omega) (by (try unfold iR at *); omega) (by
                    show _ = if sBit gr (j : Int) = 1 then (if parF (n, gr, pw, pr, tB tb, tF tb) j = 1 ∧ clC (n, gr, pw, ((j : Int) + 1), tB tb, tF tb) ≤ 1 ∧ (avF (n, gr, pw, ((j : Int) + 1), tB tb, tF tb)).1 < 0 then 1 else 0) else parF (n, gr, pw, pr, tB tb, tF tb) j
                    rw [← g3, ← g2]
                    first | (exfalso; omega) | (rw [if_neg (by omega)]; done) | (rw [if_pos (by omega), if_pos (by omega)]; done) | (rw [if_pos (by omega), if_neg (by omega)])) (by (try unfold iR at *); omega)
                · skip
                  refine j_iconst G dX2_paradoxNow_57 ?_
                  refine j_goto 62 G dX2_paradoxNow_58 (by decide) ?_
                  refine j_istore_n G [(1, iI 1), (0, .ref y0), (2, iI k)] rfl (by decide) dX2_paradoxNow_62 ?_
                  refine j_iinc G 2 rfl [(2, iI (k + 1)), (1, iI 1), (0, .ref y0)] rfl (by decide) dX2_paradoxNow_63 ?_
                  refine j_goto 15 G dX2_paradoxNow_66 (by decide) ?_
                  refine j_lv [2, 1, 0] rfl ?_
                  exact ih_L15 (j + 1) (k + 1) 1 he2 ut2_32 ro2_32 ga2_32 wt2_32 (rSc (n, gr, pw, (k + 1), tB tb, tF tb)) alq 0 0 (clC (n, gr, pw, (k + 1), tB tb, tF tb)) (by (try unfold iR at *); omega) (by (try unfold iR at *); omega) (by
                    show _ = if sBit gr (j : Int) = 1 then (if parF (n, gr, pw, pr, tB tb, tF tb) j = 1 ∧ clC (n, gr, pw, ((j : Int) + 1), tB tb, tF tb) ≤ 1 ∧ (avF (n, gr, pw, ((j : Int) + 1), tB tb, tF tb)).1 < 0 then 1 else 0) else parF (n, gr, pw, pr, tB tb, tF tb) j
                    rw [← g3, ← g2]
                    first | (exfalso; omega) | (rw [if_neg (by omega)]; done) | (rw [if_pos (by omega), if_pos (by omega)]; done) | (rw [if_pos (by omega), if_neg (by omega)])) (by (try unfold iR at *); omega)
  refine j_aload_n G 0 rfl dX2_paradoxNow_0 ?_
  refine j_get G FX2 (jAt_1 0 rfl) 2 (by decide) q1846 rfl dX2_paradoxNow_1 ?_
  refine j_if_eq 11 G (by unfold iR at *; omega) dX2_paradoxNow_4 (by decide) (fun c_4 => ?_) (fun c_4 => ?_)
  · skip
    refine j_iconst G dX2_paradoxNow_11 ?_
    refine j_istore_n G [(1, iI 0), (0, .ref y0)] rfl (by decide) dX2_paradoxNow_12 ?_
    refine j_iconst G dX2_paradoxNow_13 ?_
    refine j_istore_n G [(2, iI 0), (1, iI 0), (0, .ref y0)] rfl (by decide) dX2_paradoxNow_14 ?_
    refine j_lv [2, 1, 0] rfl ?_
    exact L15 4 0 0 0 h ut ro ga wt sc al nr dr zc (by (try unfold iR at *); omega) rfl (by show _ = if gr = 0 then (0 : Int) else 1; first | rw [if_pos c_4] | rw [if_neg c_4]) (by (try unfold iR at *); omega)
  · skip
    refine j_iconst G dX2_paradoxNow_7 ?_
    refine j_goto 12 G dX2_paradoxNow_8 (by decide) ?_
    refine j_istore_n G [(1, iI 1), (0, .ref y0)] rfl (by decide) dX2_paradoxNow_12 ?_
    refine j_iconst G dX2_paradoxNow_13 ?_
    refine j_istore_n G [(2, iI 0), (1, iI 1), (0, .ref y0)] rfl (by decide) dX2_paradoxNow_14 ?_
    refine j_lv [2, 1, 0] rfl ?_
    exact L15 4 0 0 1 h ut ro ga wt sc al nr dr zc (by (try unfold iR at *); omega) rfl (by show _ = if gr = 0 then (0 : Int) else 1; first | rw [if_pos c_4] | rw [if_neg c_4]) (by (try unfold iR at *); omega)
theorem hY_X2_paradox : jY yX2_paradox 0 := ⟨by decide +kernel, by decide +kernel, by decide +kernel⟩
set_option maxHeartbeats 4000000 in
set_option maxRecDepth 100000 in
theorem c_X2_paradox (l : Launch) (u : jU) (y0 aT aX aR aM aG aN aQ aO aS aH aU aW : Nat) (th n gr pw po pr ix sd gn tk ln zs zl za zf ze zi zc bp ls wn sc al nr dr ba bb hh : Int) (tb : Int → Int) (h : Int → Int) (ut : Int → Int) (ro : Int → Int) (ga : Int → Int) (wt : Int → Int) (hn : 2 ≤ n ∧ n ≤ 4) (hg : 0 ≤ gr ∧ gr ≤ 7) (hw : 0 ≤ pw ∧ pw ≤ 15) (hpr : sProg pr = 1) (hT : wT (tB tb) (tF tb)) : jC l u yX2_paradox cX2_paradox 1 (some .int) 7 164 0 0 [.ref y0] [[(y0, jO 1 [iI th, iI n, iI gr, iI pw, .ref aT, iI po, iI pr, iI ix, iI sd, iI gn, iI tk, iI ln, .ref aX, iI zs, iI zl, iI za, iI zf, iI ze, iI zi, .ref aR, .ref aM, .ref aG, .ref aN, .ref aQ, lI ls, lI wn, .ref aO, .ref aS, .ref aH, .ref aU, lI sc, iI zc, .ref aW, lI al, lI nr, lI dr, iI bp, lI ba, lI bb, lI hh])], [(aT, cI u 24 tb)], [(aH, cJ u 4 h)], [(aU, cJ u 4 ut)], [(aO, cJ u 16 ro)], [(aS, cJ u 4 ga)], [(aW, cJ u 4 wt)]] (fun v_ w_ => ∃ (h2 ut2 ro2 ga2 wt2 : Int → Int) (sc2 al2 nr2 dr2 zc2 : Int) (bp2 ba2 bb2 : Int), v_ = some (iI (parN (n, gr, pw, pr, tB tb, tF tb))) ∧ w_ = [[(y0, jO 1 [iI 0, iI n, iI gr, iI pw, .ref aT, iI po, iI pr, iI ix, iI sd, iI gn, iI tk, iI ln, .ref aX, iI zs, iI zl, iI za, iI zf, iI ze, iI zi, .ref aR, .ref aM, .ref aG, .ref aN, .ref aQ, lI ls, lI wn, .ref aO, .ref aS, .ref aH, .ref aU, lI sc2, iI zc2, .ref aW, lI al2, lI nr2, lI dr2, iI bp2, lI ba2, lI bb2, lI hh])], [(aT, cI u 24 tb)], [(aH, cJ u 4 h2)], [(aU, cJ u 4 ut2)], [(aO, cJ u 16 ro2)], [(aS, cJ u 4 ga2)], [(aW, cJ u 4 wt2)]]) := by
  refine jC.of "FlashRatchetModel" (by decide +kernel) rfl (Nat.le_of_ble_eq_true rfl) [(0, .ref y0)] rfl (fun X G E I => ?_)
  refine j_aload_n G 0 rfl dX2_paradox_0 ?_
  refine j_iconst G dX2_paradox_1 ?_
  refine j_put (ws' := [[(y0, jO 1 [iI 0, iI n, iI gr, iI pw, .ref aT, iI po, iI pr, iI ix, iI sd, iI gn, iI tk, iI ln, .ref aX, iI zs, iI zl, iI za, iI zf, iI ze, iI zi, .ref aR, .ref aM, .ref aG, .ref aN, .ref aQ, lI ls, lI wn, .ref aO, .ref aS, .ref aH, .ref aU, lI sc, iI zc, .ref aW, lI al, lI nr, lI dr, iI bp, lI ba, lI bb, lI hh])], [(aT, cI u 24 tb)], [(aH, cJ u 4 h)], [(aU, cJ u 4 ut)], [(aO, cJ u 16 ro)], [(aS, cJ u 4 ga)], [(aW, cJ u 4 wt)]]) G FX2 (jAt_1 0 rfl) 0 (by decide) q1844 rfl rfl rfl (Nat.le_of_ble_eq_true rfl) dX2_paradox_2 rfl ?_
  refine j_aload_n G 0 rfl dX2_paradox_5 ?_
  refine j_callV (wr := []) (k' := 0) (n' := 0) G FX2 (c_X2_paradoxNow l u y0 aT aX aR aM aG aN aQ aO aS aH aU aW 0 n gr pw po pr ix sd gn tk ln zs zl za zf ze zi zc bp ls wn sc al nr dr ba bb hh tb h ut ro ga wt hn hg hw hpr hT) (jAt_1 0 rfl) ⟨rfl, hY_X2_paradoxNow⟩ q2227 q2229 qs80 q90 q2230 (jcut 7 [0, 1, 2, 3, 4, 5, 6] (by decide) rfl rfl) ⟨by omega, by omega, by omega, by omega, by omega, by omega⟩ (Nat.le_of_ble_eq_true rfl) dX2_paradox_6 rfl (fun v_ w_ hp => ?_)
  obtain ⟨he2, ut2_6, ro2_6, ga2_6, wt2_6, sc2_6, al2_6, nr2_6, dr2_6, zc2_6, bp2_6, ba2_6, bb2_6, rfl, rfl⟩ := hp
  show jJ X u 1 [[(y0, jO 1 [iI 0, iI n, iI gr, iI pw, .ref aT, iI po, iI pr, iI ix, iI sd, iI gn, iI tk, iI ln, .ref aX, iI zs, iI zl, iI za, iI zf, iI ze, iI zi, .ref aR, .ref aM, .ref aG, .ref aN, .ref aQ, lI ls, lI wn, .ref aO, .ref aS, .ref aH, .ref aU, lI sc2_6, iI zc2_6, .ref aW, lI al2_6, lI nr2_6, lI dr2_6, iI bp2_6, lI ba2_6, lI bb2_6, lI hh])], [(aT, cI u 24 tb)], [(aH, cJ u 4 he2)], [(aU, cJ u 4 ut2_6)], [(aO, cJ u 16 ro2_6)], [(aS, cJ u 4 ga2_6)], [(aW, cJ u 4 wt2_6)]] [(0, .ref y0)] 0 0 9 [iI (parN (n, gr, pw, pr, tB tb, tF tb))]
  exact j_iret G E ⟨he2, ut2_6, ro2_6, ga2_6, wt2_6, sc2_6, al2_6, nr2_6, dr2_6, zc2_6, bp2_6, ba2_6, bb2_6, rfl, rfl⟩ ⟨by omega, by omega⟩ dX2_paradox_9
