theorem hY_X2_mixChances : jY yX2_mixChances 0 := ⟨by decide +kernel, by decide +kernel, by decide +kernel⟩
set_option maxHeartbeats 4000000 in
set_option maxRecDepth 100000 in
theorem c_X2_mixChances (l : Launch) (u : jU) (mu la : Nat) (y0 aT aX aR aM aG aN aQ aO aS aH aU aW : Nat) (th n gr pw po pr ix sd gn tk ln zs zl za zf ze zi zc bp ls wn sc al nr dr ba bb hh : Int) (tb : Int → Int) (mt : Int → Int) (ga : Int → Int) (nw : Int → Int) (nx : Int → Int) (hn : 2 ≤ n ∧ n ≤ 4) (hg : 0 ≤ gr ∧ gr ≤ 7) (hw : 0 ≤ pw ∧ pw ≤ 15) (hp : sProg pr = 1) (hT : wT (tB tb) (tF tb)) (hq : wQ (n, gr, pw, pr, tB tb, tF tb) (po, ix, sd)) (hc : isCyc (n, gr, pw, pr, tB tb, tF tb) (po, ix, sd) mu la) (hml : mu + la ≤ 16000) : jC l u yX2_mixChances cX2_mixChances 2 none 5 121 0 0 [.ref y0] [[(y0, jO 1 [iI th, iI n, iI gr, iI pw, .ref aT, iI po, iI pr, iI ix, iI sd, iI gn, iI tk, iI ln, .ref aX, iI zs, iI zl, iI za, iI zf, iI ze, iI zi, .ref aR, .ref aM, .ref aG, .ref aN, .ref aQ, lI ls, lI wn, .ref aO, .ref aS, .ref aH, .ref aU, lI sc, iI zc, .ref aW, lI al, lI nr, lI dr, iI bp, lI ba, lI bb, lI hh])], [(aT, cI u 24 tb)], [(aM, cI u 16000 mt)], [(aG, cI u 16000 ga)], [(aN, cJ u 124 nw)], [(aQ, cJ u 124 nx)]] (fun v_ w_ => ∃ (mt2 ga2 nw2 nx2 : Int → Int) (ls2 wn2 h2 : Int), h2 = hChance (n, gr, pw, pr, tB tb, tF tb) (po, ix, sd) mu la hh ∧ v_ = none ∧ w_ = [[(y0, jO 1 [iI th, iI n, iI gr, iI pw, .ref aT, iI po, iI pr, iI ix, iI sd, iI gn, iI tk, iI ln, .ref aX, iI zs, iI zl, iI za, iI zf, iI ze, iI zi, .ref aR, .ref aM, .ref aG, .ref aN, .ref aQ, lI ls2, lI wn2, .ref aO, .ref aS, .ref aH, .ref aU, lI sc, iI zc, .ref aW, lI al, lI nr, lI dr, iI bp, lI ba, lI bb, lI h2])], [(aT, cI u 24 tb)], [(aM, cI u 16000 mt2)], [(aG, cI u 16000 ga2)], [(aN, cJ u 124 nw2)], [(aQ, cJ u 124 nx2)]]) := by
  refine jC.of "FlashRatchetModel" (by decide +kernel) rfl (Nat.le_of_ble_eq_true rfl) [(0, .ref y0)] rfl (fun X G E I => ?_)
  refine j_iconst G dX2_mixChances_0 ?_
  refine j_istore_n G [(1, iI 0), (0, .ref y0)] rfl (by decide) dX2_mixChances_1 ?_
  have L2 : ∀ (m : Nat) (j : Nat) (k1 : Int) (hv1 : Int) (lsq1 : Int) (wnq1 : Int) (mq1 : Int → Int) (gq1 : Int → Int) (nq1 : Int → Int) (xq1 : Int → Int), 3 - j < m → k1 = j → hv1 = mixF (toldV (n, gr, pw, pr, tB tb, tF tb) (po, ix, sd) mu la) hh j → j ≤ 3 → jJ X u 2 [[(y0, jO 1 [iI th, iI n, iI gr, iI pw, .ref aT, iI po, iI pr, iI ix, iI sd, iI gn, iI tk, iI ln, .ref aX, iI zs, iI zl, iI za, iI zf, iI ze, iI zi, .ref aR, .ref aM, .ref aG, .ref aN, .ref aQ, lI lsq1, lI wnq1, .ref aO, .ref aS, .ref aH, .ref aU, lI sc, iI zc, .ref aW, lI al, lI nr, lI dr, iI bp, lI ba, lI bb, lI hv1])], [(aT, cI u 24 tb)], [(aM, cI u 16000 mq1)], [(aG, cI u 16000 gq1)], [(aN, cJ u 124 nq1)], [(aQ, cJ u 124 xq1)]] [(0, .ref y0), (1, iI k1)] 0 0 2 [] := by
    intro m
    induction m with
    | zero =>
      intro j k1 hv1 lsq1 wnq1 mq1 gq1 nq1 xq1 a1 a2 a3 a4
      exfalso
      omega
    | succ m ih_L2 =>
      intro j k1 hv1 lsq1 wnq1 mq1 gq1 nq1 xq1 a1 a2 a3 a4
      refine j_iload_n G 1 rfl dX2_mixChances_2 ?_
      refine j_iconst G dX2_mixChances_3 ?_
      refine j_icmp_ge 23 G (by unfold iR at *; omega) (by unfold iR; omega) dX2_mixChances_4 (by decide) (fun c_4 => ?_) (fun c_4 => ?_)
      · skip
        have hj : j = 3 := by omega
        refine j_iconst G dX2_mixChances_23 ?_
        refine j_istore_n G [(1, iI 0), (0, .ref y0)] rfl (by decide) dX2_mixChances_24 ?_
        have L25 : ∀ (m : Nat) (i : Nat) (k2 : Int) (hv2 : Int) (lsq2 : Int) (wnq2 : Int) (mq2 : Int → Int) (gq2 : Int → Int) (nq2 : Int → Int) (xq2 : Int → Int), 4 - i < m → k2 = i → hv2 = mixF (fun p => cMany (cGo (-100) 100 (n, gr, pw, pr, tB tb, tF tb) (po, ix, sd) 6) (-1000) 1000 p) (mixF (toldV (n, gr, pw, pr, tB tb, tF tb) (po, ix, sd) mu la) hh 3) i → (i : Int) ≤ n → jJ X u 2 [[(y0, jO 1 [iI th, iI n, iI gr, iI pw, .ref aT, iI po, iI pr, iI ix, iI sd, iI gn, iI tk, iI ln, .ref aX, iI zs, iI zl, iI za, iI zf, iI ze, iI zi, .ref aR, .ref aM, .ref aG, .ref aN, .ref aQ, lI lsq2, lI wnq2, .ref aO, .ref aS, .ref aH, .ref aU, lI sc, iI zc, .ref aW, lI al, lI nr, lI dr, iI bp, lI ba, lI bb, lI hv2])], [(aT, cI u 24 tb)], [(aM, cI u 16000 mq2)], [(aG, cI u 16000 gq2)], [(aN, cJ u 124 nq2)], [(aQ, cJ u 124 xq2)]] [(0, .ref y0), (1, iI k2)] 0 0 25 [] := by
          intro m
          induction m with
          | zero =>
            intro i k2 hv2 lsq2 wnq2 mq2 gq2 nq2 xq2 b1 b2 b3 b4
            exfalso
            omega
          | succ m ih_L25 =>
            intro i k2 hv2 lsq2 wnq2 mq2 gq2 nq2 xq2 b1 b2 b3 b4
            refine j_iload_n G 1 rfl dX2_mixChances_25 ?_
            refine j_aload_n G 0 rfl dX2_mixChances_26 ?_
            refine j_get G FX2 (jAt_1 0 rfl) 1 (by decide) q1845 rfl dX2_mixChances_27 ?_
            refine j_icmp_ge 50 G (by unfold iR at *; omega) (by unfold iR at *; omega) dX2_mixChances_30 (by decide) (fun c_30 => ?_) (fun c_30 => ?_)
            · skip
              have hi : i = n.toNat := by omega
              refine j_aload_n G 0 rfl dX2_mixChances_50 ?_
              refine j_aload_n G 0 rfl dX2_mixChances_51 ?_
              refine j_bipush G (by decide) dX2_mixChances_52 ?_
              refine j_iconst G dX2_mixChances_54 ?_
              refine j_callV (wr := [[(aM, cI u 16000 mq2)], [(aG, cI u 16000 gq2)]]) (k' := 0) (n' := 0) G FX2 (c_X2_chanceFrom l u y0 aT aX aR aM aG aN aQ aO aS aH aU aW th n gr pw po pr ix sd gn tk ln zs zl za zf ze zi zc bp lsq2 wnq2 sc al nr dr ba bb hv2 tb nq2 xq2 6 1 hn hg hw hp hT hq (by unfold iR; omega) (by omega)) (jAt_1 0 rfl) ⟨rfl, hY_X2_chanceFrom⟩ q2129 q2131 qs65 q90 q2132 (jcut 6 [0, 1, 4, 5, 2, 3] (by decide) rfl rfl) ⟨by omega, by omega, by omega, by omega, by omega, by omega⟩ (Nat.le_of_ble_eq_true rfl) dX2_mixChances_55 rfl (fun v_ w_ hp => ?_)
              obtain ⟨nw2_55, nx2_55, ls2_55, wn2_55, r_55, h55_1, rfl, rfl⟩ := hp
              show jJ X u 2 [[(y0, jO 1 [iI th, iI n, iI gr, iI pw, .ref aT, iI po, iI pr, iI ix, iI sd, iI gn, iI tk, iI ln, .ref aX, iI zs, iI zl, iI za, iI zf, iI ze, iI zi, .ref aR, .ref aM, .ref aG, .ref aN, .ref aQ, lI ls2_55, lI wn2_55, .ref aO, .ref aS, .ref aH, .ref aU, lI sc, iI zc, .ref aW, lI al, lI nr, lI dr, iI bp, lI ba, lI bb, lI hv2])], [(aT, cI u 24 tb)], [(aN, cJ u 124 nw2_55)], [(aQ, cJ u 124 nx2_55)], [(aM, cI u 16000 mq2)], [(aG, cI u 16000 gq2)]] [(0, .ref y0), (1, iI k2)] 0 0 58 [lI r_55, .ref y0]
              refine j_callV (wr := [[(aT, cI u 24 tb)], [(aN, cJ u 124 nw2_55)], [(aQ, cJ u 124 nx2_55)], [(aM, cI u 16000 mq2)], [(aG, cI u 16000 gq2)]]) (k' := 0) (n' := 0) G FX2 (c_X2_mix l u y0 aT aX aR aM aG aN aQ aO aS aH aU aW th n gr pw po pr ix sd gn tk ln zs zl za zf ze zi zc bp ls2_55 wn2_55 sc al nr dr ba bb hv2 r_55 ) (jAt_1 0 rfl) ⟨rfl, hY_X2_mix⟩ q2252 q2254 qs82 q90 q2255 (jcut 6 [0, 1, 2, 3, 4, 5] (by decide) rfl rfl) ⟨by omega, by omega, by omega, by omega, by omega, by omega⟩ (Nat.le_of_ble_eq_true rfl) dX2_mixChances_58 rfl (fun v_ w_ hp => ?_)
              obtain ⟨rfl, rfl⟩ := hp
              show jJ X u 2 [[(y0, jO 1 [iI th, iI n, iI gr, iI pw, .ref aT, iI po, iI pr, iI ix, iI sd, iI gn, iI tk, iI ln, .ref aX, iI zs, iI zl, iI za, iI zf, iI ze, iI zi, .ref aR, .ref aM, .ref aG, .ref aN, .ref aQ, lI ls2_55, lI wn2_55, .ref aO, .ref aS, .ref aH, .ref aU, lI sc, iI zc, .ref aW, lI al, lI nr, lI dr, iI bp, lI ba, lI bb, lI (31 * hv2 + r_55)])], [(aT, cI u 24 tb)], [(aN, cJ u 124 nw2_55)], [(aQ, cJ u 124 nx2_55)], [(aM, cI u 16000 mq2)], [(aG, cI u 16000 gq2)]] [(0, .ref y0), (1, iI k2)] 0 0 61 []
              refine j_iconst G dX2_mixChances_61 ?_
              refine j_istore_n G [(1, iI 0), (0, .ref y0)] rfl (by decide) dX2_mixChances_62 ?_
              have L63 : ∀ (m : Nat) (e : Nat) (k3 : Int) (hv3 : Int) (lsq3 : Int) (wnq3 : Int) (mq3 : Int → Int) (gq3 : Int → Int) (nq3 : Int → Int) (xq3 : Int → Int), 3 - e < m → k3 = e → hv3 = mixF (gameV (n, gr, pw, pr, tB tb, tF tb) (po, ix, sd) 2 2 6) (31 * hv2 + cMany (cGo (-100) 100 (n, gr, pw, pr, tB tb, tF tb) (po, ix, sd) 6) 1 2147483647 (-1)) e → e ≤ 3 → jJ X u 2 [[(y0, jO 1 [iI th, iI n, iI gr, iI pw, .ref aT, iI po, iI pr, iI ix, iI sd, iI gn, iI tk, iI ln, .ref aX, iI zs, iI zl, iI za, iI zf, iI ze, iI zi, .ref aR, .ref aM, .ref aG, .ref aN, .ref aQ, lI lsq3, lI wnq3, .ref aO, .ref aS, .ref aH, .ref aU, lI sc, iI zc, .ref aW, lI al, lI nr, lI dr, iI bp, lI ba, lI bb, lI hv3])], [(aT, cI u 24 tb)], [(aM, cI u 16000 mq3)], [(aG, cI u 16000 gq3)], [(aN, cJ u 124 nq3)], [(aQ, cJ u 124 xq3)]] [(0, .ref y0), (1, iI k3)] 0 0 63 [] := by
                intro m
                induction m with
                | zero =>
                  intro e k3 hv3 lsq3 wnq3 mq3 gq3 nq3 xq3 d1 d2 d3 d4
                  exfalso
                  omega
                | succ m ih_L63 =>
                  intro e k3 hv3 lsq3 wnq3 mq3 gq3 nq3 xq3 d1 d2 d3 d4
                  refine j_iload_n G 1 rfl dX2_mixChances_63 ?_
                  refine j_iconst G dX2_mixChances_64 ?_
                  refine j_icmp_ge 87 G (by unfold iR at *; omega) (by unfold iR; omega) dX2_mixChances_65 (by decide) (fun c_65 => ?_) (fun c_65 => ?_)
                  · skip
                    have he : e = 3 := by omega
                    exact j_vret G E ⟨mq3, gq3, nq3, xq3, lsq3, wnq3, hv3, (by rw [d3, he, b3, hi]; rfl), rfl, rfl⟩ ⟨by omega, by omega⟩ dX2_mixChances_87
                  · skip
                    refine j_aload_n G 0 rfl dX2_mixChances_68 ?_
                    refine j_aload_n G 0 rfl dX2_mixChances_69 ?_
                    refine j_iconst G dX2_mixChances_70 ?_
                    refine j_iconst G dX2_mixChances_71 ?_
                    refine j_bipush G (by decide) dX2_mixChances_72 ?_
                    refine j_iload_n G 1 rfl dX2_mixChances_74 ?_
                    refine j_callV (wr := [[(aM, cI u 16000 mq3)], [(aG, cI u 16000 gq3)]]) (k' := 0) (n' := 0) G FX2 (c_X2_gameOf l u y0 aT aX aR aM aG aN aQ aO aS aH aU aW th n gr pw po pr ix sd gn tk ln zs zl za zf ze zi zc bp lsq3 wnq3 sc al nr dr ba bb hv3 tb nq3 xq3 2 2 6 k3 hn hg hw hp hT hq (by unfold iR at *; omega) (by omega) (by omega) (by omega)) (jAt_1 0 rfl) ⟨rfl, hY_X2_gameOf⟩ q2137 q2139 qs66 q90 q2140 (jcut 6 [0, 1, 4, 5, 2, 3] (by decide) rfl rfl) ⟨by omega, by omega, by omega, by omega, by omega, by omega⟩ (Nat.le_of_ble_eq_true rfl) dX2_mixChances_75 rfl (fun v_ w_ hp => ?_)
                    obtain ⟨nw2_75, nx2_75, ls2_75, wn2_75, r_75, h75_1, rfl, rfl⟩ := hp
                    show jJ X u 2 [[(y0, jO 1 [iI th, iI n, iI gr, iI pw, .ref aT, iI po, iI pr, iI ix, iI sd, iI gn, iI tk, iI ln, .ref aX, iI zs, iI zl, iI za, iI zf, iI ze, iI zi, .ref aR, .ref aM, .ref aG, .ref aN, .ref aQ, lI ls2_75, lI wn2_75, .ref aO, .ref aS, .ref aH, .ref aU, lI sc, iI zc, .ref aW, lI al, lI nr, lI dr, iI bp, lI ba, lI bb, lI hv3])], [(aT, cI u 24 tb)], [(aN, cJ u 124 nw2_75)], [(aQ, cJ u 124 nx2_75)], [(aM, cI u 16000 mq3)], [(aG, cI u 16000 gq3)]] [(0, .ref y0), (1, iI k3)] 0 0 78 [lI r_75, .ref y0]
                    refine j_callV (wr := [[(aT, cI u 24 tb)], [(aN, cJ u 124 nw2_75)], [(aQ, cJ u 124 nx2_75)], [(aM, cI u 16000 mq3)], [(aG, cI u 16000 gq3)]]) (k' := 0) (n' := 0) G FX2 (c_X2_mix l u y0 aT aX aR aM aG aN aQ aO aS aH aU aW th n gr pw po pr ix sd gn tk ln zs zl za zf ze zi zc bp ls2_75 wn2_75 sc al nr dr ba bb hv3 r_75 ) (jAt_1 0 rfl) ⟨rfl, hY_X2_mix⟩ q2252 q2254 qs82 q90 q2255 (jcut 6 [0, 1, 2, 3, 4, 5] (by decide) rfl rfl) ⟨by omega, by omega, by omega, by omega, by omega, by omega⟩ (Nat.le_of_ble_eq_true rfl) dX2_mixChances_78 rfl (fun v_ w_ hp => ?_)
                    obtain ⟨rfl, rfl⟩ := hp
                    show jJ X u 2 [[(y0, jO 1 [iI th, iI n, iI gr, iI pw, .ref aT, iI po, iI pr, iI ix, iI sd, iI gn, iI tk, iI ln, .ref aX, iI zs, iI zl, iI za, iI zf, iI ze, iI zi, .ref aR, .ref aM, .ref aG, .ref aN, .ref aQ, lI ls2_75, lI wn2_75, .ref aO, .ref aS, .ref aH, .ref aU, lI sc, iI zc, .ref aW, lI al, lI nr, lI dr, iI bp, lI ba, lI bb, lI (31 * hv3 + r_75)])], [(aT, cI u 24 tb)], [(aN, cJ u 124 nw2_75)], [(aQ, cJ u 124 nx2_75)], [(aM, cI u 16000 mq3)], [(aG, cI u 16000 gq3)]] [(0, .ref y0), (1, iI k3)] 0 0 81 []
                    refine j_iinc G 1 rfl [(1, iI (k3 + 1)), (0, .ref y0)] rfl (by decide) dX2_mixChances_81 ?_
                    refine j_goto 63 G dX2_mixChances_84 (by decide) ?_
                    refine j_lv [1, 0] rfl ?_
                    refine j_ws (ws' := [[(y0, jO 1 [iI th, iI n, iI gr, iI pw, .ref aT, iI po, iI pr, iI ix, iI sd, iI gn, iI tk, iI ln, .ref aX, iI zs, iI zl, iI za, iI zf, iI ze, iI zi, .ref aR, .ref aM, .ref aG, .ref aN, .ref aQ, lI ls2_75, lI wn2_75, .ref aO, .ref aS, .ref aH, .ref aU, lI sc, iI zc, .ref aW, lI al, lI nr, lI dr, iI bp, lI ba, lI bb, lI (31 * hv3 + r_75)])], [(aT, cI u 24 tb)], [(aM, cI u 16000 mq3)], [(aG, cI u 16000 gq3)], [(aN, cJ u 124 nw2_75)], [(aQ, cJ u 124 nx2_75)]]) (jperm 6 [0, 1, 4, 5, 2, 3] (by decide) rfl rfl) ?_
                    exact ih_L63 (e + 1) (k3 + 1) (31 * hv3 + r_75) ls2_75 wn2_75 mq3 gq3 nw2_75 nx2_75 (by (try unfold iR at *); omega) (by (try unfold iR at *); omega) (by rw [h75_1, d3, d2]; rfl) (by (try unfold iR at *); omega)
              refine j_lv [1, 0] rfl ?_
              refine j_ws (ws' := [[(y0, jO 1 [iI th, iI n, iI gr, iI pw, .ref aT, iI po, iI pr, iI ix, iI sd, iI gn, iI tk, iI ln, .ref aX, iI zs, iI zl, iI za, iI zf, iI ze, iI zi, .ref aR, .ref aM, .ref aG, .ref aN, .ref aQ, lI ls2_55, lI wn2_55, .ref aO, .ref aS, .ref aH, .ref aU, lI sc, iI zc, .ref aW, lI al, lI nr, lI dr, iI bp, lI ba, lI bb, lI (31 * hv2 + r_55)])], [(aT, cI u 24 tb)], [(aM, cI u 16000 mq2)], [(aG, cI u 16000 gq2)], [(aN, cJ u 124 nw2_55)], [(aQ, cJ u 124 nx2_55)]]) (jperm 6 [0, 1, 4, 5, 2, 3] (by decide) rfl rfl) ?_
              exact L63 4 0 0 (31 * hv2 + r_55) ls2_55 wn2_55 mq2 gq2 nw2_55 nx2_55 (by omega) rfl (by rw [h55_1]; rfl) (by omega)
            · skip
              refine j_aload_n G 0 rfl dX2_mixChances_33 ?_
              refine j_aload_n G 0 rfl dX2_mixChances_34 ?_
              refine j_bipush G (by decide) dX2_mixChances_35 ?_
              refine j_iload_n G 1 rfl dX2_mixChances_37 ?_
              refine j_callV (wr := [[(aM, cI u 16000 mq2)], [(aG, cI u 16000 gq2)]]) (k' := 0) (n' := 0) G FX2 (c_X2_chanceAt l u y0 aT aX aR aM aG aN aQ aO aS aH aU aW th n gr pw po pr ix sd gn tk ln zs zl za zf ze zi zc bp lsq2 wnq2 sc al nr dr ba bb hv2 tb nq2 xq2 6 k2 hn hg hw hp hT hq (by omega) (by omega)) (jAt_1 0 rfl) ⟨rfl, hY_X2_chanceAt⟩ q2100 q2102 qs59 q90 q2103 (jcut 6 [0, 1, 4, 5, 2, 3] (by decide) rfl rfl) ⟨by omega, by omega, by omega, by omega, by omega, by omega⟩ (Nat.le_of_ble_eq_true rfl) dX2_mixChances_38 rfl (fun v_ w_ hp => ?_)
              obtain ⟨nw2_38, nx2_38, ls2_38, wn2_38, r_38, h38_1, rfl, rfl⟩ := hp
              show jJ X u 2 [[(y0, jO 1 [iI th, iI n, iI gr, iI pw, .ref aT, iI po, iI pr, iI ix, iI sd, iI gn, iI tk, iI ln, .ref aX, iI zs, iI zl, iI za, iI zf, iI ze, iI zi, .ref aR, .ref aM, .ref aG, .ref aN, .ref aQ, lI ls2_38, lI wn2_38, .ref aO, .ref aS, .ref aH, .ref aU, lI sc, iI zc, .ref aW, lI al, lI nr, lI dr, iI bp, lI ba, lI bb, lI hv2])], [(aT, cI u 24 tb)], [(aN, cJ u 124 nw2_38)], [(aQ, cJ u 124 nx2_38)], [(aM, cI u 16000 mq2)], [(aG, cI u 16000 gq2)]] [(0, .ref y0), (1, iI k2)] 0 0 41 [lI r_38, .ref y0]
              refine j_callV (wr := [[(aT, cI u 24 tb)], [(aN, cJ u 124 nw2_38)], [(aQ, cJ u 124 nx2_38)], [(aM, cI u 16000 mq2)], [(aG, cI u 16000 gq2)]]) (k' := 0) (n' := 0) G FX2 (c_X2_mix l u y0 aT aX aR aM aG aN aQ aO aS aH aU aW th n gr pw po pr ix sd gn tk ln zs zl za zf ze zi zc bp ls2_38 wn2_38 sc al nr dr ba bb hv2 r_38 ) (jAt_1 0 rfl) ⟨rfl, hY_X2_mix⟩ q2252 q2254 qs82 q90 q2255 (jcut 6 [0, 1, 2, 3, 4, 5] (by decide) rfl rfl) ⟨by omega, by omega, by omega, by omega, by omega, by omega⟩ (Nat.le_of_ble_eq_true rfl) dX2_mixChances_41 rfl (fun v_ w_ hp => ?_)
              obtain ⟨rfl, rfl⟩ := hp
              show jJ X u 2 [[(y0, jO 1 [iI th, iI n, iI gr, iI pw, .ref aT, iI po, iI pr, iI ix, iI sd, iI gn, iI tk, iI ln, .ref aX, iI zs, iI zl, iI za, iI zf, iI ze, iI zi, .ref aR, .ref aM, .ref aG, .ref aN, .ref aQ, lI ls2_38, lI wn2_38, .ref aO, .ref aS, .ref aH, .ref aU, lI sc, iI zc, .ref aW, lI al, lI nr, lI dr, iI bp, lI ba, lI bb, lI (31 * hv2 + r_38)])], [(aT, cI u 24 tb)], [(aN, cJ u 124 nw2_38)], [(aQ, cJ u 124 nx2_38)], [(aM, cI u 16000 mq2)], [(aG, cI u 16000 gq2)]] [(0, .ref y0), (1, iI k2)] 0 0 44 []
              refine j_iinc G 1 rfl [(1, iI (k2 + 1)), (0, .ref y0)] rfl (by decide) dX2_mixChances_44 ?_
              refine j_goto 25 G dX2_mixChances_47 (by decide) ?_
              refine j_lv [1, 0] rfl ?_
              refine j_ws (ws' := [[(y0, jO 1 [iI th, iI n, iI gr, iI pw, .ref aT, iI po, iI pr, iI ix, iI sd, iI gn, iI tk, iI ln, .ref aX, iI zs, iI zl, iI za, iI zf, iI ze, iI zi, .ref aR, .ref aM, .ref aG, .ref aN, .ref aQ, lI ls2_38, lI wn2_38, .ref aO, .ref aS, .ref aH, .ref aU, lI sc, iI zc, .ref aW, lI al, lI nr, lI dr, iI bp, lI ba, lI bb, lI (31 * hv2 + r_38)])], [(aT, cI u 24 tb)], [(aM, cI u 16000 mq2)], [(aG, cI u 16000 gq2)], [(aN, cJ u 124 nw2_38)], [(aQ, cJ u 124 nx2_38)]]) (jperm 6 [0, 1, 4, 5, 2, 3] (by decide) rfl rfl) ?_
              exact ih_L25 (i + 1) (k2 + 1) (31 * hv2 + r_38) ls2_38 wn2_38 mq2 gq2 nw2_38 nx2_38 (by (try unfold iR at *); omega) (by (try unfold iR at *); omega) (by rw [h38_1, b3, b2]; rfl) (by (try unfold iR at *); omega)
        refine j_lv [1, 0] rfl ?_
        exact L25 5 0 0 hv1 lsq1 wnq1 mq1 gq1 nq1 xq1 (by omega) rfl (by rw [a3, hj]; rfl) (by omega)
      · skip
        refine j_aload_n G 0 rfl dX2_mixChances_7 ?_
        refine j_aload_n G 0 rfl dX2_mixChances_8 ?_
        refine j_iload_n G 1 rfl dX2_mixChances_9 ?_
        refine j_callV (wr := [[(aN, cJ u 124 nq1)], [(aQ, cJ u 124 xq1)]]) (k' := 0) (n' := 0) G FX2 (c_X2_cycleNow l u mu la y0 aT aX aR aM aG aN aQ aO aS aH aU aW th n gr pw po pr ix sd gn tk ln zs zl za zf ze zi zc bp lsq1 wnq1 sc al nr dr ba bb hv1 tb mq1 gq1 k1 hn hg hw hp hT hq hc hml (by unfold iR at *; omega)) (jAt_1 0 rfl) ⟨rfl, hY_X2_cycleNow⟩ q2092 q2094 qs58 q90 q2095 (jcut 6 [0, 1, 2, 3, 4, 5] (by decide) rfl rfl) ⟨by omega, by omega, by omega, by omega, by omega, by omega⟩ (Nat.le_of_ble_eq_true rfl) dX2_mixChances_10 rfl (fun v_ w_ hp => ?_)
        obtain ⟨mt2_10, ga2_10, r_10, h10_1, rfl, rfl⟩ := hp
        show jJ X u 2 [[(y0, jO 1 [iI th, iI n, iI gr, iI pw, .ref aT, iI po, iI pr, iI ix, iI sd, iI gn, iI tk, iI ln, .ref aX, iI zs, iI zl, iI za, iI zf, iI ze, iI zi, .ref aR, .ref aM, .ref aG, .ref aN, .ref aQ, lI lsq1, lI wnq1, .ref aO, .ref aS, .ref aH, .ref aU, lI sc, iI zc, .ref aW, lI al, lI nr, lI dr, iI bp, lI ba, lI bb, lI hv1])], [(aT, cI u 24 tb)], [(aM, cI u 16000 mt2_10)], [(aG, cI u 16000 ga2_10)], [(aN, cJ u 124 nq1)], [(aQ, cJ u 124 xq1)]] [(0, .ref y0), (1, iI k1)] 0 0 13 [iI r_10, .ref y0]
        have hr1 : iR r_10 := by
          have t1 := tSum_R (n, gr, pw, pr, tB tb, tF tb) (po, ix, sd) (mu + la)
          have t2 := tSum_R (n, gr, pw, pr, tB tb, tF tb) (po, ix, sd) mu
          rw [h10_1]
          unfold iR
          (repeat' split) <;> omega
        refine j_i2l G hr1 dX2_mixChances_13 ?_
        refine j_callV (wr := [[(aT, cI u 24 tb)], [(aM, cI u 16000 mt2_10)], [(aG, cI u 16000 ga2_10)], [(aN, cJ u 124 nq1)], [(aQ, cJ u 124 xq1)]]) (k' := 0) (n' := 0) G FX2 (c_X2_mix l u y0 aT aX aR aM aG aN aQ aO aS aH aU aW th n gr pw po pr ix sd gn tk ln zs zl za zf ze zi zc bp lsq1 wnq1 sc al nr dr ba bb hv1 r_10 ) (jAt_1 0 rfl) ⟨rfl, hY_X2_mix⟩ q2252 q2254 qs82 q90 q2255 (jcut 6 [0, 1, 2, 3, 4, 5] (by decide) rfl rfl) ⟨by omega, by omega, by omega, by omega, by omega, by omega⟩ (Nat.le_of_ble_eq_true rfl) dX2_mixChances_14 rfl (fun v_ w_ hp => ?_)
        obtain ⟨rfl, rfl⟩ := hp
        show jJ X u 2 [[(y0, jO 1 [iI th, iI n, iI gr, iI pw, .ref aT, iI po, iI pr, iI ix, iI sd, iI gn, iI tk, iI ln, .ref aX, iI zs, iI zl, iI za, iI zf, iI ze, iI zi, .ref aR, .ref aM, .ref aG, .ref aN, .ref aQ, lI lsq1, lI wnq1, .ref aO, .ref aS, .ref aH, .ref aU, lI sc, iI zc, .ref aW, lI al, lI nr, lI dr, iI bp, lI ba, lI bb, lI (31 * hv1 + r_10)])], [(aT, cI u 24 tb)], [(aM, cI u 16000 mt2_10)], [(aG, cI u 16000 ga2_10)], [(aN, cJ u 124 nq1)], [(aQ, cJ u 124 xq1)]] [(0, .ref y0), (1, iI k1)] 0 0 17 []
        refine j_iinc G 1 rfl [(1, iI (k1 + 1)), (0, .ref y0)] rfl (by decide) dX2_mixChances_17 ?_
        refine j_goto 2 G dX2_mixChances_20 (by decide) ?_
        refine j_lv [1, 0] rfl ?_
        exact ih_L2 (j + 1) (k1 + 1) (31 * hv1 + r_10) lsq1 wnq1 mt2_10 ga2_10 nq1 xq1 (by (try unfold iR at *); omega) (by (try unfold iR at *); omega) (by rw [h10_1, a3, a2]; rfl) (by (try unfold iR at *); omega)
  refine j_lv [1, 0] rfl ?_
  exact L2 4 0 0 hh ls wn mt ga nw nx (by (try unfold iR at *); omega) rfl rfl (by (try unfold iR at *); omega)
