theorem hY_X2_layAverage : jY yX2_layAverage 1 := ⟨by decide +kernel, by decide +kernel, by decide +kernel⟩
set_option maxHeartbeats 4000000 in
set_option maxRecDepth 100000 in
theorem c_X2_layAverage (l : Launch) (u : jU) (y0 aT aX aR aM aG aN aQ aO aS aH aU aW : Nat) (th n gr pw po pr ix sd gn tk ln zs zl za zf ze zi zc bp ls wn sc al nr dr ba bb hh : Int) (tb : Int → Int) (h : Int → Int) (ut : Int → Int) (ro : Int → Int) (ga : Int → Int) (wt : Int → Int) (of : Int) (hn : 2 ≤ n ∧ n ≤ 4) (hg : 0 ≤ gr ∧ gr ≤ 7) (hw : 0 ≤ pw ∧ pw ≤ 15) (hT : wT (tB tb) (tF tb)) (hof : sProg of = 1) : jC l u yX2_layAverage cX2_layAverage 7 none 4 93 0 0 [.ref y0, iI of] [[(y0, jO 1 [iI th, iI n, iI gr, iI pw, .ref aT, iI po, iI pr, iI ix, iI sd, iI gn, iI tk, iI ln, .ref aX, iI zs, iI zl, iI za, iI zf, iI ze, iI zi, .ref aR, .ref aM, .ref aG, .ref aN, .ref aQ, lI ls, lI wn, .ref aO, .ref aS, .ref aH, .ref aU, lI sc, iI zc, .ref aW, lI al, lI nr, lI dr, iI bp, lI ba, lI bb, lI hh])], [(aT, cI u 24 tb)], [(aH, cJ u 4 h)], [(aU, cJ u 4 ut)], [(aO, cJ u 16 ro)], [(aS, cJ u 4 ga)], [(aW, cJ u 4 wt)]] (fun v_ w_ => (∃ (h2 ut2 ro2 ga2 wt2 : Int → Int) (al2 : Int), (clC (n, gr, pw, of, tB tb, tF tb)) ≤ 1 ∧ (∀ p : Int, 0 ≤ p → p < n → fr (wt2 p) al2 = shF (n, gr, pw, of, tB tb, tF tb) p ∧ 0 ≤ wt2 p ∧ wt2 p ≤ 1000000000000) ∧ (0 < al2 ∧ al2 ≤ 4000000000000) ∧ v_ = none ∧ w_ = [[(y0, jO 1 [iI th, iI n, iI gr, iI pw, .ref aT, iI po, iI pr, iI ix, iI sd, iI gn, iI tk, iI ln, .ref aX, iI zs, iI zl, iI za, iI zf, iI ze, iI zi, .ref aR, .ref aM, .ref aG, .ref aN, .ref aQ, lI ls, lI wn, .ref aO, .ref aS, .ref aH, .ref aU, lI (rSc (n, gr, pw, of, tB tb, tF tb)), iI (clC (n, gr, pw, of, tB tb, tF tb)), .ref aW, lI al2, lI ((avF (n, gr, pw, of, tB tb, tF tb)).1), lI ((avF (n, gr, pw, of, tB tb, tF tb)).2), iI bp, lI ba, lI bb, lI hh])], [(aT, cI u 24 tb)], [(aH, cJ u 4 h2)], [(aU, cJ u 4 ut2)], [(aO, cJ u 16 ro2)], [(aS, cJ u 4 ga2)], [(aW, cJ u 4 wt2)]]) ∨ (∃ (h2 ut2 ro2 ga2 wt2 : Int → Int), 1 < (clC (n, gr, pw, of, tB tb, tF tb)) ∧ v_ = none ∧ w_ = [[(y0, jO 1 [iI th, iI n, iI gr, iI pw, .ref aT, iI po, iI pr, iI ix, iI sd, iI gn, iI tk, iI ln, .ref aX, iI zs, iI zl, iI za, iI zf, iI ze, iI zi, .ref aR, .ref aM, .ref aG, .ref aN, .ref aQ, lI ls, lI wn, .ref aO, .ref aS, .ref aH, .ref aU, lI (rSc (n, gr, pw, of, tB tb, tF tb)), iI (clC (n, gr, pw, of, tB tb, tF tb)), .ref aW, lI al, lI 0, lI 0, iI bp, lI ba, lI bb, lI hh])], [(aT, cI u 24 tb)], [(aH, cJ u 4 h2)], [(aU, cJ u 4 ut2)], [(aO, cJ u 16 ro2)], [(aS, cJ u 4 ga2)], [(aW, cJ u 4 wt2)]])) := by
  refine jC.of "FlashRatchetModel" (by decide +kernel) rfl (Nat.le_of_ble_eq_true rfl) [(0, .ref y0), (1, iI of)] rfl (fun X G E I => ?_)
  have hc : wC (n, gr, pw, of, tB tb, tF tb) := ⟨hn, hg, hw, hof, hT⟩
  have hpi := sProg_in hof
  have hpl := sLen_prog hof
  have hln : rLn (n, gr, pw, of, tB tb, tF tb) = (sLen of).toNat := rfl
  refine j_aload_n G 0 rfl dX2_layAverage_0 ?_
  refine j_iload_n G 1 rfl dX2_layAverage_1 ?_
  refine j_callV (wr := [[(aW, cJ u 4 wt)]]) (k' := 0) (n' := 0) G FX2 (c_X2_layRound l u y0 aT aX aR aM aG aN aQ aO aS aH aU aW th n gr pw po pr ix sd gn tk ln zs zl za zf ze zi zc bp ls wn sc al nr dr ba bb hh tb h ut ro ga of hn hg hw hT hof) (jAt_1 0 rfl) ⟨rfl, hY_X2_layRound⟩ q2153 q2155 qs69 q90 q2156 (jcut 7 [0, 1, 2, 3, 4, 5, 6] (by decide) rfl rfl) ⟨by omega, by omega, by omega, by omega, by omega, by omega⟩ (Nat.le_of_ble_eq_true rfl) dX2_layAverage_2 rfl (fun v_ w_ hp => ?_)
  obtain ⟨he2, ut2_2, ro2_2, ga2_2, h2_1, h2_2, rfl, rfl⟩ := hp
  show jJ X u 7 [[(y0, jO 1 [iI th, iI n, iI gr, iI pw, .ref aT, iI po, iI pr, iI ix, iI sd, iI gn, iI tk, iI ln, .ref aX, iI zs, iI zl, iI za, iI zf, iI ze, iI zi, .ref aR, .ref aM, .ref aG, .ref aN, .ref aQ, lI ls, lI wn, .ref aO, .ref aS, .ref aH, .ref aU, lI (rSc (n, gr, pw, of, tB tb, tF tb)), iI zc, .ref aW, lI al, lI nr, lI dr, iI bp, lI ba, lI bb, lI hh])], [(aT, cI u 24 tb)], [(aH, cJ u 4 he2)], [(aU, cJ u 4 ut2_2)], [(aO, cJ u 16 ro2_2)], [(aS, cJ u 4 ga2_2)], [(aW, cJ u 4 wt)]] [(0, .ref y0), (1, iI of)] 0 0 5 []
  refine j_aload_n G 0 rfl dX2_layAverage_5 ?_
  refine j_callV (wr := [[(aT, cI u 24 tb)], [(aH, cJ u 4 he2)], [(aU, cJ u 4 ut2_2)], [(aS, cJ u 4 ga2_2)], [(aW, cJ u 4 wt)]]) (k' := 0) (n' := 0) G FX2 (c_X2_layClasses l u y0 aT aX aR aM aG aN aQ aO aS aH aU aW th n gr pw po pr ix sd gn tk ln zs zl za zf ze zi zc bp ls wn (rSc (n, gr, pw, of, tB tb, tF tb)) al nr dr ba bb hh ro2_2 (rM (n, gr, pw, of, tB tb, tF tb)) hn h2_1 (fun a b h0 h1 => rM_R hc ⟨h0, h1⟩ b)) (jAt_1 0 rfl) ⟨rfl, hY_X2_layClasses⟩ q2161 q2163 qs71 q90 q2164 (jcut 7 [0, 4, 1, 2, 3, 5, 6] (by decide) rfl rfl) ⟨by omega, by omega, by omega, by omega, by omega, by omega⟩ (Nat.le_of_ble_eq_true rfl) dX2_layAverage_6 rfl (fun v_ w_ hp => ?_)
  obtain ⟨rfl, rfl⟩ := hp
  show jJ X u 7 [[(y0, jO 1 [iI th, iI n, iI gr, iI pw, .ref aT, iI po, iI pr, iI ix, iI sd, iI gn, iI tk, iI ln, .ref aX, iI zs, iI zl, iI za, iI zf, iI ze, iI zi, .ref aR, .ref aM, .ref aG, .ref aN, .ref aQ, lI ls, lI wn, .ref aO, .ref aS, .ref aH, .ref aU, lI (rSc (n, gr, pw, of, tB tb, tF tb)), iI (clN n (rM (n, gr, pw, of, tB tb, tF tb))), .ref aW, lI al, lI nr, lI dr, iI bp, lI ba, lI bb, lI hh])], [(aO, cJ u 16 ro2_2)], [(aT, cI u 24 tb)], [(aH, cJ u 4 he2)], [(aU, cJ u 4 ut2_2)], [(aS, cJ u 4 ga2_2)], [(aW, cJ u 4 wt)]] [(0, .ref y0), (1, iI of)] 0 0 9 []
  have hclR := clF_R (n := n) (R := rcH n (rM (n, gr, pw, of, tB tb, tF tb))) n.toNat
  have hclE : clN n (rM (n, gr, pw, of, tB tb, tF tb)) = clF n (rcH n (rM (n, gr, pw, of, tB tb, tF tb))) n.toNat := rfl
  have hclF : clC (n, gr, pw, of, tB tb, tF tb) = clN n (rM (n, gr, pw, of, tB tb, tF tb)) := rfl
  refine j_aload_n G 0 rfl dX2_layAverage_9 ?_
  refine j_lconst 0 G rfl dX2_layAverage_10 ?_
  refine j_put (ws' := [[(y0, jO 1 [iI th, iI n, iI gr, iI pw, .ref aT, iI po, iI pr, iI ix, iI sd, iI gn, iI tk, iI ln, .ref aX, iI zs, iI zl, iI za, iI zf, iI ze, iI zi, .ref aR, .ref aM, .ref aG, .ref aN, .ref aQ, lI ls, lI wn, .ref aO, .ref aS, .ref aH, .ref aU, lI (rSc (n, gr, pw, of, tB tb, tF tb)), iI (clN n (rM (n, gr, pw, of, tB tb, tF tb))), .ref aW, lI al, lI 0, lI dr, iI bp, lI ba, lI bb, lI hh])], [(aO, cJ u 16 ro2_2)], [(aT, cI u 24 tb)], [(aH, cJ u 4 he2)], [(aU, cJ u 4 ut2_2)], [(aS, cJ u 4 ga2_2)], [(aW, cJ u 4 wt)]]) G FX2 (jAt_1 0 rfl) 34 (by decide) q1878 rfl rfl rfl (Nat.le_of_ble_eq_true rfl) dX2_layAverage_11 rfl ?_
  refine j_aload_n G 0 rfl dX2_layAverage_14 ?_
  refine j_lconst 0 G rfl dX2_layAverage_15 ?_
  refine j_put (ws' := [[(y0, jO 1 [iI th, iI n, iI gr, iI pw, .ref aT, iI po, iI pr, iI ix, iI sd, iI gn, iI tk, iI ln, .ref aX, iI zs, iI zl, iI za, iI zf, iI ze, iI zi, .ref aR, .ref aM, .ref aG, .ref aN, .ref aQ, lI ls, lI wn, .ref aO, .ref aS, .ref aH, .ref aU, lI (rSc (n, gr, pw, of, tB tb, tF tb)), iI (clN n (rM (n, gr, pw, of, tB tb, tF tb))), .ref aW, lI al, lI 0, lI 0, iI bp, lI ba, lI bb, lI hh])], [(aO, cJ u 16 ro2_2)], [(aT, cI u 24 tb)], [(aH, cJ u 4 he2)], [(aU, cJ u 4 ut2_2)], [(aS, cJ u 4 ga2_2)], [(aW, cJ u 4 wt)]]) G FX2 (jAt_1 0 rfl) 35 (by decide) q1879 rfl rfl rfl (Nat.le_of_ble_eq_true rfl) dX2_layAverage_16 rfl ?_
  refine j_aload_n G 0 rfl dX2_layAverage_19 ?_
  refine j_get G FX2 (jAt_1 0 rfl) 31 (by decide) q1875 rfl dX2_layAverage_20 ?_
  refine j_iconst G dX2_layAverage_23 ?_
  refine j_icmp_le 28 G (by unfold iR at *; omega) (by unfold iR; omega) dX2_layAverage_24 (by decide) (fun c_24 => ?_) (fun c_24 => ?_)
  · skip
    refine j_lconst 0 G rfl dX2_layAverage_28 ?_
    refine j_lstore_n G [(2, lI 0), (0, .ref y0), (1, iI of)] rfl (by decide) dX2_layAverage_29 ?_
    refine j_iconst G dX2_layAverage_30 ?_
    refine j_istore G [(4, iI 0), (2, lI 0), (0, .ref y0), (1, iI of)] rfl (by decide) dX2_layAverage_31 ?_
    have L33 : ∀ (m : Nat) (j : Nat) (p : Int) (d : Int) (wt1 : Int → Int), 4 - j < m → p = j → d = dF (wtN (n, gr, pw, of, tB tb, tF tb)) j → (∀ x : Int, 0 ≤ x → x < p → wt1 x = wtN (n, gr, pw, of, tB tb, tF tb) x) → (j : Int) ≤ n → jJ X u 7 [[(y0, jO 1 [iI th, iI n, iI gr, iI pw, .ref aT, iI po, iI pr, iI ix, iI sd, iI gn, iI tk, iI ln, .ref aX, iI zs, iI zl, iI za, iI zf, iI ze, iI zi, .ref aR, .ref aM, .ref aG, .ref aN, .ref aQ, lI ls, lI wn, .ref aO, .ref aS, .ref aH, .ref aU, lI (rSc (n, gr, pw, of, tB tb, tF tb)), iI (clN n (rM (n, gr, pw, of, tB tb, tF tb))), .ref aW, lI al, lI 0, lI 0, iI bp, lI ba, lI bb, lI hh])], [(aT, cI u 24 tb)], [(aH, cJ u 4 he2)], [(aU, cJ u 4 ut2_2)], [(aO, cJ u 16 ro2_2)], [(aS, cJ u 4 ga2_2)], [(aW, cJ u 4 wt1)]] [(0, .ref y0), (1, iI of), (2, lI d), (4, iI p)] 0 0 33 [] := by
      intro m
      induction m with
      | zero =>
        intro j p d wt1 g1 g2 g3 g4 g5
        exfalso
        omega
      | succ m ih_L33 =>
        intro j p d wt1 g1 g2 g3 g4 g5
        have hdR := (dF_R (w := wtN (n, gr, pw, of, tB tb, tF tb)) (m := 1000000000000) (by omega) (k := j) (fun x a b => wtN_R hc ⟨a, by show x < n; omega⟩))
        rw [← g3] at hdR
        refine j_iload G 3 rfl dX2_layAverage_33 ?_
        refine j_aload_n G 0 rfl dX2_layAverage_35 ?_
        refine j_get G FX2 (jAt_1 0 rfl) 1 (by decide) q1845 rfl dX2_layAverage_36 ?_
        refine j_icmp_ge 73 G (by unfold iR at *; omega) (by unfold iR at *; omega) dX2_layAverage_39 (by decide) (fun c_39 => ?_) (fun c_39 => ?_)
        · skip
          have hj : j = n.toNat := by omega
          subst hj
          have hcl : clC (n, gr, pw, of, tB tb, tF tb) ≤ 1 := by omega
          have hdd := dd_pos hc hcl
          have hdd2 : 0 < d ∧ d ≤ 1000000000000 := by rw [g3]; exact hdd
          refine j_aload_n G 0 rfl dX2_layAverage_73 ?_
          refine j_lconst 0 G rfl dX2_layAverage_74 ?_
          refine j_put (ws' := [[(y0, jO 1 [iI th, iI n, iI gr, iI pw, .ref aT, iI po, iI pr, iI ix, iI sd, iI gn, iI tk, iI ln, .ref aX, iI zs, iI zl, iI za, iI zf, iI ze, iI zi, .ref aR, .ref aM, .ref aG, .ref aN, .ref aQ, lI ls, lI wn, .ref aO, .ref aS, .ref aH, .ref aU, lI (rSc (n, gr, pw, of, tB tb, tF tb)), iI (clN n (rM (n, gr, pw, of, tB tb, tF tb))), .ref aW, lI 0, lI 0, lI 0, iI bp, lI ba, lI bb, lI hh])], [(aT, cI u 24 tb)], [(aH, cJ u 4 he2)], [(aU, cJ u 4 ut2_2)], [(aO, cJ u 16 ro2_2)], [(aS, cJ u 4 ga2_2)], [(aW, cJ u 4 wt1)]]) G FX2 (jAt_1 0 rfl) 33 (by decide) q1877 rfl rfl rfl (Nat.le_of_ble_eq_true rfl) dX2_layAverage_75 rfl ?_
          refine j_lconst 0 G rfl dX2_layAverage_78 ?_
          refine j_lstore G [(4, lI 0), (0, .ref y0), (1, iI of), (2, lI d)] rfl (by decide) dX2_layAverage_79 ?_
          refine j_iconst G dX2_layAverage_81 ?_
          refine j_istore G [(6, iI 0), (4, lI 0), (0, .ref y0), (1, iI of), (2, lI d)] rfl (by decide) dX2_layAverage_82 ?_
          have L84 : ∀ (m : Nat) (i : Nat) (p : Int) (s : Int) (a : Int) (wt3 : Int → Int), 4 - i < m → p = i → a = sumF (vN (n, gr, pw, of, tB tb, tF tb)) i → s = sumF (fun x => vN (n, gr, pw, of, tB tb, tF tb) x * rGa (n, gr, pw, of, tB tb, tF tb) x) i → (∀ x : Int, 0 ≤ x → x < p → wt3 x = vN (n, gr, pw, of, tB tb, tF tb) x) → (∀ x : Int, p ≤ x → x < n → wt3 x = wtN (n, gr, pw, of, tB tb, tF tb) x) → (i : Int) ≤ n → jJ X u 7 [[(y0, jO 1 [iI th, iI n, iI gr, iI pw, .ref aT, iI po, iI pr, iI ix, iI sd, iI gn, iI tk, iI ln, .ref aX, iI zs, iI zl, iI za, iI zf, iI ze, iI zi, .ref aR, .ref aM, .ref aG, .ref aN, .ref aQ, lI ls, lI wn, .ref aO, .ref aS, .ref aH, .ref aU, lI (rSc (n, gr, pw, of, tB tb, tF tb)), iI (clN n (rM (n, gr, pw, of, tB tb, tF tb))), .ref aW, lI a, lI 0, lI 0, iI bp, lI ba, lI bb, lI hh])], [(aT, cI u 24 tb)], [(aH, cJ u 4 he2)], [(aU, cJ u 4 ut2_2)], [(aO, cJ u 16 ro2_2)], [(aS, cJ u 4 ga2_2)], [(aW, cJ u 4 wt3)]] [(0, .ref y0), (1, iI of), (2, lI d), (4, lI s), (6, iI p)] 0 0 84 [] := by
            intro m
            induction m with
            | zero =>
              intro i p s a wt3 g6 g7 g8 g9 g10 g11 g12
              exfalso
              omega
            | succ m ih_L84 =>
              intro i p s a wt3 g6 g7 g8 g9 g10 g11 g12
              refine j_iload G 4 rfl dX2_layAverage_84 ?_
              refine j_aload_n G 0 rfl dX2_layAverage_86 ?_
              refine j_get G FX2 (jAt_1 0 rfl) 1 (by decide) q1845 rfl dX2_layAverage_87 ?_
              refine j_icmp_ge 146 G (by unfold iR at *; omega) (by unfold iR at *; omega) dX2_layAverage_90 (by decide) (fun c_90 => ?_) (fun c_90 => ?_)
              · skip
                have hi : i = n.toNat := by omega
                subst hi
                have hden := vN_den hc hcl
                have hsR := vN_sR hc hcl n.toNat (by show ((n.toNat : Nat) : Int) ≤ n; omega)
                have hav := vN_av hc hcl
                have hal := vN_al hc hcl
                dsimp only at hden hav hal
                rw [← g8] at hden hal
                rw [← g9] at hsR
                rw [← g8, ← g9] at hav
                refine j_aload_n G 0 rfl dX2_layAverage_146 ?_
                refine j_lload G 3 rfl dX2_layAverage_147 ?_
                refine j_aload_n G 0 rfl dX2_layAverage_149 ?_
                refine j_get G FX2 (jAt_1 0 rfl) 33 (by decide) q1877 rfl dX2_layAverage_150 ?_
                refine j_aload_n G 0 rfl dX2_layAverage_153 ?_
                refine j_get G FX2 (jAt_1 0 rfl) 30 (by decide) q1874 rfl dX2_layAverage_154 ?_
                refine j_lmul G dX2_layAverage_157 ?_
                refine j_iload_n G 1 rfl dX2_layAverage_158 ?_
                refine j_callS (wr := [[(y0, jO 1 [iI th, iI n, iI gr, iI pw, .ref aT, iI po, iI pr, iI ix, iI sd, iI gn, iI tk, iI ln, .ref aX, iI zs, iI zl, iI za, iI zf, iI ze, iI zi, .ref aR, .ref aM, .ref aG, .ref aN, .ref aQ, lI ls, lI wn, .ref aO, .ref aS, .ref aH, .ref aU, lI (rSc (n, gr, pw, of, tB tb, tF tb)), iI (clN n (rM (n, gr, pw, of, tB tb, tF tb))), .ref aW, lI a, lI 0, lI 0, iI bp, lI ba, lI bb, lI hh])], [(aT, cI u 24 tb)], [(aH, cJ u 4 he2)], [(aU, cJ u 4 ut2_2)], [(aO, cJ u 16 ro2_2)], [(aS, cJ u 4 ga2_2)], [(aW, cJ u 4 wt3)]]) (k' := 0) (n' := 0) G (c_X2_size l u of (by unfold iR; omega)) hY_X2_size q2029 q2030 q90 q2031 (jcut 7 [0, 1, 2, 3, 4, 5, 6] (by decide) rfl rfl) ⟨by omega, by omega, by omega, by omega, by omega, by omega⟩ (Nat.le_of_ble_eq_true rfl) dX2_layAverage_159 rfl (fun v_ w_ hp => ?_)
                obtain ⟨r_159, h159_1, h159_2, rfl, rfl⟩ := hp
                subst h159_1
                show jJ X u 7 [[(y0, jO 1 [iI th, iI n, iI gr, iI pw, .ref aT, iI po, iI pr, iI ix, iI sd, iI gn, iI tk, iI ln, .ref aX, iI zs, iI zl, iI za, iI zf, iI ze, iI zi, .ref aR, .ref aM, .ref aG, .ref aN, .ref aQ, lI ls, lI wn, .ref aO, .ref aS, .ref aH, .ref aU, lI (rSc (n, gr, pw, of, tB tb, tF tb)), iI (clN n (rM (n, gr, pw, of, tB tb, tF tb))), .ref aW, lI a, lI 0, lI 0, iI bp, lI ba, lI bb, lI hh])], [(aT, cI u 24 tb)], [(aH, cJ u 4 he2)], [(aU, cJ u 4 ut2_2)], [(aO, cJ u 16 ro2_2)], [(aS, cJ u 4 ga2_2)], [(aW, cJ u 4 wt3)]] [(0, .ref y0), (1, iI of), (2, lI d), (4, lI s), (6, iI p)] 0 0 162 [iI (sLen of), lI (a * (rSc (n, gr, pw, of, tB tb, tF tb))), lI s, .ref y0]
                refine j_i2l G (by unfold iR at *; omega) dX2_layAverage_162 ?_
                refine j_lmul G dX2_layAverage_163 ?_
                refine j_callV (wr := [[(aT, cI u 24 tb)], [(aH, cJ u 4 he2)], [(aU, cJ u 4 ut2_2)], [(aO, cJ u 16 ro2_2)], [(aS, cJ u 4 ga2_2)], [(aW, cJ u 4 wt3)]]) (k' := 0) (n' := 0) G FX2 (c_X2_reduce l u y0 aT aX aR aM aG aN aQ aO aS aH aU aW th n gr pw po pr ix sd gn tk ln zs zl za zf ze zi (clN n (rM (n, gr, pw, of, tB tb, tF tb))) bp ls wn (rSc (n, gr, pw, of, tB tb, tF tb)) a 0 0 ba bb hh s ((a * (rSc (n, gr, pw, of, tB tb, tF tb))) * (sLen of)) (by unfold lR; omega) (by unfold lR; omega) hden.1) (jAt_1 0 rfl) ⟨rfl, hY_X2_reduce⟩ q2180 q2182 qs75 q90 q2183 (jcut 7 [0, 1, 2, 3, 4, 5, 6] (by decide) rfl rfl) ⟨by omega, by omega, by omega, by omega, by omega, by omega⟩ (Nat.le_of_ble_eq_true rfl) dX2_layAverage_164 rfl (fun v_ w_ hp => ?_)
                obtain ⟨rfl, rfl⟩ := hp
                show jJ X u 7 [[(y0, jO 1 [iI th, iI n, iI gr, iI pw, .ref aT, iI po, iI pr, iI ix, iI sd, iI gn, iI tk, iI ln, .ref aX, iI zs, iI zl, iI za, iI zf, iI ze, iI zi, .ref aR, .ref aM, .ref aG, .ref aN, .ref aQ, lI ls, lI wn, .ref aO, .ref aS, .ref aH, .ref aU, lI (rSc (n, gr, pw, of, tB tb, tF tb)), iI (clN n (rM (n, gr, pw, of, tB tb, tF tb))), .ref aW, lI a, lI ((fr s ((a * (rSc (n, gr, pw, of, tB tb, tF tb))) * (sLen of))).1), lI ((fr s ((a * (rSc (n, gr, pw, of, tB tb, tF tb))) * (sLen of))).2), iI bp, lI ba, lI bb, lI hh])], [(aT, cI u 24 tb)], [(aH, cJ u 4 he2)], [(aU, cJ u 4 ut2_2)], [(aO, cJ u 16 ro2_2)], [(aS, cJ u 4 ga2_2)], [(aW, cJ u 4 wt3)]] [(0, .ref y0), (1, iI of), (2, lI d), (4, lI s), (6, iI p)] 0 0 167 []
                exact j_vret G E (Or.inl ⟨he2, ut2_2, ro2_2, ga2_2, wt3, a, hcl, (fun x h0 h1 => by
                  have e1 := g10 x h0 (by omega)
                  rw [e1, g8]
                  exact ⟨vN_sh hc hcl x ⟨h0, h1⟩, (vN_eq hc hcl ⟨h0, h1⟩).2⟩), hal, rfl, (by rw [hav]; rfl)⟩) ⟨by omega, by omega⟩ dX2_layAverage_167
              · skip
                have hwR := wtN_R hc (p := p) ⟨by omega, by show p < n; omega⟩
                have hvd : (wtN (n, gr, pw, of, tB tb, tF tb) p).tdiv d = vN (n, gr, pw, of, tB tb, tF tb) p := by rw [g3]; rfl
                refine j_aload_n G 0 rfl dX2_layAverage_93 ?_
                refine j_get G FX2 (jAt_1 0 rfl) 32 (by decide) q1876 rfl dX2_layAverage_94 ?_
                refine j_iload G 4 rfl dX2_layAverage_97 ?_
                refine j_dup2 G rfl rfl dX2_layAverage_99 ?_
                refine j_laload G (jAt_1 6 rfl) (by (try unfold iR at *); omega) (by (try unfold iR at *); omega) (by (try unfold iR at *); omega) dX2_layAverage_100 ?_
                refine j_eq (st' := [lI (wtN (n, gr, pw, of, tB tb, tF tb) p), iI p, .ref aW]) (by rw [g11 p (by omega) (by omega)]) ?_
                refine j_lload_n G 2 rfl dX2_layAverage_101 ?_
                refine j_ldiv G (by unfold lR; omega) (by unfold lR; omega) (by (try unfold iR at *); omega) dX2_layAverage_102 ?_
                refine j_eq (st' := [lI (vN (n, gr, pw, of, tB tb, tF tb) p), iI p, .ref aW]) (by rw [hvd]) ?_
                refine j_lastore (ws' := [[(y0, jO 1 [iI th, iI n, iI gr, iI pw, .ref aT, iI po, iI pr, iI ix, iI sd, iI gn, iI tk, iI ln, .ref aX, iI zs, iI zl, iI za, iI zf, iI ze, iI zi, .ref aR, .ref aM, .ref aG, .ref aN, .ref aQ, lI ls, lI wn, .ref aO, .ref aS, .ref aH, .ref aU, lI (rSc (n, gr, pw, of, tB tb, tF tb)), iI (clN n (rM (n, gr, pw, of, tB tb, tF tb))), .ref aW, lI a, lI 0, lI 0, iI bp, lI ba, lI bb, lI hh])], [(aT, cI u 24 tb)], [(aH, cJ u 4 he2)], [(aU, cJ u 4 ut2_2)], [(aO, cJ u 16 ro2_2)], [(aS, cJ u 4 ga2_2)], [(aW, cJ u 4 (uZ wt3 p (vN (n, gr, pw, of, tB tb, tF tb) p)))]]) G (jAt_1 6 rfl) (by (try unfold iR at *); omega) (by (try unfold iR at *); omega) (by (try unfold iR at *); omega) dX2_layAverage_103 rfl ?_
                refine j_aload_n G 0 rfl dX2_layAverage_104 ?_
                refine j_dup G rfl dX2_layAverage_105 ?_
                refine j_get G FX2 (jAt_1 0 rfl) 33 (by decide) q1877 rfl dX2_layAverage_106 ?_
                refine j_aload_n G 0 rfl dX2_layAverage_109 ?_
                refine j_get G FX2 (jAt_1 0 rfl) 32 (by decide) q1876 rfl dX2_layAverage_110 ?_
                refine j_iload G 4 rfl dX2_layAverage_113 ?_
                refine j_laload G (jAt_1 6 rfl) (by (try unfold iR at *); omega) (by (try unfold iR at *); omega) (by (try unfold iR at *); omega) dX2_layAverage_115 ?_
                refine j_eq (st' := [lI (vN (n, gr, pw, of, tB tb, tF tb) p), lI a, .ref y0]) (by rw [uZ_s]) ?_
                refine j_ladd G dX2_layAverage_116 ?_
                refine j_put (ws' := [[(y0, jO 1 [iI th, iI n, iI gr, iI pw, .ref aT, iI po, iI pr, iI ix, iI sd, iI gn, iI tk, iI ln, .ref aX, iI zs, iI zl, iI za, iI zf, iI ze, iI zi, .ref aR, .ref aM, .ref aG, .ref aN, .ref aQ, lI ls, lI wn, .ref aO, .ref aS, .ref aH, .ref aU, lI (rSc (n, gr, pw, of, tB tb, tF tb)), iI (clN n (rM (n, gr, pw, of, tB tb, tF tb))), .ref aW, lI (a + (vN (n, gr, pw, of, tB tb, tF tb) p)), lI 0, lI 0, iI bp, lI ba, lI bb, lI hh])], [(aT, cI u 24 tb)], [(aH, cJ u 4 he2)], [(aU, cJ u 4 ut2_2)], [(aO, cJ u 16 ro2_2)], [(aS, cJ u 4 ga2_2)], [(aW, cJ u 4 (uZ wt3 p (vN (n, gr, pw, of, tB tb, tF tb) p)))]]) G FX2 (jAt_1 0 rfl) 33 (by decide) q1877 rfl rfl rfl (Nat.le_of_ble_eq_true rfl) dX2_layAverage_117 rfl ?_
                refine j_lload G 3 rfl dX2_layAverage_120 ?_
                refine j_aload_n G 0 rfl dX2_layAverage_122 ?_
                refine j_get G FX2 (jAt_1 0 rfl) 32 (by decide) q1876 rfl dX2_layAverage_123 ?_
                refine j_iload G 4 rfl dX2_layAverage_126 ?_
                refine j_laload G (jAt_1 6 rfl) (by (try unfold iR at *); omega) (by (try unfold iR at *); omega) (by (try unfold iR at *); omega) dX2_layAverage_128 ?_
                refine j_eq (st' := [lI (vN (n, gr, pw, of, tB tb, tF tb) p), lI s]) (by rw [uZ_s]) ?_
                refine j_aload_n G 0 rfl dX2_layAverage_129 ?_
                refine j_get G FX2 (jAt_1 0 rfl) 27 (by decide) q1871 rfl dX2_layAverage_130 ?_
                refine j_iload G 4 rfl dX2_layAverage_133 ?_
                refine j_laload G (jAt_1 5 rfl) (by (try unfold iR at *); omega) (by (try unfold iR at *); omega) (by (try unfold iR at *); omega) dX2_layAverage_135 ?_
                refine j_eq (st' := [lI (rGa (n, gr, pw, of, tB tb, tF tb) p), lI (vN (n, gr, pw, of, tB tb, tF tb) p), lI s]) (by rw [h2_2 p (by omega) (by omega)]) ?_
                refine j_lmul G dX2_layAverage_136 ?_
                refine j_ladd G dX2_layAverage_137 ?_
                refine j_lstore G [(4, lI (s + ((vN (n, gr, pw, of, tB tb, tF tb) p) * (rGa (n, gr, pw, of, tB tb, tF tb) p)))), (0, .ref y0), (1, iI of), (2, lI d), (6, iI p)] rfl (by decide) dX2_layAverage_138 ?_
                refine j_iinc G 4 rfl [(6, iI (p + 1)), (4, lI (s + ((vN (n, gr, pw, of, tB tb, tF tb) p) * (rGa (n, gr, pw, of, tB tb, tF tb) p)))), (0, .ref y0), (1, iI of), (2, lI d)] rfl (by decide) dX2_layAverage_140 ?_
                refine j_goto 84 G dX2_layAverage_143 (by decide) ?_
                refine j_lv [2, 3, 4, 1, 0] rfl ?_
                exact ih_L84 (i + 1) (p + 1) (s + ((vN (n, gr, pw, of, tB tb, tF tb) p) * (rGa (n, gr, pw, of, tB tb, tF tb) p))) (a + (vN (n, gr, pw, of, tB tb, tF tb) p)) (uZ wt3 p (vN (n, gr, pw, of, tB tb, tF tb) p)) (by (try unfold iR at *); omega) (by (try unfold iR at *); omega) (by rw [g8, g7]; rfl) (by rw [g9, g7]; rfl) (fun x h0 h1 => by
                  by_cases e : x = p
                  · subst e
                    exact uZ_s _ _ _
                  · rw [uZ_n _ _ e]
                    exact g10 x h0 (by omega)) (fun x h0 h1 => by rw [uZ_n _ _ (by omega)]; exact g11 x (by omega) h1) (by (try unfold iR at *); omega)
          refine j_lv [2, 3, 4, 1, 0] rfl ?_
          exact L84 5 0 0 0 0 wt1 (by omega) rfl rfl rfl (fun x h0 h1 => absurd h1 (by omega)) (fun x h0 h1 => g4 x (by omega) (by omega)) (by omega)
        · skip
          have hwm : mnr n (rM (n, gr, pw, of, tB tb, tF tb)) (rSc (n, gr, pw, of, tB tb, tF tb)) p = wtN (n, gr, pw, of, tB tb, tF tb) p := wtN_mn hc (p := p) ⟨by omega, by show p < n; omega⟩
          have hwR := wtN_R hc (p := p) ⟨by omega, by show p < n; omega⟩
          refine j_aload_n G 0 rfl dX2_layAverage_42 ?_
          refine j_get G FX2 (jAt_1 0 rfl) 32 (by decide) q1876 rfl dX2_layAverage_43 ?_
          refine j_iload G 3 rfl dX2_layAverage_46 ?_
          refine j_aload_n G 0 rfl dX2_layAverage_48 ?_
          refine j_iload G 3 rfl dX2_layAverage_49 ?_
          refine j_callV (wr := [[(aT, cI u 24 tb)], [(aH, cJ u 4 he2)], [(aU, cJ u 4 ut2_2)], [(aS, cJ u 4 ga2_2)], [(aW, cJ u 4 wt1)]]) (k' := 0) (n' := 0) G FX2 (c_X2_minor l u y0 aT aX aR aM aG aN aQ aO aS aH aU aW th n gr pw po pr ix sd gn tk ln zs zl za zf ze zi (clN n (rM (n, gr, pw, of, tB tb, tF tb))) bp ls wn (rSc (n, gr, pw, of, tB tb, tF tb)) al 0 0 ba bb hh ro2_2 (rM (n, gr, pw, of, tB tb, tF tb)) p hn h2_1 (by omega)) (jAt_1 0 rfl) ⟨rfl, hY_X2_minor⟩ q2169 q2171 qs73 q90 q2172 (jcut 7 [0, 4, 1, 2, 3, 5, 6] (by decide) rfl rfl) ⟨by omega, by omega, by omega, by omega, by omega, by omega⟩ (Nat.le_of_ble_eq_true rfl) dX2_layAverage_51 rfl (fun v_ w_ hp => ?_)
          obtain ⟨rfl, rfl⟩ := hp
          show jJ X u 7 [[(y0, jO 1 [iI th, iI n, iI gr, iI pw, .ref aT, iI po, iI pr, iI ix, iI sd, iI gn, iI tk, iI ln, .ref aX, iI zs, iI zl, iI za, iI zf, iI ze, iI zi, .ref aR, .ref aM, .ref aG, .ref aN, .ref aQ, lI ls, lI wn, .ref aO, .ref aS, .ref aH, .ref aU, lI (rSc (n, gr, pw, of, tB tb, tF tb)), iI (clN n (rM (n, gr, pw, of, tB tb, tF tb))), .ref aW, lI al, lI 0, lI 0, iI bp, lI ba, lI bb, lI hh])], [(aO, cJ u 16 ro2_2)], [(aT, cI u 24 tb)], [(aH, cJ u 4 he2)], [(aU, cJ u 4 ut2_2)], [(aS, cJ u 4 ga2_2)], [(aW, cJ u 4 wt1)]] [(0, .ref y0), (1, iI of), (2, lI d), (4, iI p)] 0 0 54 [lI (mnr n (rM (n, gr, pw, of, tB tb, tF tb)) (rSc (n, gr, pw, of, tB tb, tF tb)) p), iI p, .ref aW]
          refine j_lastore (ws' := [[(y0, jO 1 [iI th, iI n, iI gr, iI pw, .ref aT, iI po, iI pr, iI ix, iI sd, iI gn, iI tk, iI ln, .ref aX, iI zs, iI zl, iI za, iI zf, iI ze, iI zi, .ref aR, .ref aM, .ref aG, .ref aN, .ref aQ, lI ls, lI wn, .ref aO, .ref aS, .ref aH, .ref aU, lI (rSc (n, gr, pw, of, tB tb, tF tb)), iI (clN n (rM (n, gr, pw, of, tB tb, tF tb))), .ref aW, lI al, lI 0, lI 0, iI bp, lI ba, lI bb, lI hh])], [(aO, cJ u 16 ro2_2)], [(aT, cI u 24 tb)], [(aH, cJ u 4 he2)], [(aU, cJ u 4 ut2_2)], [(aS, cJ u 4 ga2_2)], [(aW, cJ u 4 (uZ wt1 p (mnr n (rM (n, gr, pw, of, tB tb, tF tb)) (rSc (n, gr, pw, of, tB tb, tF tb)) p)))]]) G (jAt_1 6 rfl) (by (try unfold iR at *); omega) (by (try unfold iR at *); omega) (by (try unfold iR at *); omega) dX2_layAverage_54 rfl ?_
          refine j_aload_n G 0 rfl dX2_layAverage_55 ?_
          refine j_get G FX2 (jAt_1 0 rfl) 32 (by decide) q1876 rfl dX2_layAverage_56 ?_
          refine j_iload G 3 rfl dX2_layAverage_59 ?_
          refine j_laload G (jAt_1 6 rfl) (by (try unfold iR at *); omega) (by (try unfold iR at *); omega) (by (try unfold iR at *); omega) dX2_layAverage_61 ?_
          refine j_eq (st' := [lI (wtN (n, gr, pw, of, tB tb, tF tb) p)]) (by rw [uZ_s, hwm]) ?_
          refine j_lload_n G 2 rfl dX2_layAverage_62 ?_
          refine j_callS (wr := [[(y0, jO 1 [iI th, iI n, iI gr, iI pw, .ref aT, iI po, iI pr, iI ix, iI sd, iI gn, iI tk, iI ln, .ref aX, iI zs, iI zl, iI za, iI zf, iI ze, iI zi, .ref aR, .ref aM, .ref aG, .ref aN, .ref aQ, lI ls, lI wn, .ref aO, .ref aS, .ref aH, .ref aU, lI (rSc (n, gr, pw, of, tB tb, tF tb)), iI (clN n (rM (n, gr, pw, of, tB tb, tF tb))), .ref aW, lI al, lI 0, lI 0, iI bp, lI ba, lI bb, lI hh])], [(aO, cJ u 16 ro2_2)], [(aT, cI u 24 tb)], [(aH, cJ u 4 he2)], [(aU, cJ u 4 ut2_2)], [(aS, cJ u 4 ga2_2)], [(aW, cJ u 4 (uZ wt1 p (mnr n (rM (n, gr, pw, of, tB tb, tF tb)) (rSc (n, gr, pw, of, tB tb, tF tb)) p)))]]) (k' := 0) (n' := 0) G (c_X2_common l u (wtN (n, gr, pw, of, tB tb, tF tb) p) d (by unfold lR; omega) (by unfold lR; omega) (by omega)) hY_X2_common q2177 q2178 q90 q2179 (jcut 7 [0, 1, 2, 3, 4, 5, 6] (by decide) rfl rfl) ⟨by omega, by omega, by omega, by omega, by omega, by omega⟩ (Nat.le_of_ble_eq_true rfl) dX2_layAverage_63 rfl (fun v_ w_ hp => ?_)
          obtain ⟨rfl, rfl⟩ := hp
          show jJ X u 7 [[(y0, jO 1 [iI th, iI n, iI gr, iI pw, .ref aT, iI po, iI pr, iI ix, iI sd, iI gn, iI tk, iI ln, .ref aX, iI zs, iI zl, iI za, iI zf, iI ze, iI zi, .ref aR, .ref aM, .ref aG, .ref aN, .ref aQ, lI ls, lI wn, .ref aO, .ref aS, .ref aH, .ref aU, lI (rSc (n, gr, pw, of, tB tb, tF tb)), iI (clN n (rM (n, gr, pw, of, tB tb, tF tb))), .ref aW, lI al, lI 0, lI 0, iI bp, lI ba, lI bb, lI hh])], [(aO, cJ u 16 ro2_2)], [(aT, cI u 24 tb)], [(aH, cJ u 4 he2)], [(aU, cJ u 4 ut2_2)], [(aS, cJ u 4 ga2_2)], [(aW, cJ u 4 (uZ wt1 p (mnr n (rM (n, gr, pw, of, tB tb, tF tb)) (rSc (n, gr, pw, of, tB tb, tF tb)) p)))]] [(0, .ref y0), (1, iI of), (2, lI d), (4, iI p)] 0 0 66 [lI (gcI (wtN (n, gr, pw, of, tB tb, tF tb) p) d)]
          refine j_lstore_n G [(2, lI (gcI (wtN (n, gr, pw, of, tB tb, tF tb) p) d)), (0, .ref y0), (1, iI of), (4, iI p)] rfl (by decide) dX2_layAverage_66 ?_
          refine j_iinc G 3 rfl [(4, iI (p + 1)), (2, lI (gcI (wtN (n, gr, pw, of, tB tb, tF tb) p) d)), (0, .ref y0), (1, iI of)] rfl (by decide) dX2_layAverage_67 ?_
          refine j_goto 33 G dX2_layAverage_70 (by decide) ?_
          refine j_lv [2, 3, 1, 0] rfl ?_
          refine j_ws (ws' := [[(y0, jO 1 [iI th, iI n, iI gr, iI pw, .ref aT, iI po, iI pr, iI ix, iI sd, iI gn, iI tk, iI ln, .ref aX, iI zs, iI zl, iI za, iI zf, iI ze, iI zi, .ref aR, .ref aM, .ref aG, .ref aN, .ref aQ, lI ls, lI wn, .ref aO, .ref aS, .ref aH, .ref aU, lI (rSc (n, gr, pw, of, tB tb, tF tb)), iI (clN n (rM (n, gr, pw, of, tB tb, tF tb))), .ref aW, lI al, lI 0, lI 0, iI bp, lI ba, lI bb, lI hh])], [(aT, cI u 24 tb)], [(aH, cJ u 4 he2)], [(aU, cJ u 4 ut2_2)], [(aO, cJ u 16 ro2_2)], [(aS, cJ u 4 ga2_2)], [(aW, cJ u 4 (uZ wt1 p (mnr n (rM (n, gr, pw, of, tB tb, tF tb)) (rSc (n, gr, pw, of, tB tb, tF tb)) p)))]]) (jperm 7 [0, 2, 3, 4, 1, 5, 6] (by decide) rfl rfl) ?_
          exact ih_L33 (j + 1) (p + 1) (gcI (wtN (n, gr, pw, of, tB tb, tF tb) p) d) (uZ wt1 p (mnr n (rM (n, gr, pw, of, tB tb, tF tb)) (rSc (n, gr, pw, of, tB tb, tF tb)) p)) (by (try unfold iR at *); omega) (by (try unfold iR at *); omega) (by rw [g3, g2]; rfl) (fun x h0 h1 => by
            by_cases e : x = p
            · subst e
              rw [uZ_s, hwm]
            · rw [uZ_n _ _ e]
              exact g4 x h0 (by omega)) (by (try unfold iR at *); omega)
    refine j_lv [2, 3, 1, 0] rfl ?_
    refine j_ws (ws' := [[(y0, jO 1 [iI th, iI n, iI gr, iI pw, .ref aT, iI po, iI pr, iI ix, iI sd, iI gn, iI tk, iI ln, .ref aX, iI zs, iI zl, iI za, iI zf, iI ze, iI zi, .ref aR, .ref aM, .ref aG, .ref aN, .ref aQ, lI ls, lI wn, .ref aO, .ref aS, .ref aH, .ref aU, lI (rSc (n, gr, pw, of, tB tb, tF tb)), iI (clN n (rM (n, gr, pw, of, tB tb, tF tb))), .ref aW, lI al, lI 0, lI 0, iI bp, lI ba, lI bb, lI hh])], [(aT, cI u 24 tb)], [(aH, cJ u 4 he2)], [(aU, cJ u 4 ut2_2)], [(aO, cJ u 16 ro2_2)], [(aS, cJ u 4 ga2_2)], [(aW, cJ u 4 wt)]]) (jperm 7 [0, 2, 3, 4, 1, 5, 6] (by decide) rfl rfl) ?_
    exact L33 5 0 0 0 wt (by omega) rfl rfl (fun x h0 h1 => absurd h1 (by omega)) (by omega)
  · skip
    refine j_ws (ws' := [[(y0, jO 1 [iI th, iI n, iI gr, iI pw, .ref aT, iI po, iI pr, iI ix, iI sd, iI gn, iI tk, iI ln, .ref aX, iI zs, iI zl, iI za, iI zf, iI ze, iI zi, .ref aR, .ref aM, .ref aG, .ref aN, .ref aQ, lI ls, lI wn, .ref aO, .ref aS, .ref aH, .ref aU, lI (rSc (n, gr, pw, of, tB tb, tF tb)), iI (clN n (rM (n, gr, pw, of, tB tb, tF tb))), .ref aW, lI al, lI 0, lI 0, iI bp, lI ba, lI bb, lI hh])], [(aT, cI u 24 tb)], [(aH, cJ u 4 he2)], [(aU, cJ u 4 ut2_2)], [(aO, cJ u 16 ro2_2)], [(aS, cJ u 4 ga2_2)], [(aW, cJ u 4 wt)]]) (jperm 7 [0, 2, 3, 4, 1, 5, 6] (by decide) rfl rfl) ?_
    exact j_vret G E (Or.inr ⟨he2, ut2_2, ro2_2, ga2_2, wt, (by omega), rfl, rfl⟩) ⟨by omega, by omega⟩ dX2_layAverage_27
