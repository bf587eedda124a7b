theorem hY_X2_layRound : jY yX2_layRound 1 := ⟨by decide +kernel, by decide +kernel, by decide +kernel⟩
set_option maxHeartbeats 4000000 in
set_option maxRecDepth 100000 in
theorem c_X2_layRound (l : Launch) (u : jU) (y0 aT aX aR aM aG aN aQ aO aS aH aU aW : Nat) (th n gr pw po pr ix sd gn tk ln zs zl za zf ze zi zc bp ls wn sc al nr dr ba bb hh : Int) (tb : Int → Int) (h : Int → Int) (ut : Int → Int) (ro : Int → Int) (ga : Int → Int) (of : Int) (hn : 2 ≤ n ∧ n ≤ 4) (hg : 0 ≤ gr ∧ gr ≤ 7) (hw : 0 ≤ pw ∧ pw ≤ 15) (hT : wT (tB tb) (tF tb)) (hof : sProg of = 1) : jC l u yX2_layRound cX2_layRound 5 none 3 69 0 0 [.ref y0, iI of] [[(y0, jO 1 [iI th, iI n, iI gr, iI pw, .ref aT, iI po, iI pr, iI ix, iI sd, iI gn, iI tk, iI ln, .ref aX, iI zs, iI zl, iI za, iI zf, iI ze, iI zi, .ref aR, .ref aM, .ref aG, .ref aN, .ref aQ, lI ls, lI wn, .ref aO, .ref aS, .ref aH, .ref aU, lI sc, iI zc, .ref aW, lI al, lI nr, lI dr, iI bp, lI ba, lI bb, lI hh])], [(aT, cI u 24 tb)], [(aH, cJ u 4 h)], [(aU, cJ u 4 ut)], [(aO, cJ u 16 ro)], [(aS, cJ u 4 ga)]] (fun v_ w_ => ∃ (h2 ut2 ro2 ga2 : Int → Int), (∀ a b : Int, 0 ≤ a → a < n → 0 ≤ b → b < 4 → ro2 (4 * a + b) = rM (n, gr, pw, of, tB tb, tF tb) a b) ∧ (∀ a : Int, 0 ≤ a → a < n → ga2 a = rGa (n, gr, pw, of, tB tb, tF tb) a) ∧ v_ = none ∧ w_ = [[(y0, jO 1 [iI th, iI n, iI gr, iI pw, .ref aT, iI po, iI pr, iI ix, iI sd, iI gn, iI tk, iI ln, .ref aX, iI zs, iI zl, iI za, iI zf, iI ze, iI zi, .ref aR, .ref aM, .ref aG, .ref aN, .ref aQ, lI ls, lI wn, .ref aO, .ref aS, .ref aH, .ref aU, lI (rSc (n, gr, pw, of, tB tb, tF tb)), iI zc, .ref aW, lI al, lI nr, lI dr, iI bp, lI ba, lI bb, lI hh])], [(aT, cI u 24 tb)], [(aH, cJ u 4 h2)], [(aU, cJ u 4 ut2)], [(aO, cJ u 16 ro2)], [(aS, cJ u 4 ga2)]]) := by
  refine jC.of "FlashRatchetModel" (by decide +kernel) rfl (Nat.le_of_ble_eq_true rfl) [(0, .ref y0), (1, iI of)] rfl (fun X G E I => ?_)
  have hpi := sProg_in hof
  have hpl := sLen_prog hof
  have hln : rLn (n, gr, pw, of, tB tb, tF tb) = (sLen of).toNat := rfl
  refine j_iload_n G 1 rfl dX2_layRound_0 ?_
  refine j_callS (wr := [[(y0, jO 1 [iI th, iI n, iI gr, iI pw, .ref aT, iI po, iI pr, iI ix, iI sd, iI gn, iI tk, iI ln, .ref aX, iI zs, iI zl, iI za, iI zf, iI ze, iI zi, .ref aR, .ref aM, .ref aG, .ref aN, .ref aQ, lI ls, lI wn, .ref aO, .ref aS, .ref aH, .ref aU, lI sc, iI zc, .ref aW, lI al, lI nr, lI dr, iI bp, lI ba, lI bb, lI hh])], [(aT, cI u 24 tb)], [(aH, cJ u 4 h)], [(aU, cJ u 4 ut)], [(aO, cJ u 16 ro)], [(aS, cJ u 4 ga)]]) (k' := 0) (n' := 0) G (c_X2_size l u of (by unfold iR; omega)) hY_X2_size q2029 q2030 q90 q2031 (jcut 6 [0, 1, 2, 3, 4, 5] (by decide) rfl rfl) ⟨by omega, by omega, by omega, by omega, by omega, by omega⟩ (Nat.le_of_ble_eq_true rfl) dX2_layRound_1 rfl (fun v_ w_ hp => ?_)
  obtain ⟨r_1, h1_1, h1_2, rfl, rfl⟩ := hp
  subst h1_1
  show jJ X u 5 [[(y0, jO 1 [iI th, iI n, iI gr, iI pw, .ref aT, iI po, iI pr, iI ix, iI sd, iI gn, iI tk, iI ln, .ref aX, iI zs, iI zl, iI za, iI zf, iI ze, iI zi, .ref aR, .ref aM, .ref aG, .ref aN, .ref aQ, lI ls, lI wn, .ref aO, .ref aS, .ref aH, .ref aU, lI sc, iI zc, .ref aW, lI al, lI nr, lI dr, iI bp, lI ba, lI bb, lI hh])], [(aT, cI u 24 tb)], [(aH, cJ u 4 h)], [(aU, cJ u 4 ut)], [(aO, cJ u 16 ro)], [(aS, cJ u 4 ga)]] [(0, .ref y0), (1, iI of)] 0 0 4 [iI (sLen of)]
  refine j_istore_n G [(2, iI (sLen of)), (0, .ref y0), (1, iI of)] rfl (by decide) dX2_layRound_4 ?_
  refine j_aload_n G 1 rfl dX2_layRound_5 ?_
  refine j_lconst 1 G rfl dX2_layRound_6 ?_
  refine j_put (ws' := [[(y0, jO 1 [iI th, iI n, iI gr, iI pw, .ref aT, iI po, iI pr, iI ix, iI sd, iI gn, iI tk, iI ln, .ref aX, iI zs, iI zl, iI za, iI zf, iI ze, iI zi, .ref aR, .ref aM, .ref aG, .ref aN, .ref aQ, lI ls, lI wn, .ref aO, .ref aS, .ref aH, .ref aU, lI 1, iI zc, .ref aW, lI al, lI nr, lI dr, iI bp, lI ba, lI bb, lI hh])], [(aT, cI u 24 tb)], [(aH, cJ u 4 h)], [(aU, cJ u 4 ut)], [(aO, cJ u 16 ro)], [(aS, cJ u 4 ga)]]) G FX2 (jAt_1 0 rfl) 30 (by decide) q1874 rfl rfl rfl (Nat.le_of_ble_eq_true rfl) dX2_layRound_7 rfl ?_
  refine j_iconst G dX2_layRound_10 ?_
  refine j_istore_n G [(3, iI 0), (2, iI (sLen of)), (0, .ref y0), (1, iI of)] rfl (by decide) dX2_layRound_11 ?_
  have L12 : ∀ (m : Nat) (j : Nat) (k : Int) (scb : Int), 4 - j < m → k = j → scb = 10 ^ j → (j : Int) ≤ sLen of → jJ X u 5 [[(y0, jO 1 [iI th, iI n, iI gr, iI pw, .ref aT, iI po, iI pr, iI ix, iI sd, iI gn, iI tk, iI ln, .ref aX, iI zs, iI zl, iI za, iI zf, iI ze, iI zi, .ref aR, .ref aM, .ref aG, .ref aN, .ref aQ, lI ls, lI wn, .ref aO, .ref aS, .ref aH, .ref aU, lI scb, iI zc, .ref aW, lI al, lI nr, lI dr, iI bp, lI ba, lI bb, lI hh])], [(aT, cI u 24 tb)], [(aH, cJ u 4 h)], [(aU, cJ u 4 ut)], [(aO, cJ u 16 ro)], [(aS, cJ u 4 ga)]] [(0, .ref y0), (1, iI of), (2, iI (sLen of)), (3, iI k)] 0 0 12 [] := by
    intro m
    induction m with
    | zero =>
      intro j k scb g1 g2 g3 g4
      exfalso
      omega
    | succ m ih_L12 =>
      intro j k scb g1 g2 g3 g4
      refine j_iload_n G 3 rfl dX2_layRound_12 ?_
      refine j_iload_n G 2 rfl dX2_layRound_13 ?_
      refine j_icmp_ge 35 G (by unfold iR at *; omega) (by unfold iR at *; omega) dX2_layRound_14 (by decide) (fun c_14 => ?_) (fun c_14 => ?_)
      · skip
        have hj : j = (sLen of).toNat := by omega
        subst hj
        refine j_iconst G dX2_layRound_35 ?_
        refine j_istore_n G [(3, iI 0), (0, .ref y0), (1, iI of), (2, iI (sLen of))] rfl (by decide) dX2_layRound_36 ?_
        have L37 : ∀ (m : Nat) (i : Nat) (a : Int) (h1 : Int → Int) (ut1 : Int → Int) (ro1 : Int → Int) (ga1 : Int → Int), 4 - i < m → a = i → (i : Int) ≤ n → (∀ a' b : Int, 0 ≤ a' → a' < a → 0 ≤ b → b < 4 → ro1 (4 * a' + b) = rM (n, gr, pw, of, tB tb, tF tb) a' b) → (∀ a' : Int, 0 ≤ a' → a' < a → ga1 a' = rGa (n, gr, pw, of, tB tb, tF tb) a') → jJ X u 5 [[(y0, jO 1 [iI th, iI n, iI gr, iI pw, .ref aT, iI po, iI pr, iI ix, iI sd, iI gn, iI tk, iI ln, .ref aX, iI zs, iI zl, iI za, iI zf, iI ze, iI zi, .ref aR, .ref aM, .ref aG, .ref aN, .ref aQ, lI ls, lI wn, .ref aO, .ref aS, .ref aH, .ref aU, lI scb, iI zc, .ref aW, lI al, lI nr, lI dr, iI bp, lI ba, lI bb, lI hh])], [(aT, cI u 24 tb)], [(aH, cJ u 4 h1)], [(aU, cJ u 4 ut1)], [(aO, cJ u 16 ro1)], [(aS, cJ u 4 ga1)]] [(0, .ref y0), (1, iI of), (2, iI (sLen of)), (3, iI a)] 0 0 37 [] := by
          intro m
          induction m with
          | zero =>
            intro i a h1 ut1 ro1 ga1 g5 g6 g7 g8 g9
            exfalso
            omega
          | succ m ih_L37 =>
            intro i a h1 ut1 ro1 ga1 g5 g6 g7 g8 g9
            refine j_iload_n G 3 rfl dX2_layRound_37 ?_
            refine j_aload_n G 0 rfl dX2_layRound_38 ?_
            refine j_get G FX2 (jAt_1 0 rfl) 1 (by decide) q1845 rfl dX2_layRound_39 ?_
            refine j_icmp_ge 166 G (by unfold iR at *; omega) (by unfold iR at *; omega) dX2_layRound_42 (by decide) (fun c_42 => ?_) (fun c_42 => ?_)
            · skip
              have hi : n = a := by omega
              subst hi
              exact j_vret G E ⟨h1, ut1, ro1, ga1, g8, g9, rfl, (by rw [g3]; rfl)⟩ ⟨by omega, by omega⟩ dX2_layRound_166
            · skip
              refine j_aload_n G 0 rfl dX2_layRound_45 ?_
              refine j_get G FX2 (jAt_1 0 rfl) 27 (by decide) q1871 rfl dX2_layRound_46 ?_
              refine j_iload_n G 3 rfl dX2_layRound_49 ?_
              refine j_lconst 0 G rfl dX2_layRound_50 ?_
              refine j_lastore (ws' := [[(y0, jO 1 [iI th, iI n, iI gr, iI pw, .ref aT, iI po, iI pr, iI ix, iI sd, iI gn, iI tk, iI ln, .ref aX, iI zs, iI zl, iI za, iI zf, iI ze, iI zi, .ref aR, .ref aM, .ref aG, .ref aN, .ref aQ, lI ls, lI wn, .ref aO, .ref aS, .ref aH, .ref aU, lI scb, iI zc, .ref aW, lI al, lI nr, lI dr, iI bp, lI ba, lI bb, lI hh])], [(aT, cI u 24 tb)], [(aH, cJ u 4 h1)], [(aU, cJ u 4 ut1)], [(aO, cJ u 16 ro1)], [(aS, cJ u 4 (uZ ga1 a 0))]]) G (jAt_1 5 rfl) (by (try unfold iR at *); omega) (by (try unfold iR at *); omega) (by (try unfold iR at *); omega) dX2_layRound_51 rfl ?_
              refine j_iconst G dX2_layRound_52 ?_
              refine j_istore G [(4, iI 0), (0, .ref y0), (1, iI of), (2, iI (sLen of)), (3, iI a)] rfl (by decide) dX2_layRound_53 ?_
              have L55 : ∀ (m : Nat) (p : Nat) (q : Int) (h3 : Int → Int), 4 - p < m → q = p → (∀ x : Int, 0 ≤ x → x < q → h3 x = if x = a then 1 else 0) → p ≤ 4 → jJ X u 5 [[(y0, jO 1 [iI th, iI n, iI gr, iI pw, .ref aT, iI po, iI pr, iI ix, iI sd, iI gn, iI tk, iI ln, .ref aX, iI zs, iI zl, iI za, iI zf, iI ze, iI zi, .ref aR, .ref aM, .ref aG, .ref aN, .ref aQ, lI ls, lI wn, .ref aO, .ref aS, .ref aH, .ref aU, lI scb, iI zc, .ref aW, lI al, lI nr, lI dr, iI bp, lI ba, lI bb, lI hh])], [(aT, cI u 24 tb)], [(aH, cJ u 4 h3)], [(aU, cJ u 4 ut1)], [(aO, cJ u 16 ro1)], [(aS, cJ u 4 (uZ ga1 a 0))]] [(0, .ref y0), (1, iI of), (2, iI (sLen of)), (3, iI a), (4, iI q)] 0 0 55 [] := by
                intro m
                induction m with
                | zero =>
                  intro p q h3 g10 g11 g12 g13
                  exfalso
                  omega
                | succ m ih_L55 =>
                  intro p q h3 g10 g11 g12 g13
                  refine j_iload G 4 rfl dX2_layRound_55 ?_
                  refine j_iconst G dX2_layRound_57 ?_
                  refine j_icmp_ge 85 G (by unfold iR at *; omega) (by unfold iR; omega) dX2_layRound_58 (by decide) (fun c_58 => ?_) (fun c_58 => ?_)
                  · skip
                    refine j_iconst G dX2_layRound_85 ?_
                    refine j_istore G [(4, iI 0), (0, .ref y0), (1, iI of), (2, iI (sLen of)), (3, iI a)] rfl (by decide) dX2_layRound_86 ?_
                    have L88 : ∀ (m : Nat) (j4 : Nat) (k4 : Int) (h4 : Int → Int) (ut4 : Int → Int) (ga4 : Int → Int), 4 - j4 < m → k4 = j4 → eqN 4 h4 (rwK (n, gr, pw, of, tB tb, tF tb) a j4) → ga4 a = rwH (n, gr, pw, of, tB tb, tF tb) a j4 → (∀ a' : Int, 0 ≤ a' → a' < a → ga4 a' = rGa (n, gr, pw, of, tB tb, tF tb) a') → (j4 : Int) ≤ sLen of → jJ X u 5 [[(y0, jO 1 [iI th, iI n, iI gr, iI pw, .ref aT, iI po, iI pr, iI ix, iI sd, iI gn, iI tk, iI ln, .ref aX, iI zs, iI zl, iI za, iI zf, iI ze, iI zi, .ref aR, .ref aM, .ref aG, .ref aN, .ref aQ, lI ls, lI wn, .ref aO, .ref aS, .ref aH, .ref aU, lI scb, iI zc, .ref aW, lI al, lI nr, lI dr, iI bp, lI ba, lI bb, lI hh])], [(aT, cI u 24 tb)], [(aH, cJ u 4 h4)], [(aU, cJ u 4 ut4)], [(aO, cJ u 16 ro1)], [(aS, cJ u 4 ga4)]] [(0, .ref y0), (1, iI of), (2, iI (sLen of)), (3, iI a), (4, iI k4)] 0 0 88 [] := by
                      intro m
                      induction m with
                      | zero =>
                        intro j4 k4 h4 ut4 ga4 g14 g18 g15 g16 g17 g19
                        exfalso
                        omega
                      | succ m ih_L88 =>
                        intro j4 k4 h4 ut4 ga4 g14 g18 g15 g16 g17 g19
                        refine j_iload G 4 rfl dX2_layRound_88 ?_
                        refine j_iload_n G 2 rfl dX2_layRound_90 ?_
                        refine j_icmp_ge 127 G (by unfold iR at *; omega) (by unfold iR at *; omega) dX2_layRound_91 (by decide) (fun c_91 => ?_) (fun c_91 => ?_)
                        · skip
                          have hj4 : j4 = (sLen of).toNat := by omega
                          refine j_iconst G dX2_layRound_127 ?_
                          refine j_istore G [(4, iI 0), (0, .ref y0), (1, iI of), (2, iI (sLen of)), (3, iI a)] rfl (by decide) dX2_layRound_128 ?_
                          have L130 : ∀ (m : Nat) (p5 : Nat) (q : Int) (ro5 : Int → Int), 4 - p5 < m → q = p5 → (∀ b : Int, 0 ≤ b → b < q → ro5 (4 * a + b) = h4 b) → (∀ a' b : Int, 0 ≤ a' → a' < a → 0 ≤ b → b < 4 → ro5 (4 * a' + b) = rM (n, gr, pw, of, tB tb, tF tb) a' b) → p5 ≤ 4 → jJ X u 5 [[(y0, jO 1 [iI th, iI n, iI gr, iI pw, .ref aT, iI po, iI pr, iI ix, iI sd, iI gn, iI tk, iI ln, .ref aX, iI zs, iI zl, iI za, iI zf, iI ze, iI zi, .ref aR, .ref aM, .ref aG, .ref aN, .ref aQ, lI ls, lI wn, .ref aO, .ref aS, .ref aH, .ref aU, lI scb, iI zc, .ref aW, lI al, lI nr, lI dr, iI bp, lI ba, lI bb, lI hh])], [(aT, cI u 24 tb)], [(aH, cJ u 4 h4)], [(aU, cJ u 4 ut4)], [(aO, cJ u 16 ro5)], [(aS, cJ u 4 ga4)]] [(0, .ref y0), (1, iI of), (2, iI (sLen of)), (3, iI a), (4, iI q)] 0 0 130 [] := by
                            intro m
                            induction m with
                            | zero =>
                              intro p5 q ro5 g22 g23 g20 g21 g24
                              exfalso
                              omega
                            | succ m ih_L130 =>
                              intro p5 q ro5 g22 g23 g20 g21 g24
                              refine j_iload G 4 rfl dX2_layRound_130 ?_
                              refine j_iconst G dX2_layRound_132 ?_
                              refine j_icmp_ge 160 G (by unfold iR at *; omega) (by unfold iR; omega) dX2_layRound_133 (by decide) (fun c_133 => ?_) (fun c_133 => ?_)
                              · skip
                                refine j_iinc G 3 rfl [(3, iI (a + 1)), (0, .ref y0), (1, iI of), (2, iI (sLen of)), (4, iI q)] rfl (by decide) dX2_layRound_160 ?_
                                refine j_goto 37 G dX2_layRound_163 (by decide) ?_
                                refine j_lv [1, 2, 3, 0] rfl ?_
                                exact ih_L37 (i + 1) (a + 1) h4 ut4 ro5 ga4 (by (try unfold iR at *); omega) (by (try unfold iR at *); omega) (by (try unfold iR at *); omega) (fun a' b h0 h1 h2 h3 => by
                                  by_cases e : a' = a
                                  · subst e
                                    rw [g20 b h2 (by omega), g15 b h2 h3, hj4]
                                    rfl
                                  · exact g21 a' b h0 (by omega) h2 h3) (fun a' h0 h1 => by
                                  by_cases e : a' = a
                                  · subst e
                                    rw [g16, hj4]
                                    rfl
                                  · exact g17 a' h0 (by omega))
                              · skip
                                refine j_aload_n G 0 rfl dX2_layRound_136 ?_
                                refine j_get G FX2 (jAt_1 0 rfl) 26 (by decide) q1870 rfl dX2_layRound_137 ?_
                                refine j_iconst G dX2_layRound_140 ?_
                                refine j_iload_n G 3 rfl dX2_layRound_141 ?_
                                refine j_imul G dX2_layRound_142 ?_
                                refine j_iload G 4 rfl dX2_layRound_143 ?_
                                refine j_iadd G dX2_layRound_145 ?_
                                refine j_aload_n G 0 rfl dX2_layRound_146 ?_
                                refine j_get G FX2 (jAt_1 0 rfl) 28 (by decide) q1872 rfl dX2_layRound_147 ?_
                                refine j_iload G 4 rfl dX2_layRound_150 ?_
                                refine j_laload G (jAt_1 2 rfl) (by (try unfold iR at *); omega) (by (try unfold iR at *); omega) (by (try unfold iR at *); omega) dX2_layRound_152 ?_
                                refine j_lastore (ws' := [[(y0, jO 1 [iI th, iI n, iI gr, iI pw, .ref aT, iI po, iI pr, iI ix, iI sd, iI gn, iI tk, iI ln, .ref aX, iI zs, iI zl, iI za, iI zf, iI ze, iI zi, .ref aR, .ref aM, .ref aG, .ref aN, .ref aQ, lI ls, lI wn, .ref aO, .ref aS, .ref aH, .ref aU, lI scb, iI zc, .ref aW, lI al, lI nr, lI dr, iI bp, lI ba, lI bb, lI hh])], [(aT, cI u 24 tb)], [(aH, cJ u 4 h4)], [(aU, cJ u 4 ut4)], [(aO, cJ u 16 (uZ ro5 ((4 * a) + q) (h4 q)))], [(aS, cJ u 4 ga4)]]) G (jAt_1 4 rfl) (by (try unfold iR at *); omega) (by (try unfold iR at *); omega) (by (try unfold iR at *); omega) dX2_layRound_153 rfl ?_
                                refine j_iinc G 4 rfl [(4, iI (q + 1)), (0, .ref y0), (1, iI of), (2, iI (sLen of)), (3, iI a)] rfl (by decide) dX2_layRound_154 ?_
                                refine j_goto 130 G dX2_layRound_157 (by decide) ?_
                                refine j_lv [1, 2, 3, 4, 0] rfl ?_
                                exact ih_L130 (p5 + 1) (q + 1) (uZ ro5 ((4 * a) + q) (h4 q)) (by (try unfold iR at *); omega) (by (try unfold iR at *); omega) (fun b h0 h1 => by
                                  by_cases e : b = q
                                  · subst e
                                    exact uZ_s _ _ _
                                  · rw [uZ_n _ _ (by omega)]
                                    exact g20 b h0 (by omega)) (fun a' b h0 h1 h2 h3 => by rw [uZ_n _ _ (by omega)]; exact g21 a' b h0 h1 h2 h3) (by (try unfold iR at *); omega)
                          refine j_lv [1, 2, 3, 4, 0] rfl ?_
                          exact L130 5 0 0 ro1 (by omega) rfl (fun b h0 h1 => absurd h1 (by omega)) g8 (by omega)
                        · skip
                          refine j_aload_n G 0 rfl dX2_layRound_94 ?_
                          refine j_get G FX2 (jAt_1 0 rfl) 27 (by decide) q1871 rfl dX2_layRound_95 ?_
                          refine j_iload_n G 3 rfl dX2_layRound_98 ?_
                          refine j_ldc2 10 G q2112 (by decide) dX2_layRound_99 ?_
                          refine j_aload_n G 0 rfl dX2_layRound_102 ?_
                          refine j_get G FX2 (jAt_1 0 rfl) 27 (by decide) q1871 rfl dX2_layRound_103 ?_
                          refine j_iload_n G 3 rfl dX2_layRound_106 ?_
                          refine j_laload G (jAt_1 5 rfl) (by (try unfold iR at *); omega) (by (try unfold iR at *); omega) (by (try unfold iR at *); omega) dX2_layRound_107 ?_
                          refine j_lmul G dX2_layRound_108 ?_
                          refine j_aload_n G 0 rfl dX2_layRound_109 ?_
                          refine j_iload_n G 1 rfl dX2_layRound_110 ?_
                          refine j_iload G 4 rfl dX2_layRound_111 ?_
                          refine j_callS (wr := [[(y0, jO 1 [iI th, iI n, iI gr, iI pw, .ref aT, iI po, iI pr, iI ix, iI sd, iI gn, iI tk, iI ln, .ref aX, iI zs, iI zl, iI za, iI zf, iI ze, iI zi, .ref aR, .ref aM, .ref aG, .ref aN, .ref aQ, lI ls, lI wn, .ref aO, .ref aS, .ref aH, .ref aU, lI scb, iI zc, .ref aW, lI al, lI nr, lI dr, iI bp, lI ba, lI bb, lI hh])], [(aT, cI u 24 tb)], [(aH, cJ u 4 h4)], [(aU, cJ u 4 ut4)], [(aO, cJ u 16 ro1)], [(aS, cJ u 4 ga4)]]) (k' := 0) (n' := 0) G (c_X2_leverAt l u of k4 hof (by omega)) hY_X2_leverAt q2026 q2027 q90 q2028 (jcut 6 [0, 1, 2, 3, 4, 5] (by decide) rfl rfl) ⟨by omega, by omega, by omega, by omega, by omega, by omega⟩ (Nat.le_of_ble_eq_true rfl) dX2_layRound_113 rfl (fun v_ w_ hp => ?_)
                          obtain ⟨r_113, h113_1, h113_2, rfl, rfl⟩ := hp
                          show jJ X u 5 [[(y0, jO 1 [iI th, iI n, iI gr, iI pw, .ref aT, iI po, iI pr, iI ix, iI sd, iI gn, iI tk, iI ln, .ref aX, iI zs, iI zl, iI za, iI zf, iI ze, iI zi, .ref aR, .ref aM, .ref aG, .ref aN, .ref aQ, lI ls, lI wn, .ref aO, .ref aS, .ref aH, .ref aU, lI scb, iI zc, .ref aW, lI al, lI nr, lI dr, iI bp, lI ba, lI bb, lI hh])], [(aT, cI u 24 tb)], [(aH, cJ u 4 h4)], [(aU, cJ u 4 ut4)], [(aO, cJ u 16 ro1)], [(aS, cJ u 4 ga4)]] [(0, .ref y0), (1, iI of), (2, iI (sLen of)), (3, iI a), (4, iI k4)] 0 0 116 [iI r_113, .ref y0, lI (10 * (ga4 a)), iI a, .ref aS]
                          refine j_callV (wr := [[(aO, cJ u 16 ro1)], [(aS, cJ u 4 ga4)]]) (k' := 0) (n' := 0) G FX2 (c_X2_pass l u y0 aT aX aR aM aG aN aQ aO aS aH aU aW th n gr pw po pr ix sd gn tk ln zs zl za zf ze zi zc bp ls wn scb al nr dr ba bb hh tb h4 ut4 r_113 hn hg hw hT h113_2) (jAt_1 0 rfl) ⟨rfl, hY_X2_pass⟩ q2157 q2159 qs70 q90 q2160 (jcut 6 [0, 1, 2, 3, 4, 5] (by decide) rfl rfl) ⟨by omega, by omega, by omega, by omega, by omega, by omega⟩ (Nat.le_of_ble_eq_true rfl) dX2_layRound_116 rfl (fun v_ w_ hp => ?_)
                          obtain ⟨h2_116, ut2_116, h116_1, rfl, rfl⟩ := hp
                          show jJ X u 5 [[(y0, jO 1 [iI th, iI n, iI gr, iI pw, .ref aT, iI po, iI pr, iI ix, iI sd, iI gn, iI tk, iI ln, .ref aX, iI zs, iI zl, iI za, iI zf, iI ze, iI zi, .ref aR, .ref aM, .ref aG, .ref aN, .ref aQ, lI ls, lI wn, .ref aO, .ref aS, .ref aH, .ref aU, lI scb, iI zc, .ref aW, lI al, lI nr, lI dr, iI bp, lI ba, lI bb, lI hh])], [(aT, cI u 24 tb)], [(aH, cJ u 4 h2_116)], [(aU, cJ u 4 ut2_116)], [(aO, cJ u 16 ro1)], [(aS, cJ u 4 ga4)]] [(0, .ref y0), (1, iI of), (2, iI (sLen of)), (3, iI a), (4, iI k4)] 0 0 119 [lI (rwG (sDraw gr pw (tB tb) (tF tb) r_113) h4 n.toNat), lI (10 * (ga4 a)), iI a, .ref aS]
                          refine j_ladd G dX2_layRound_119 ?_
                          refine j_lastore (ws' := [[(y0, jO 1 [iI th, iI n, iI gr, iI pw, .ref aT, iI po, iI pr, iI ix, iI sd, iI gn, iI tk, iI ln, .ref aX, iI zs, iI zl, iI za, iI zf, iI ze, iI zi, .ref aR, .ref aM, .ref aG, .ref aN, .ref aQ, lI ls, lI wn, .ref aO, .ref aS, .ref aH, .ref aU, lI scb, iI zc, .ref aW, lI al, lI nr, lI dr, iI bp, lI ba, lI bb, lI hh])], [(aT, cI u 24 tb)], [(aH, cJ u 4 h2_116)], [(aU, cJ u 4 ut2_116)], [(aO, cJ u 16 ro1)], [(aS, cJ u 4 (uZ ga4 a ((10 * (ga4 a)) + (rwG (sDraw gr pw (tB tb) (tF tb) r_113) h4 n.toNat))))]]) G (jAt_1 5 rfl) (by (try unfold iR at *); omega) (by (try unfold iR at *); omega) (by (try unfold iR at *); omega) dX2_layRound_120 rfl ?_
                          refine j_iinc G 4 rfl [(4, iI (k4 + 1)), (0, .ref y0), (1, iI of), (2, iI (sLen of)), (3, iI a)] rfl (by decide) dX2_layRound_121 ?_
                          refine j_goto 88 G dX2_layRound_124 (by decide) ?_
                          refine j_lv [1, 2, 3, 4, 0] rfl ?_
                          exact ih_L88 (j4 + 1) (k4 + 1) h2_116 ut2_116 (uZ ga4 a ((10 * (ga4 a)) + (rwG (sDraw gr pw (tB tb) (tF tb) r_113) h4 n.toNat))) (by (try unfold iR at *); omega) (by (try unfold iR at *); omega) (rwK_s hn g15 (by rw [h113_1, g18]) h116_1) (by rw [uZ_s, g16]; exact (rwH_s hn g15 (by rw [h113_1, g18])).symm) (fun a' h0 h1 => by rw [uZ_n _ _ (by omega)]; exact g17 a' h0 h1) (by (try unfold iR at *); omega)
                    refine j_lv [1, 2, 3, 4, 0] rfl ?_
                    exact L88 5 0 0 h3 ut1 (uZ ga1 a 0) (by omega) rfl (fun x h0 h1 => g12 x h0 (by omega)) (uZ_s _ _ _) (fun a' h0 h1 => by rw [uZ_n _ _ (by omega)]; exact g9 a' h0 h1) (by omega)
                  · skip
                    refine j_aload_n G 0 rfl dX2_layRound_61 ?_
                    refine j_get G FX2 (jAt_1 0 rfl) 28 (by decide) q1872 rfl dX2_layRound_62 ?_
                    refine j_iload G 4 rfl dX2_layRound_65 ?_
                    refine j_iload G 4 rfl dX2_layRound_67 ?_
                    refine j_iload_n G 3 rfl dX2_layRound_69 ?_
                    refine j_icmp_ne 77 G (by unfold iR at *; omega) (by unfold iR at *; omega) dX2_layRound_70 (by decide) (fun c_70 => ?_) (fun c_70 => ?_)
                    · skip
                      refine j_lconst 0 G rfl dX2_layRound_77 ?_
                      refine j_lastore (ws' := [[(y0, jO 1 [iI th, iI n, iI gr, iI pw, .ref aT, iI po, iI pr, iI ix, iI sd, iI gn, iI tk, iI ln, .ref aX, iI zs, iI zl, iI za, iI zf, iI ze, iI zi, .ref aR, .ref aM, .ref aG, .ref aN, .ref aQ, lI ls, lI wn, .ref aO, .ref aS, .ref aH, .ref aU, lI scb, iI zc, .ref aW, lI al, lI nr, lI dr, iI bp, lI ba, lI bb, lI hh])], [(aT, cI u 24 tb)], [(aH, cJ u 4 (uZ h3 q 0))], [(aU, cJ u 4 ut1)], [(aO, cJ u 16 ro1)], [(aS, cJ u 4 (uZ ga1 a 0))]]) G (jAt_1 2 rfl) (by (try unfold iR at *); omega) (by (try unfold iR at *); omega) (by (try unfold iR at *); omega) dX2_layRound_78 rfl ?_
                      refine j_iinc G 4 rfl [(4, iI (q + 1)), (0, .ref y0), (1, iI of), (2, iI (sLen of)), (3, iI a)] rfl (by decide) dX2_layRound_79 ?_
                      refine j_goto 55 G dX2_layRound_82 (by decide) ?_
                      refine j_lv [1, 2, 3, 4, 0] rfl ?_
                      exact ih_L55 (p + 1) (q + 1) (uZ h3 q 0) (by (try unfold iR at *); omega) (by (try unfold iR at *); omega) (fun x h0 h1 => by
                        unfold uZ
                        split
                        · rename_i e
                          subst e
                          first | rw [if_pos c_70] | rw [if_neg c_70]
                        · exact g12 x h0 (by omega)) (by (try unfold iR at *); omega)
                    · skip
                      refine j_lconst 1 G rfl dX2_layRound_73 ?_
                      refine j_goto 78 G dX2_layRound_74 (by decide) ?_
                      refine j_lastore (ws' := [[(y0, jO 1 [iI th, iI n, iI gr, iI pw, .ref aT, iI po, iI pr, iI ix, iI sd, iI gn, iI tk, iI ln, .ref aX, iI zs, iI zl, iI za, iI zf, iI ze, iI zi, .ref aR, .ref aM, .ref aG, .ref aN, .ref aQ, lI ls, lI wn, .ref aO, .ref aS, .ref aH, .ref aU, lI scb, iI zc, .ref aW, lI al, lI nr, lI dr, iI bp, lI ba, lI bb, lI hh])], [(aT, cI u 24 tb)], [(aH, cJ u 4 (uZ h3 q 1))], [(aU, cJ u 4 ut1)], [(aO, cJ u 16 ro1)], [(aS, cJ u 4 (uZ ga1 a 0))]]) G (jAt_1 2 rfl) (by (try unfold iR at *); omega) (by (try unfold iR at *); omega) (by (try unfold iR at *); omega) dX2_layRound_78 rfl ?_
                      refine j_iinc G 4 rfl [(4, iI (q + 1)), (0, .ref y0), (1, iI of), (2, iI (sLen of)), (3, iI a)] rfl (by decide) dX2_layRound_79 ?_
                      refine j_goto 55 G dX2_layRound_82 (by decide) ?_
                      refine j_lv [1, 2, 3, 4, 0] rfl ?_
                      exact ih_L55 (p + 1) (q + 1) (uZ h3 q 1) (by (try unfold iR at *); omega) (by (try unfold iR at *); omega) (fun x h0 h1 => by
                        unfold uZ
                        split
                        · rename_i e
                          subst e
                          first | rw [if_pos c_70] | rw [if_neg c_70]
                        · exact g12 x h0 (by omega)) (by (try unfold iR at *); omega)
              refine j_lv [1, 2, 3, 4, 0] rfl ?_
              exact L55 5 0 0 h1 (by omega) rfl (fun x h0 h1 => absurd h1 (by omega)) (by omega)
        refine j_lv [1, 2, 3, 0] rfl ?_
        exact L37 5 0 0 h ut ro ga (by omega) rfl (by omega) (fun a b h0 h1 => absurd h1 (by omega)) (fun a h0 h1 => absurd h1 (by omega))
      · skip
        refine j_aload_n G 0 rfl dX2_layRound_17 ?_
        refine j_dup G rfl dX2_layRound_18 ?_
        refine j_get G FX2 (jAt_1 0 rfl) 30 (by decide) q1874 rfl dX2_layRound_19 ?_
        refine j_ldc2 10 G q2112 (by decide) dX2_layRound_22 ?_
        refine j_lmul G dX2_layRound_25 ?_
        refine j_put (ws' := [[(y0, jO 1 [iI th, iI n, iI gr, iI pw, .ref aT, iI po, iI pr, iI ix, iI sd, iI gn, iI tk, iI ln, .ref aX, iI zs, iI zl, iI za, iI zf, iI ze, iI zi, .ref aR, .ref aM, .ref aG, .ref aN, .ref aQ, lI ls, lI wn, .ref aO, .ref aS, .ref aH, .ref aU, lI (scb * 10), iI zc, .ref aW, lI al, lI nr, lI dr, iI bp, lI ba, lI bb, lI hh])], [(aT, cI u 24 tb)], [(aH, cJ u 4 h)], [(aU, cJ u 4 ut)], [(aO, cJ u 16 ro)], [(aS, cJ u 4 ga)]]) G FX2 (jAt_1 0 rfl) 30 (by decide) q1874 rfl rfl rfl (Nat.le_of_ble_eq_true rfl) dX2_layRound_26 rfl ?_
        refine j_iinc G 3 rfl [(3, iI (k + 1)), (0, .ref y0), (1, iI of), (2, iI (sLen of))] rfl (by decide) dX2_layRound_29 ?_
        refine j_goto 12 G dX2_layRound_32 (by decide) ?_
        refine j_lv [1, 2, 3, 0] rfl ?_
        exact ih_L12 (j + 1) (k + 1) (scb * 10) (by (try unfold iR at *); omega) (by (try unfold iR at *); omega) (by rw [g3, Int.pow_succ]) (by (try unfold iR at *); omega)
  refine j_lv [2, 3, 1, 0] rfl ?_
  exact L12 5 0 0 1 (by (try unfold iR at *); omega) rfl rfl (by omega)
