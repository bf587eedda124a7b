theorem hY_X2_arrive : jY yX2_arrive 5 := ⟨by decide +kernel, by decide +kernel, by decide +kernel⟩
set_option maxHeartbeats 4000000 in
set_option maxRecDepth 100000 in
theorem c_X2_arrive (l : Launch) (u : jU) (y0 aT aX aR aM aG aN aQ aO aS aH aU aW : Nat) (th n gr pw po pr ix sd gn tk ln zs zl za zf ze zi zc bp ls wn sc al nr dr ba bb hh : Int) (nx : Int → Int) (N : Int → Int) (row q w lo hi : Int) (hRlo : iR lo) (hRhi : iR hi) (hrow : -5 ≤ row ∧ row ≤ 40) (hRw : lR w) (hlh : lo < hi) (hq : 0 ≤ q ∧ q < 4) (hT : cTw lo hi N nx ls wn) (hw : w ≠ 0 → lo ≤ row - 15 ∧ row - 15 ≤ hi ∧ 0 ≤ row ∧ row < 31) : jC l u yX2_arrive cX2_arrive 7 none 0 0 0 0 [.ref y0, iI row, iI q, lI w, iI lo, iI hi] [[(y0, jO 1 [iI th, iI n, iI gr, iI pw, .ref aT, iI po, iI pr, iI ix, iI sd, iI gn, iI tk, iI ln, .ref aX, iI zs, iI zl, iI za, iI zf, iI ze, iI zi, .ref aR, .ref aM, .ref aG, .ref aN, .ref aQ, lI ls, lI wn, .ref aO, .ref aS, .ref aH, .ref aU, lI sc, iI zc, .ref aW, lI al, lI nr, lI dr, iI bp, lI ba, lI bb, lI hh])], [(aQ, cJ u 124 nx)]] (fun v_ w_ => ∃ (nx2 : Int → Int) (ls2 wn2 : Int), cTw lo hi (cA N (4 * row + q) w) nx2 ls2 wn2 ∧ v_ = none ∧ w_ = [[(y0, jO 1 [iI th, iI n, iI gr, iI pw, .ref aT, iI po, iI pr, iI ix, iI sd, iI gn, iI tk, iI ln, .ref aX, iI zs, iI zl, iI za, iI zf, iI ze, iI zi, .ref aR, .ref aM, .ref aG, .ref aN, .ref aQ, lI ls2, lI wn2, .ref aO, .ref aS, .ref aH, .ref aU, lI sc, iI zc, .ref aW, lI al, lI nr, lI dr, iI bp, lI ba, lI bb, lI hh])], [(aQ, cJ u 124 nx2)]]) := by
  refine jC.of "FlashRatchetModel" (by decide +kernel) rfl (Nat.le_of_ble_eq_true rfl) [(0, .ref y0), (1, iI row), (2, iI q), (3, lI w), (5, iI lo), (6, iI hi)] rfl (fun X G E I => ?_)
  refine j_lload_n G 3 rfl dX2_arrive_0 ?_
  refine j_lconst 0 G rfl dX2_arrive_1 ?_
  refine j_lcmp G hRw (by unfold lR; omega) dX2_arrive_2 ?_
  have k_3 := jCmp_c w 0
  refine j_if_ne 7 G (by unfold iR at *; omega) dX2_arrive_3 (by decide) (fun c_3 => ?_) (fun c_3 => ?_)
  · skip
    have hw1 := hw (by omega)
    refine j_iload_n G 1 rfl dX2_arrive_7 ?_
    refine j_bipush G (by decide) dX2_arrive_8 ?_
    refine j_isub G dX2_arrive_10 ?_
    refine j_iload G 4 rfl dX2_arrive_11 ?_
    refine j_icmp_gt 29 G (by unfold iR at *; omega) hRlo dX2_arrive_13 (by decide) (fun c_13 => ?_) (fun c_13 => ?_)
    · skip
      refine j_iload_n G 1 rfl dX2_arrive_29 ?_
      refine j_bipush G (by decide) dX2_arrive_30 ?_
      refine j_isub G dX2_arrive_32 ?_
      refine j_iload G 5 rfl dX2_arrive_33 ?_
      refine j_icmp_lt 51 G (by unfold iR at *; omega) hRhi dX2_arrive_35 (by decide) (fun c_35 => ?_) (fun c_35 => ?_)
      · skip
        refine j_aload_n G 0 rfl dX2_arrive_51 ?_
        refine j_get G FX2 (jAt_1 0 rfl) 23 (by decide) q1867 rfl dX2_arrive_52 ?_
        refine j_iconst G dX2_arrive_55 ?_
        refine j_iload_n G 1 rfl dX2_arrive_56 ?_
        refine j_imul G dX2_arrive_57 ?_
        refine j_iload_n G 2 rfl dX2_arrive_58 ?_
        refine j_iadd G dX2_arrive_59 ?_
        refine j_dup2 G rfl rfl dX2_arrive_60 ?_
        refine j_laload G (jAt_1 1 rfl) (by (try unfold iR at *); omega) (by (try unfold iR at *); omega) (by (try unfold iR at *); omega) dX2_arrive_61 ?_
        refine j_lload_n G 3 rfl dX2_arrive_62 ?_
        refine j_ladd G dX2_arrive_63 ?_
        refine j_lastore (ws' := [[(y0, jO 1 [iI th, iI n, iI gr, iI pw, .ref aT, iI po, iI pr, iI ix, iI sd, iI gn, iI tk, iI ln, .ref aX, iI zs, iI zl, iI za, iI zf, iI ze, iI zi, .ref aR, .ref aM, .ref aG, .ref aN, .ref aQ, lI ls, lI wn, .ref aO, .ref aS, .ref aH, .ref aU, lI sc, iI zc, .ref aW, lI al, lI nr, lI dr, iI bp, lI ba, lI bb, lI hh])], [(aQ, cJ u 124 (uZ nx ((4 * row) + q) ((nx ((4 * row) + q)) + w)))]]) G (jAt_1 1 rfl) (by (try unfold iR at *); omega) (by (try unfold iR at *); omega) (by (try unfold iR at *); omega) dX2_arrive_64 rfl ?_
        exact j_vret G E ⟨(uZ nx ((4 * row) + q) ((nx ((4 * row) + q)) + w)), ls, wn, (cTw_in hT hq (by omega) (by omega) (by omega) (by omega)), rfl, rfl⟩ ⟨by omega, by omega⟩ dX2_arrive_65
      · skip
        refine j_aload_n G 0 rfl dX2_arrive_38 ?_
        refine j_dup G rfl dX2_arrive_39 ?_
        refine j_get G FX2 (jAt_1 0 rfl) 25 (by decide) q1869 rfl dX2_arrive_40 ?_
        refine j_lload_n G 3 rfl dX2_arrive_43 ?_
        refine j_ladd G dX2_arrive_44 ?_
        refine j_put (ws' := [[(y0, jO 1 [iI th, iI n, iI gr, iI pw, .ref aT, iI po, iI pr, iI ix, iI sd, iI gn, iI tk, iI ln, .ref aX, iI zs, iI zl, iI za, iI zf, iI ze, iI zi, .ref aR, .ref aM, .ref aG, .ref aN, .ref aQ, lI ls, lI (wn + w), .ref aO, .ref aS, .ref aH, .ref aU, lI sc, iI zc, .ref aW, lI al, lI nr, lI dr, iI bp, lI ba, lI bb, lI hh])], [(aQ, cJ u 124 nx)]]) G FX2 (jAt_1 0 rfl) 25 (by decide) q1869 rfl rfl rfl (Nat.le_of_ble_eq_true rfl) dX2_arrive_45 rfl ?_
        refine j_goto 65 G dX2_arrive_48 (by decide) ?_
        exact j_vret G E ⟨nx, ls, (wn + w), (cTw_hi hT hlh hq (by omega)), rfl, rfl⟩ ⟨by omega, by omega⟩ dX2_arrive_65
    · skip
      refine j_aload_n G 0 rfl dX2_arrive_16 ?_
      refine j_dup G rfl dX2_arrive_17 ?_
      refine j_get G FX2 (jAt_1 0 rfl) 24 (by decide) q1868 rfl dX2_arrive_18 ?_
      refine j_lload_n G 3 rfl dX2_arrive_21 ?_
      refine j_ladd G dX2_arrive_22 ?_
      refine j_put (ws' := [[(y0, jO 1 [iI th, iI n, iI gr, iI pw, .ref aT, iI po, iI pr, iI ix, iI sd, iI gn, iI tk, iI ln, .ref aX, iI zs, iI zl, iI za, iI zf, iI ze, iI zi, .ref aR, .ref aM, .ref aG, .ref aN, .ref aQ, lI (ls + w), lI wn, .ref aO, .ref aS, .ref aH, .ref aU, lI sc, iI zc, .ref aW, lI al, lI nr, lI dr, iI bp, lI ba, lI bb, lI hh])], [(aQ, cJ u 124 nx)]]) G FX2 (jAt_1 0 rfl) 24 (by decide) q1868 rfl rfl rfl (Nat.le_of_ble_eq_true rfl) dX2_arrive_23 rfl ?_
      refine j_goto 65 G dX2_arrive_26 (by decide) ?_
      exact j_vret G E ⟨nx, (ls + w), wn, (cTw_lo hT hlh hq (by omega)), rfl, rfl⟩ ⟨by omega, by omega⟩ dX2_arrive_65
  · skip
    have hw0 : w = 0 := by omega
    exact j_vret G E ⟨nx, ls, wn, (by rw [hw0, cA_0]; exact hT), rfl, rfl⟩ ⟨by omega, by omega⟩ dX2_arrive_6
theorem hY_X2_spread : jY yX2_spread 3 := ⟨by decide +kernel, by decide +kernel, by decide +kernel⟩
set_option maxHeartbeats 4000000 in
set_option maxRecDepth 100000 in
theorem c_X2_spread (l : Launch) (u : jU) (y0 aT aX aR aM aG aN aQ aO aS aH aU aW : Nat) (th n gr pw po pr ix sd gn tk ln zs zl za zf ze zi zc bp ls wn sc al nr dr ba bb hh : Int) (tb : Int → Int) (nw : Int → Int) (nx : Int → Int) (D : Int → Int) (t : Nat) (lv lo hi : Int) (hn : 2 ≤ n ∧ n ≤ 4) (hg : 0 ≤ gr ∧ gr ≤ 7) (hw : 0 ≤ pw ∧ pw ≤ 15) (hT : wT (tB tb) (tF tb)) (hRlo : iR lo) (hRhi : iR hi) (hlv : 0 ≤ lv ∧ lv ≤ 2) (hlh : lo < hi) (hD : cOk n t D) (ht : t < 15) (hI : cIn lo hi D) (hW : cTw lo hi D nw ls wn) : jC l u yX2_spread cX2_spread 8 none 2 43 0 0 [.ref y0, iI lv, iI lo, iI hi] [[(y0, jO 1 [iI th, iI n, iI gr, iI pw, .ref aT, iI po, iI pr, iI ix, iI sd, iI gn, iI tk, iI ln, .ref aX, iI zs, iI zl, iI za, iI zf, iI ze, iI zi, .ref aR, .ref aM, .ref aG, .ref aN, .ref aQ, lI ls, lI wn, .ref aO, .ref aS, .ref aH, .ref aU, lI sc, iI zc, .ref aW, lI al, lI nr, lI dr, iI bp, lI ba, lI bb, lI hh])], [(aT, cI u 24 tb)], [(aN, cJ u 124 nw)], [(aQ, cJ u 124 nx)]] (fun v_ w_ => ∃ (nw2 nx2 : Int → Int) (ls2 wn2 : Int), cTw lo hi (cT lo hi n (sDraw gr pw (tB tb) (tF tb) lv) D) nw2 ls2 wn2 ∧ v_ = none ∧ w_ = [[(y0, jO 1 [iI th, iI n, iI gr, iI pw, .ref aT, iI po, iI pr, iI ix, iI sd, iI gn, iI tk, iI ln, .ref aX, iI zs, iI zl, iI za, iI zf, iI ze, iI zi, .ref aR, .ref aM, .ref aG, .ref aN, .ref aQ, lI ls2, lI wn2, .ref aO, .ref aS, .ref aH, .ref aU, lI sc, iI zc, .ref aW, lI al, lI nr, lI dr, iI bp, lI ba, lI bb, lI hh])], [(aT, cI u 24 tb)], [(aN, cJ u 124 nw2)], [(aQ, cJ u 124 nx2)]]) := by
  refine jC.of "FlashRatchetModel" (by decide +kernel) rfl (Nat.le_of_ble_eq_true rfl) [(0, .ref y0), (1, iI lv), (2, iI lo), (3, iI hi)] rfl (fun X G E I => ?_)
  refine j_iconst G dX2_spread_0 ?_
  refine j_istore G [(4, iI 0), (0, .ref y0), (1, iI lv), (2, iI lo), (3, iI hi)] rfl (by decide) dX2_spread_1 ?_
  have L3 : ∀ (m : Nat) (j : Nat) (f : Int → Int) (k : Int), 124 - j < m → k = j → (∀ q : Int, 0 ≤ q → q < k → f q = 0) → j ≤ 124 → jJ X u 8 [[(y0, jO 1 [iI th, iI n, iI gr, iI pw, .ref aT, iI po, iI pr, iI ix, iI sd, iI gn, iI tk, iI ln, .ref aX, iI zs, iI zl, iI za, iI zf, iI ze, iI zi, .ref aR, .ref aM, .ref aG, .ref aN, .ref aQ, lI ls, lI wn, .ref aO, .ref aS, .ref aH, .ref aU, lI sc, iI zc, .ref aW, lI al, lI nr, lI dr, iI bp, lI ba, lI bb, lI hh])], [(aT, cI u 24 tb)], [(aN, cJ u 124 nw)], [(aQ, cJ u 124 f)]] [(0, .ref y0), (1, iI lv), (2, iI lo), (3, iI hi), (4, iI k)] 0 0 3 [] := by
    intro m
    induction m with
    | zero =>
      intro j f k g1 g2 g3 g4
      exfalso
      omega
    | succ m ih_L3 =>
      intro j f k g1 g2 g3 g4
      refine j_iload G 4 rfl dX2_spread_3 ?_
      refine j_bipush G (by decide) dX2_spread_5 ?_
      refine j_icmp_ge 24 G (by unfold iR at *; omega) (by unfold iR; omega) dX2_spread_7 (by decide) (fun c_7 => ?_) (fun c_7 => ?_)
      · skip
        refine j_aload_n G 0 rfl dX2_spread_24 ?_
        refine j_dup G rfl dX2_spread_25 ?_
        refine j_get G FX2 (jAt_1 0 rfl) 24 (by decide) q1868 rfl dX2_spread_26 ?_
        refine j_ldc2 10 G q2112 (by decide) dX2_spread_29 ?_
        refine j_lmul G dX2_spread_32 ?_
        refine j_put (ws' := [[(y0, jO 1 [iI th, iI n, iI gr, iI pw, .ref aT, iI po, iI pr, iI ix, iI sd, iI gn, iI tk, iI ln, .ref aX, iI zs, iI zl, iI za, iI zf, iI ze, iI zi, .ref aR, .ref aM, .ref aG, .ref aN, .ref aQ, lI (ls * 10), lI wn, .ref aO, .ref aS, .ref aH, .ref aU, lI sc, iI zc, .ref aW, lI al, lI nr, lI dr, iI bp, lI ba, lI bb, lI hh])], [(aT, cI u 24 tb)], [(aN, cJ u 124 nw)], [(aQ, cJ u 124 f)]]) G FX2 (jAt_1 0 rfl) 24 (by decide) q1868 rfl rfl rfl (Nat.le_of_ble_eq_true rfl) dX2_spread_33 rfl ?_
        refine j_aload_n G 0 rfl dX2_spread_36 ?_
        refine j_dup G rfl dX2_spread_37 ?_
        refine j_get G FX2 (jAt_1 0 rfl) 25 (by decide) q1869 rfl dX2_spread_38 ?_
        refine j_ldc2 10 G q2112 (by decide) dX2_spread_41 ?_
        refine j_lmul G dX2_spread_44 ?_
        refine j_put (ws' := [[(y0, jO 1 [iI th, iI n, iI gr, iI pw, .ref aT, iI po, iI pr, iI ix, iI sd, iI gn, iI tk, iI ln, .ref aX, iI zs, iI zl, iI za, iI zf, iI ze, iI zi, .ref aR, .ref aM, .ref aG, .ref aN, .ref aQ, lI (ls * 10), lI (wn * 10), .ref aO, .ref aS, .ref aH, .ref aU, lI sc, iI zc, .ref aW, lI al, lI nr, lI dr, iI bp, lI ba, lI bb, lI hh])], [(aT, cI u 24 tb)], [(aN, cJ u 124 nw)], [(aQ, cJ u 124 f)]]) G FX2 (jAt_1 0 rfl) 25 (by decide) q1869 rfl rfl rfl (Nat.le_of_ble_eq_true rfl) dX2_spread_45 rfl ?_
        refine j_iconst G dX2_spread_48 ?_
        refine j_istore G [(4, iI 0), (0, .ref y0), (1, iI lv), (2, iI lo), (3, iI hi)] rfl (by decide) dX2_spread_49 ?_
        have L51 : ∀ (m : Nat) (j : Nat) (f1 : Int → Int) (k : Int) (lsb : Int) (wnb : Int), 124 - j < m → k = j → cTw lo hi (cF lo hi n (sDraw gr pw (tB tb) (tF tb) lv) D j) f1 lsb wnb → j ≤ 124 → jJ X u 8 [[(y0, jO 1 [iI th, iI n, iI gr, iI pw, .ref aT, iI po, iI pr, iI ix, iI sd, iI gn, iI tk, iI ln, .ref aX, iI zs, iI zl, iI za, iI zf, iI ze, iI zi, .ref aR, .ref aM, .ref aG, .ref aN, .ref aQ, lI lsb, lI wnb, .ref aO, .ref aS, .ref aH, .ref aU, lI sc, iI zc, .ref aW, lI al, lI nr, lI dr, iI bp, lI ba, lI bb, lI hh])], [(aT, cI u 24 tb)], [(aN, cJ u 124 nw)], [(aQ, cJ u 124 f1)]] [(0, .ref y0), (1, iI lv), (2, iI lo), (3, iI hi), (4, iI k)] 0 0 51 [] := by
          intro m
          induction m with
          | zero =>
            intro j f1 k lsb wnb g1 g2 g3 g4
            exfalso
            omega
          | succ m ih_L51 =>
            intro j f1 k lsb wnb g1 g2 g3 g4
            refine j_iload G 4 rfl dX2_spread_51 ?_
            refine j_bipush G (by decide) dX2_spread_53 ?_
            refine j_icmp_ge 189 G (by unfold iR at *; omega) (by unfold iR; omega) dX2_spread_55 (by decide) (fun c_55 => ?_) (fun c_55 => ?_)
            · skip
              have hj : j = 124 := by omega
              subst hj
              refine j_iconst G dX2_spread_189 ?_
              refine j_istore G [(4, iI 0), (0, .ref y0), (1, iI lv), (2, iI lo), (3, iI hi)] rfl (by decide) dX2_spread_190 ?_
              have L192 : ∀ (m : Nat) (i : Nat) (f2 : Int → Int) (k : Int), 124 - i < m → k = i → (∀ q : Int, 0 ≤ q → q < k → f2 q = f1 q) → i ≤ 124 → jJ X u 8 [[(y0, jO 1 [iI th, iI n, iI gr, iI pw, .ref aT, iI po, iI pr, iI ix, iI sd, iI gn, iI tk, iI ln, .ref aX, iI zs, iI zl, iI za, iI zf, iI ze, iI zi, .ref aR, .ref aM, .ref aG, .ref aN, .ref aQ, lI lsb, lI wnb, .ref aO, .ref aS, .ref aH, .ref aU, lI sc, iI zc, .ref aW, lI al, lI nr, lI dr, iI bp, lI ba, lI bb, lI hh])], [(aT, cI u 24 tb)], [(aN, cJ u 124 f2)], [(aQ, cJ u 124 f1)]] [(0, .ref y0), (1, iI lv), (2, iI lo), (3, iI hi), (4, iI k)] 0 0 192 [] := by
                intro m
                induction m with
                | zero =>
                  intro i f2 k g5 g6 g7 g8
                  exfalso
                  omega
                | succ m ih_L192 =>
                  intro i f2 k g5 g6 g7 g8
                  refine j_iload G 4 rfl dX2_spread_192 ?_
                  refine j_bipush G (by decide) dX2_spread_194 ?_
                  refine j_icmp_ge 219 G (by unfold iR at *; omega) (by unfold iR; omega) dX2_spread_196 (by decide) (fun c_196 => ?_) (fun c_196 => ?_)
                  · skip
                    exact j_vret G E ⟨f2, f1, lsb, wnb, ⟨fun q h0 h1 => by rw [g7 q h0 (by omega)]; exact g3.1 q h0 h1, g3.2⟩, rfl, rfl⟩ ⟨by omega, by omega⟩ dX2_spread_219
                  · skip
                    refine j_aload_n G 0 rfl dX2_spread_199 ?_
                    refine j_get G FX2 (jAt_1 0 rfl) 22 (by decide) q1866 rfl dX2_spread_200 ?_
                    refine j_iload G 4 rfl dX2_spread_203 ?_
                    refine j_aload_n G 0 rfl dX2_spread_205 ?_
                    refine j_get G FX2 (jAt_1 0 rfl) 23 (by decide) q1867 rfl dX2_spread_206 ?_
                    refine j_iload G 4 rfl dX2_spread_209 ?_
                    refine j_laload G (jAt_1 3 rfl) (by (try unfold iR at *); omega) (by (try unfold iR at *); omega) (by (try unfold iR at *); omega) dX2_spread_211 ?_
                    refine j_lastore (ws' := [[(y0, jO 1 [iI th, iI n, iI gr, iI pw, .ref aT, iI po, iI pr, iI ix, iI sd, iI gn, iI tk, iI ln, .ref aX, iI zs, iI zl, iI za, iI zf, iI ze, iI zi, .ref aR, .ref aM, .ref aG, .ref aN, .ref aQ, lI lsb, lI wnb, .ref aO, .ref aS, .ref aH, .ref aU, lI sc, iI zc, .ref aW, lI al, lI nr, lI dr, iI bp, lI ba, lI bb, lI hh])], [(aT, cI u 24 tb)], [(aN, cJ u 124 (uZ f2 k (f1 k)))], [(aQ, cJ u 124 f1)]]) G (jAt_1 2 rfl) (by (try unfold iR at *); omega) (by (try unfold iR at *); omega) (by (try unfold iR at *); omega) dX2_spread_212 rfl ?_
                    refine j_iinc G 4 rfl [(4, iI (k + 1)), (0, .ref y0), (1, iI lv), (2, iI lo), (3, iI hi)] rfl (by decide) dX2_spread_213 ?_
                    refine j_goto 192 G dX2_spread_216 (by decide) ?_
                    refine j_lv [1, 2, 3, 4, 0] rfl ?_
                    exact ih_L192 (i + 1) (uZ f2 k (f1 k)) (k + 1) (by (try unfold iR at *); omega) (by (try unfold iR at *); omega) (fun q h0 h1 => by unfold uZ; split <;> first | (rename_i e; rw [e]) | exact g7 q h0 (by omega)) (by (try unfold iR at *); omega)
              refine j_lv [1, 2, 3, 4, 0] rfl ?_
              exact L192 125 0 nw 0 (by omega) rfl (fun q h0 h1 => absurd h1 (by omega)) (by omega)
            · skip
              have hnk := cTw_R hW hD (by omega) (j := k) (by omega) (by omega)
              refine j_aload_n G 0 rfl dX2_spread_58 ?_
              refine j_get G FX2 (jAt_1 0 rfl) 22 (by decide) q1866 rfl dX2_spread_59 ?_
              refine j_iload G 4 rfl dX2_spread_62 ?_
              refine j_laload G (jAt_1 2 rfl) (by (try unfold iR at *); omega) (by (try unfold iR at *); omega) (by (try unfold iR at *); omega) dX2_spread_64 ?_
              refine j_lconst 0 G rfl dX2_spread_65 ?_
              refine j_lcmp G (by unfold lR at *; omega) (by unfold lR; omega) dX2_spread_66 ?_
              have k_67 := jCmp_c (nw k) 0
              refine j_if_eq 183 G (by unfold iR at *; omega) dX2_spread_67 (by decide) (fun c_67 => ?_) (fun c_67 => ?_)
              · skip
                refine j_iinc G 4 rfl [(4, iI (k + 1)), (0, .ref y0), (1, iI lv), (2, iI lo), (3, iI hi)] rfl (by decide) dX2_spread_183 ?_
                refine j_goto 51 G dX2_spread_186 (by decide) ?_
                refine j_lv [1, 2, 3, 4, 0] rfl ?_
                exact ih_L51 (j + 1) f1 (k + 1) lsb wnb (by (try unfold iR at *); omega) (by (try unfold iR at *); omega) (by show cTw lo hi (cStep lo hi n (sDraw gr pw (tB tb) (tF tb) lv) D (cF lo hi n (sDraw gr pw (tB tb) (tF tb) lv) D j) (j : Int)) _ _ _; rw [cTw_st hW (by omega) (by omega) (by rw [← g2]; omega)]; exact g3) (by (try unfold iR at *); omega)
              · skip
                obtain ⟨hna, hDk⟩ := cTw_nz hW (i := k) (by omega) (by omega) (by omega)
                obtain ⟨hna1, hna2⟩ := not_or.mp hna
                have hs := hD.1 k (by omega)
                have hin := hI k (by omega)
                have hdr := sDraw_R (gr := gr) (pw := pw) (lv := lv) (p := k % 4) hT hlv (by omega)
                have m1 := mvd_R (p := k % 4) (m := -1) hn
                have m2 := mvd_R (p := k % 4) (m := 1) hn
                refine j_iload G 4 rfl dX2_spread_70 ?_
                refine j_iconst G dX2_spread_72 ?_
                refine j_iremN G (by (try unfold iR at *); omega) (by (try unfold iR at *); omega) dX2_spread_73 ?_
                refine j_istore G [(5, iI (k % 4)), (0, .ref y0), (1, iI lv), (2, iI lo), (3, iI hi), (4, iI k)] rfl (by decide) dX2_spread_74 ?_
                refine j_aload_n G 1 rfl dX2_spread_76 ?_
                refine j_iload_n G 2 rfl dX2_spread_77 ?_
                refine j_iload G 0 rfl dX2_spread_78 ?_
                refine j_callV (wr := [[(aN, cJ u 124 nw)], [(aQ, cJ u 124 f1)]]) (k' := 0) (n' := 0) G FX2 (c_X2_back l u y0 aT aX aR aM aG aN aQ aO aS aH aU aW th n gr pw po pr ix sd gn tk ln zs zl za zf ze zi zc bp lsb wnb sc al nr dr ba bb hh tb lv (k % 4) hlv (by omega) hg hw) (jAt_1 0 rfl) ⟨rfl, hY_X2_back⟩ q2113 q2115 qs62 q90 q2116 (jcut 4 [0, 1, 2, 3] (by decide) rfl rfl) ⟨by omega, by omega, by omega, by omega, by omega, by omega⟩ (Nat.le_of_ble_eq_true rfl) dX2_spread_80 rfl (fun v_ w_ hp => ?_)
                obtain ⟨r_80, h80_1, rfl, rfl⟩ := hp
                show jJ X u 8 [[(y0, jO 1 [iI th, iI n, iI gr, iI pw, .ref aT, iI po, iI pr, iI ix, iI sd, iI gn, iI tk, iI ln, .ref aX, iI zs, iI zl, iI za, iI zf, iI ze, iI zi, .ref aR, .ref aM, .ref aG, .ref aN, .ref aQ, lI lsb, lI wnb, .ref aO, .ref aS, .ref aH, .ref aU, lI sc, iI zc, .ref aW, lI al, lI nr, lI dr, iI bp, lI ba, lI bb, lI hh])], [(aT, cI u 24 tb)], [(aN, cJ u 124 nw)], [(aQ, cJ u 124 f1)]] [(5, iI (k % 4)), (0, .ref y0), (1, iI lv), (2, iI lo), (3, iI hi), (4, iI k)] 0 0 83 [iI r_80]
                refine j_istore G [(6, iI r_80), (5, iI (k % 4)), (0, .ref y0), (1, iI lv), (2, iI lo), (3, iI hi), (4, iI k)] rfl (by decide) dX2_spread_83 ?_
                refine j_aload_n G 2 rfl dX2_spread_85 ?_
                refine j_iload_n G 3 rfl dX2_spread_86 ?_
                refine j_iload G 1 rfl dX2_spread_87 ?_
                refine j_callV (wr := [[(aN, cJ u 124 nw)], [(aQ, cJ u 124 f1)]]) (k' := 0) (n' := 0) G FX2 (c_X2_forward l u y0 aT aX aR aM aG aN aQ aO aS aH aU aW th n gr pw po pr ix sd gn tk ln zs zl za zf ze zi zc bp lsb wnb sc al nr dr ba bb hh tb lv (k % 4) hlv (by omega) hg hw) (jAt_1 0 rfl) ⟨rfl, hY_X2_forward⟩ q2117 q2119 qs63 q90 q2120 (jcut 4 [0, 1, 2, 3] (by decide) rfl rfl) ⟨by omega, by omega, by omega, by omega, by omega, by omega⟩ (Nat.le_of_ble_eq_true rfl) dX2_spread_89 rfl (fun v_ w_ hp => ?_)
                obtain ⟨r_89, h89_1, rfl, rfl⟩ := hp
                show jJ X u 8 [[(y0, jO 1 [iI th, iI n, iI gr, iI pw, .ref aT, iI po, iI pr, iI ix, iI sd, iI gn, iI tk, iI ln, .ref aX, iI zs, iI zl, iI za, iI zf, iI ze, iI zi, .ref aR, .ref aM, .ref aG, .ref aN, .ref aQ, lI lsb, lI wnb, .ref aO, .ref aS, .ref aH, .ref aU, lI sc, iI zc, .ref aW, lI al, lI nr, lI dr, iI bp, lI ba, lI bb, lI hh])], [(aT, cI u 24 tb)], [(aN, cJ u 124 nw)], [(aQ, cJ u 124 f1)]] [(6, iI r_80), (5, iI (k % 4)), (0, .ref y0), (1, iI lv), (2, iI lo), (3, iI hi), (4, iI k)] 0 0 92 [iI r_89]
                have q1 := mul_R hnk (b := r_80) (by omega)
                have q2 := mul_R hnk (b := 10 - r_80 - r_89) (by omega)
                have q3 := mul_R hnk (b := r_89) (by omega)
                refine j_istore G [(7, iI r_89), (6, iI r_80), (5, iI (k % 4)), (0, .ref y0), (1, iI lv), (2, iI lo), (3, iI hi), (4, iI k)] rfl (by decide) dX2_spread_92 ?_
                refine j_aload_n G 3 rfl dX2_spread_94 ?_
                refine j_iload G 7 rfl dX2_spread_95 ?_
                refine j_iconst G dX2_spread_97 ?_
                refine j_idivN G (by (try unfold iR at *); omega) (by (try unfold iR at *); omega) dX2_spread_98 ?_
                refine j_iconst G dX2_spread_99 ?_
                refine j_isub G dX2_spread_100 ?_
                refine j_aload_n G 3 rfl dX2_spread_101 ?_
                refine j_iload G 2 rfl dX2_spread_102 ?_
                refine j_iconst G dX2_spread_104 ?_
                refine j_callV (wr := [[(aT, cI u 24 tb)], [(aN, cJ u 124 nw)], [(aQ, cJ u 124 f1)]]) (k' := 0) (n' := 0) G FX2 (c_X2_moved l u y0 aT aX aR aM aG aN aQ aO aS aH aU aW th n gr pw po pr ix sd gn tk ln zs zl za zf ze zi zc bp lsb wnb sc al nr dr ba bb hh (k % 4) (-1) hn (by omega) (by omega)) (jAt_1 0 rfl) ⟨rfl, hY_X2_moved⟩ q2036 q2038 qs49 q90 q2039 (jcut 4 [0, 1, 2, 3] (by decide) rfl rfl) ⟨by omega, by omega, by omega, by omega, by omega, by omega⟩ (Nat.le_of_ble_eq_true rfl) dX2_spread_105 rfl (fun v_ w_ hp => ?_)
                obtain ⟨r_105, h105_1, h105_2, rfl, rfl⟩ := hp
                show jJ X u 8 [[(y0, jO 1 [iI th, iI n, iI gr, iI pw, .ref aT, iI po, iI pr, iI ix, iI sd, iI gn, iI tk, iI ln, .ref aX, iI zs, iI zl, iI za, iI zf, iI ze, iI zi, .ref aR, .ref aM, .ref aG, .ref aN, .ref aQ, lI lsb, lI wnb, .ref aO, .ref aS, .ref aH, .ref aU, lI sc, iI zc, .ref aW, lI al, lI nr, lI dr, iI bp, lI ba, lI bb, lI hh])], [(aT, cI u 24 tb)], [(aN, cJ u 124 nw)], [(aQ, cJ u 124 f1)]] [(7, iI r_89), (6, iI r_80), (5, iI (k % 4)), (0, .ref y0), (1, iI lv), (2, iI lo), (3, iI hi), (4, iI k)] 0 0 108 [iI r_105, iI ((k / 4) - 1), .ref y0]
                refine j_aload_n G 3 rfl dX2_spread_108 ?_
                refine j_get G FX2 (jAt_1 0 rfl) 22 (by decide) q1866 rfl dX2_spread_109 ?_
                refine j_iload G 7 rfl dX2_spread_112 ?_
                refine j_laload G (jAt_1 2 rfl) (by (try unfold iR at *); omega) (by (try unfold iR at *); omega) (by (try unfold iR at *); omega) dX2_spread_114 ?_
                refine j_iload G 1 rfl dX2_spread_115 ?_
                refine j_i2l G (by unfold iR at *; omega) dX2_spread_117 ?_
                refine j_lmul G dX2_spread_118 ?_
                refine j_iload_n G 5 rfl dX2_spread_119 ?_
                refine j_iload_n G 6 rfl dX2_spread_120 ?_
                refine j_callV (wr := [[(aT, cI u 24 tb)], [(aN, cJ u 124 nw)]]) (k' := 0) (n' := 0) G FX2 (c_X2_arrive l u y0 aT aX aR aM aG aN aQ aO aS aH aU aW th n gr pw po pr ix sd gn tk ln zs zl za zf ze zi zc bp lsb wnb sc al nr dr ba bb hh f1 (cF lo hi n (sDraw gr pw (tB tb) (tF tb) lv) D j) ((k / 4) - 1) r_105 ((nw k) * r_80) lo hi hRlo hRhi (by omega) (by unfold lR; omega) hlh (by omega) g3 (fun _ => by omega)) (jAt_1 0 rfl) ⟨rfl, hY_X2_arrive⟩ q2121 q2123 qs64 q90 q2124 (jcut 4 [0, 3, 1, 2] (by decide) rfl rfl) ⟨by omega, by omega, by omega, by omega, by omega, by omega⟩ (Nat.le_of_ble_eq_true rfl) dX2_spread_121 rfl (fun v_ w_ hp => ?_)
                obtain ⟨nx2_121, ls2_121, wn2_121, h121_1, rfl, rfl⟩ := hp
                show jJ X u 8 [[(y0, jO 1 [iI th, iI n, iI gr, iI pw, .ref aT, iI po, iI pr, iI ix, iI sd, iI gn, iI tk, iI ln, .ref aX, iI zs, iI zl, iI za, iI zf, iI ze, iI zi, .ref aR, .ref aM, .ref aG, .ref aN, .ref aQ, lI ls2_121, lI wn2_121, .ref aO, .ref aS, .ref aH, .ref aU, lI sc, iI zc, .ref aW, lI al, lI nr, lI dr, iI bp, lI ba, lI bb, lI hh])], [(aQ, cJ u 124 nx2_121)], [(aT, cI u 24 tb)], [(aN, cJ u 124 nw)]] [(7, iI r_89), (6, iI r_80), (5, iI (k % 4)), (0, .ref y0), (1, iI lv), (2, iI lo), (3, iI hi), (4, iI k)] 0 0 124 []
                refine j_aload_n G 3 rfl dX2_spread_124 ?_
                refine j_iload G 7 rfl dX2_spread_125 ?_
                refine j_iconst G dX2_spread_127 ?_
                refine j_idivN G (by (try unfold iR at *); omega) (by (try unfold iR at *); omega) dX2_spread_128 ?_
                refine j_iload G 2 rfl dX2_spread_129 ?_
                refine j_aload_n G 3 rfl dX2_spread_131 ?_
                refine j_get G FX2 (jAt_1 0 rfl) 22 (by decide) q1866 rfl dX2_spread_132 ?_
                refine j_iload G 7 rfl dX2_spread_135 ?_
                refine j_laload G (jAt_1 3 rfl) (by (try unfold iR at *); omega) (by (try unfold iR at *); omega) (by (try unfold iR at *); omega) dX2_spread_137 ?_
                refine j_bipush G (by decide) dX2_spread_138 ?_
                refine j_iload G 1 rfl dX2_spread_140 ?_
                refine j_isub G dX2_spread_142 ?_
                refine j_iload G 0 rfl dX2_spread_143 ?_
                refine j_isub G dX2_spread_145 ?_
                refine j_i2l G (by unfold iR at *; omega) dX2_spread_146 ?_
                refine j_lmul G dX2_spread_147 ?_
                refine j_iload_n G 5 rfl dX2_spread_148 ?_
                refine j_iload_n G 6 rfl dX2_spread_149 ?_
                refine j_callV (wr := [[(aT, cI u 24 tb)], [(aN, cJ u 124 nw)]]) (k' := 0) (n' := 0) G FX2 (c_X2_arrive l u y0 aT aX aR aM aG aN aQ aO aS aH aU aW th n gr pw po pr ix sd gn tk ln zs zl za zf ze zi zc bp ls2_121 wn2_121 sc al nr dr ba bb hh nx2_121 (cA (cF lo hi n (sDraw gr pw (tB tb) (tF tb) lv) D j) (4 * (k / 4 - 1) + r_105) (nw k * r_80)) (k / 4) (k % 4) ((nw k) * ((10 - r_80) - r_89)) lo hi hRlo hRhi (by omega) (by unfold lR; omega) hlh (by omega) h121_1 (fun _ => by omega)) (jAt_1 0 rfl) ⟨rfl, hY_X2_arrive⟩ q2121 q2123 qs64 q90 q2124 (jcut 4 [0, 1, 2, 3] (by decide) rfl rfl) ⟨by omega, by omega, by omega, by omega, by omega, by omega⟩ (Nat.le_of_ble_eq_true rfl) dX2_spread_150 rfl (fun v_ w_ hp => ?_)
                obtain ⟨nx2_150, ls2_150, wn2_150, h150_1, rfl, rfl⟩ := hp
                show jJ X u 8 [[(y0, jO 1 [iI th, iI n, iI gr, iI pw, .ref aT, iI po, iI pr, iI ix, iI sd, iI gn, iI tk, iI ln, .ref aX, iI zs, iI zl, iI za, iI zf, iI ze, iI zi, .ref aR, .ref aM, .ref aG, .ref aN, .ref aQ, lI ls2_150, lI wn2_150, .ref aO, .ref aS, .ref aH, .ref aU, lI sc, iI zc, .ref aW, lI al, lI nr, lI dr, iI bp, lI ba, lI bb, lI hh])], [(aQ, cJ u 124 nx2_150)], [(aT, cI u 24 tb)], [(aN, cJ u 124 nw)]] [(7, iI r_89), (6, iI r_80), (5, iI (k % 4)), (0, .ref y0), (1, iI lv), (2, iI lo), (3, iI hi), (4, iI k)] 0 0 153 []
                refine j_aload_n G 3 rfl dX2_spread_153 ?_
                refine j_iload G 7 rfl dX2_spread_154 ?_
                refine j_iconst G dX2_spread_156 ?_
                refine j_idivN G (by (try unfold iR at *); omega) (by (try unfold iR at *); omega) dX2_spread_157 ?_
                refine j_iconst G dX2_spread_158 ?_
                refine j_iadd G dX2_spread_159 ?_
                refine j_aload_n G 3 rfl dX2_spread_160 ?_
                refine j_iload G 2 rfl dX2_spread_161 ?_
                refine j_iconst G dX2_spread_163 ?_
                refine j_callV (wr := [[(aQ, cJ u 124 nx2_150)], [(aT, cI u 24 tb)], [(aN, cJ u 124 nw)]]) (k' := 0) (n' := 0) G FX2 (c_X2_moved l u y0 aT aX aR aM aG aN aQ aO aS aH aU aW th n gr pw po pr ix sd gn tk ln zs zl za zf ze zi zc bp ls2_150 wn2_150 sc al nr dr ba bb hh (k % 4) 1 hn (by omega) (by omega)) (jAt_1 0 rfl) ⟨rfl, hY_X2_moved⟩ q2036 q2038 qs49 q90 q2039 (jcut 4 [0, 1, 2, 3] (by decide) rfl rfl) ⟨by omega, by omega, by omega, by omega, by omega, by omega⟩ (Nat.le_of_ble_eq_true rfl) dX2_spread_164 rfl (fun v_ w_ hp => ?_)
                obtain ⟨r_164, h164_1, h164_2, rfl, rfl⟩ := hp
                show jJ X u 8 [[(y0, jO 1 [iI th, iI n, iI gr, iI pw, .ref aT, iI po, iI pr, iI ix, iI sd, iI gn, iI tk, iI ln, .ref aX, iI zs, iI zl, iI za, iI zf, iI ze, iI zi, .ref aR, .ref aM, .ref aG, .ref aN, .ref aQ, lI ls2_150, lI wn2_150, .ref aO, .ref aS, .ref aH, .ref aU, lI sc, iI zc, .ref aW, lI al, lI nr, lI dr, iI bp, lI ba, lI bb, lI hh])], [(aQ, cJ u 124 nx2_150)], [(aT, cI u 24 tb)], [(aN, cJ u 124 nw)]] [(7, iI r_89), (6, iI r_80), (5, iI (k % 4)), (0, .ref y0), (1, iI lv), (2, iI lo), (3, iI hi), (4, iI k)] 0 0 167 [iI r_164, iI ((k / 4) + 1), .ref y0]
                refine j_aload_n G 3 rfl dX2_spread_167 ?_
                refine j_get G FX2 (jAt_1 0 rfl) 22 (by decide) q1866 rfl dX2_spread_168 ?_
                refine j_iload G 7 rfl dX2_spread_171 ?_
                refine j_laload G (jAt_1 3 rfl) (by (try unfold iR at *); omega) (by (try unfold iR at *); omega) (by (try unfold iR at *); omega) dX2_spread_173 ?_
                refine j_iload G 0 rfl dX2_spread_174 ?_
                refine j_i2l G (by unfold iR at *; omega) dX2_spread_176 ?_
                refine j_lmul G dX2_spread_177 ?_
                refine j_iload_n G 5 rfl dX2_spread_178 ?_
                refine j_iload_n G 6 rfl dX2_spread_179 ?_
                refine j_callV (wr := [[(aT, cI u 24 tb)], [(aN, cJ u 124 nw)]]) (k' := 0) (n' := 0) G FX2 (c_X2_arrive l u y0 aT aX aR aM aG aN aQ aO aS aH aU aW th n gr pw po pr ix sd gn tk ln zs zl za zf ze zi zc bp ls2_150 wn2_150 sc al nr dr ba bb hh nx2_150 (cA (cA (cF lo hi n (sDraw gr pw (tB tb) (tF tb) lv) D j) (4 * (k / 4 - 1) + r_105) (nw k * r_80)) (4 * (k / 4) + k % 4) (nw k * (10 - r_80 - r_89))) ((k / 4) + 1) r_164 ((nw k) * r_89) lo hi hRlo hRhi (by omega) (by unfold lR; omega) hlh (by omega) h150_1 (fun _ => by omega)) (jAt_1 0 rfl) ⟨rfl, hY_X2_arrive⟩ q2121 q2123 qs64 q90 q2124 (jcut 4 [0, 1, 2, 3] (by decide) rfl rfl) ⟨by omega, by omega, by omega, by omega, by omega, by omega⟩ (Nat.le_of_ble_eq_true rfl) dX2_spread_180 rfl (fun v_ w_ hp => ?_)
                obtain ⟨nx2_180, ls2_180, wn2_180, h180_1, rfl, rfl⟩ := hp
                show jJ X u 8 [[(y0, jO 1 [iI th, iI n, iI gr, iI pw, .ref aT, iI po, iI pr, iI ix, iI sd, iI gn, iI tk, iI ln, .ref aX, iI zs, iI zl, iI za, iI zf, iI ze, iI zi, .ref aR, .ref aM, .ref aG, .ref aN, .ref aQ, lI ls2_180, lI wn2_180, .ref aO, .ref aS, .ref aH, .ref aU, lI sc, iI zc, .ref aW, lI al, lI nr, lI dr, iI bp, lI ba, lI bb, lI hh])], [(aQ, cJ u 124 nx2_180)], [(aT, cI u 24 tb)], [(aN, cJ u 124 nw)]] [(7, iI r_89), (6, iI r_80), (5, iI (k % 4)), (0, .ref y0), (1, iI lv), (2, iI lo), (3, iI hi), (4, iI k)] 0 0 183 []
                refine j_iinc G 7 rfl [(4, iI (k + 1)), (7, iI r_89), (6, iI r_80), (5, iI (k % 4)), (0, .ref y0), (1, iI lv), (2, iI lo), (3, iI hi)] rfl (by decide) dX2_spread_183 ?_
                refine j_goto 51 G dX2_spread_186 (by decide) ?_
                refine j_lv [4, 5, 6, 7, 0] rfl ?_
                refine j_ws (ws' := [[(y0, jO 1 [iI th, iI n, iI gr, iI pw, .ref aT, iI po, iI pr, iI ix, iI sd, iI gn, iI tk, iI ln, .ref aX, iI zs, iI zl, iI za, iI zf, iI ze, iI zi, .ref aR, .ref aM, .ref aG, .ref aN, .ref aQ, lI ls2_180, lI wn2_180, .ref aO, .ref aS, .ref aH, .ref aU, lI sc, iI zc, .ref aW, lI al, lI nr, lI dr, iI bp, lI ba, lI bb, lI hh])], [(aT, cI u 24 tb)], [(aN, cJ u 124 nw)], [(aQ, cJ u 124 nx2_180)]]) (jperm 4 [0, 2, 3, 1] (by decide) rfl rfl) ?_
                exact ih_L51 (j + 1) nx2_180 (k + 1) ls2_180 wn2_180 (by (try unfold iR at *); omega) (by (try unfold iR at *); omega) (by rw [cF_s g2 hna (by omega) hDk h105_1 h164_1 h80_1 h89_1]; exact h180_1) (by (try unfold iR at *); omega)
        refine j_lv [1, 2, 3, 4, 0] rfl ?_
        exact L51 125 0 f 0 (ls * 10) (wn * 10) (by omega) rfl (cTw_F0 hW (fun q h0 h1 => g3 q h0 (by omega))) (by omega)
      · skip
        refine j_aload_n G 0 rfl dX2_spread_10 ?_
        refine j_get G FX2 (jAt_1 0 rfl) 23 (by decide) q1867 rfl dX2_spread_11 ?_
        refine j_iload G 4 rfl dX2_spread_14 ?_
        refine j_lconst 0 G rfl dX2_spread_16 ?_
        refine j_lastore (ws' := [[(y0, jO 1 [iI th, iI n, iI gr, iI pw, .ref aT, iI po, iI pr, iI ix, iI sd, iI gn, iI tk, iI ln, .ref aX, iI zs, iI zl, iI za, iI zf, iI ze, iI zi, .ref aR, .ref aM, .ref aG, .ref aN, .ref aQ, lI ls, lI wn, .ref aO, .ref aS, .ref aH, .ref aU, lI sc, iI zc, .ref aW, lI al, lI nr, lI dr, iI bp, lI ba, lI bb, lI hh])], [(aT, cI u 24 tb)], [(aN, cJ u 124 nw)], [(aQ, cJ u 124 (uZ f k 0))]]) G (jAt_1 3 rfl) (by (try unfold iR at *); omega) (by (try unfold iR at *); omega) (by (try unfold iR at *); omega) dX2_spread_17 rfl ?_
        refine j_iinc G 4 rfl [(4, iI (k + 1)), (0, .ref y0), (1, iI lv), (2, iI lo), (3, iI hi)] rfl (by decide) dX2_spread_18 ?_
        refine j_goto 3 G dX2_spread_21 (by decide) ?_
        refine j_lv [1, 2, 3, 4, 0] rfl ?_
        exact ih_L3 (j + 1) (uZ f k 0) (k + 1) (by (try unfold iR at *); omega) (by (try unfold iR at *); omega) (fun q h0 h1 => by unfold uZ; split <;> first | rfl | exact g3 q h0 (by omega)) (by (try unfold iR at *); omega)
  refine j_lv [1, 2, 3, 4, 0] rfl ?_
  exact L3 125 0 nx 0 (by (try unfold iR at *); omega) rfl (fun q h0 h1 => absurd h1 (by omega)) (by (try unfold iR at *); omega)
