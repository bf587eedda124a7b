theorem hY_X2_go : jY yX2_go 3 := ⟨by decide +kernel, by decide +kernel, by decide +kernel⟩
set_option maxHeartbeats 4000000 in
set_option maxRecDepth 100000 in
theorem c_X2_go (l : Launch) (u : jU) (y0 aT aX aR aM aG aN aQ aO aS aH aU aW : Nat) (th n gr pw po pr ix sd gn tk ln zs zl za zf ze zi zc bp ls wn sc al nr dr ba bb hh : Int) (tb : Int → Int) (nw : Int → Int) (nx : Int → Int) (t lo hi : Int) (hn : 2 ≤ n ∧ n ≤ 4) (hg : 0 ≤ gr ∧ gr ≤ 7) (hw : 0 ≤ pw ∧ pw ≤ 15) (hp : sProg pr = 1) (hT : wT (tB tb) (tF tb)) (hq : wQ (n, gr, pw, pr, tB tb, tF tb) (po, ix, sd)) (hRlo : iR lo) (hRhi : iR hi) (ht : 0 ≤ t ∧ t ≤ 15) (hlh : lo < 0 ∧ 0 < hi) : jC l u yX2_go cX2_go 5 none 3 70 0 0 [.ref y0, iI t, iI lo, iI hi] [[(y0, jO 1 [iI th, iI n, iI gr, iI pw, .ref aT, iI po, iI pr, iI ix, iI sd, iI gn, iI tk, iI ln, .ref aX, iI zs, iI zl, iI za, iI zf, iI ze, iI zi, .ref aR, .ref aM, .ref aG, .ref aN, .ref aQ, lI ls, lI wn, .ref aO, .ref aS, .ref aH, .ref aU, lI sc, iI zc, .ref aW, lI al, lI nr, lI dr, iI bp, lI ba, lI bb, lI hh])], [(aT, cI u 24 tb)], [(aN, cJ u 124 nw)], [(aQ, cJ u 124 nx)]] (fun v_ w_ => ∃ (nw2 nx2 : Int → Int) (ls2 wn2 : Int), cTw lo hi (cGo lo hi (n, gr, pw, pr, tB tb, tF tb) (po, ix, sd) t.toNat) nw2 ls2 wn2 ∧ v_ = none ∧ w_ = [[(y0, jO 1 [iI th, iI n, iI gr, iI pw, .ref aT, iI po, iI pr, iI ix, iI sd, iI gn, iI tk, iI ln, .ref aX, iI zs, iI zl, iI za, iI zf, iI ze, iI zi, .ref aR, .ref aM, .ref aG, .ref aN, .ref aQ, lI ls2, lI wn2, .ref aO, .ref aS, .ref aH, .ref aU, lI sc, iI zc, .ref aW, lI al, lI nr, lI dr, iI bp, lI ba, lI bb, lI hh])], [(aT, cI u 24 tb)], [(aN, cJ u 124 nw2)], [(aQ, cJ u 124 nx2)]]) := by
  refine jC.of "FlashRatchetModel" (by decide +kernel) rfl (Nat.le_of_ble_eq_true rfl) [(0, .ref y0), (1, iI t), (2, iI lo), (3, iI hi)] rfl (fun X G E I => ?_)
  have hpi := sProg_in hp
  have hpl := sLen_prog hp
  obtain ⟨hq_1, hq_2, hq_3, hq_4, hq_5, hq_6⟩ := id hq
  refine j_iconst G dX2_go_0 ?_
  refine j_istore G [(4, iI 0), (0, .ref y0), (1, iI t), (2, iI lo), (3, iI hi)] rfl (by decide) dX2_go_1 ?_
  have L3 : ∀ (m : Nat) (j : Nat) (f : Int → Int) (k : Int), 124 - j < m → k = j → (∀ q : Int, 0 ≤ q → q < k → f q = 0) → j ≤ 124 → jJ X u 5 [[(y0, jO 1 [iI th, iI n, iI gr, iI pw, .ref aT, iI po, iI pr, iI ix, iI sd, iI gn, iI tk, iI ln, .ref aX, iI zs, iI zl, iI za, iI zf, iI ze, iI zi, .ref aR, .ref aM, .ref aG, .ref aN, .ref aQ, lI ls, lI wn, .ref aO, .ref aS, .ref aH, .ref aU, lI sc, iI zc, .ref aW, lI al, lI nr, lI dr, iI bp, lI ba, lI bb, lI hh])], [(aT, cI u 24 tb)], [(aN, cJ u 124 f)], [(aQ, cJ u 124 nx)]] [(0, .ref y0), (1, iI t), (2, iI lo), (3, iI hi), (4, iI k)] 0 0 3 [] := by
    intro m
    induction m with
    | zero =>
      intro j f k g1 g2 g3 g4
      exfalso
      omega
    | succ m ih_L3 =>
      intro j f k g1 g2 g3 g4
      refine j_iload G 4 rfl dX2_go_3 ?_
      refine j_bipush G (by decide) dX2_go_5 ?_
      refine j_icmp_ge 24 G (by unfold iR at *; omega) (by unfold iR; omega) dX2_go_7 (by decide) (fun c_7 => ?_) (fun c_7 => ?_)
      · skip
        refine j_aload_n G 0 rfl dX2_go_24 ?_
        refine j_get G FX2 (jAt_1 0 rfl) 22 (by decide) q1866 rfl dX2_go_25 ?_
        refine j_bipush G (by decide) dX2_go_28 ?_
        refine j_aload_n G 0 rfl dX2_go_30 ?_
        refine j_get G FX2 (jAt_1 0 rfl) 5 (by decide) q1849 rfl dX2_go_31 ?_
        refine j_iadd G dX2_go_34 ?_
        refine j_lconst 1 G rfl dX2_go_35 ?_
        refine j_lastore (ws' := [[(y0, jO 1 [iI th, iI n, iI gr, iI pw, .ref aT, iI po, iI pr, iI ix, iI sd, iI gn, iI tk, iI ln, .ref aX, iI zs, iI zl, iI za, iI zf, iI ze, iI zi, .ref aR, .ref aM, .ref aG, .ref aN, .ref aQ, lI ls, lI wn, .ref aO, .ref aS, .ref aH, .ref aU, lI sc, iI zc, .ref aW, lI al, lI nr, lI dr, iI bp, lI ba, lI bb, lI hh])], [(aT, cI u 24 tb)], [(aN, cJ u 124 (uZ f (60 + po) 1))], [(aQ, cJ u 124 nx)]]) G (jAt_1 2 rfl) (by (try unfold iR at *); omega) (by (try unfold iR at *); omega) (by (try unfold iR at *); omega) dX2_go_36 rfl ?_
        refine j_aload_n G 0 rfl dX2_go_37 ?_
        refine j_lconst 0 G rfl dX2_go_38 ?_
        refine j_put (ws' := [[(y0, jO 1 [iI th, iI n, iI gr, iI pw, .ref aT, iI po, iI pr, iI ix, iI sd, iI gn, iI tk, iI ln, .ref aX, iI zs, iI zl, iI za, iI zf, iI ze, iI zi, .ref aR, .ref aM, .ref aG, .ref aN, .ref aQ, lI 0, lI wn, .ref aO, .ref aS, .ref aH, .ref aU, lI sc, iI zc, .ref aW, lI al, lI nr, lI dr, iI bp, lI ba, lI bb, lI hh])], [(aT, cI u 24 tb)], [(aN, cJ u 124 (uZ f (60 + po) 1))], [(aQ, cJ u 124 nx)]]) G FX2 (jAt_1 0 rfl) 24 (by decide) q1868 rfl rfl rfl (Nat.le_of_ble_eq_true rfl) dX2_go_39 rfl ?_
        refine j_aload_n G 0 rfl dX2_go_42 ?_
        refine j_lconst 0 G rfl dX2_go_43 ?_
        refine j_put (ws' := [[(y0, jO 1 [iI th, iI n, iI gr, iI pw, .ref aT, iI po, iI pr, iI ix, iI sd, iI gn, iI tk, iI ln, .ref aX, iI zs, iI zl, iI za, iI zf, iI ze, iI zi, .ref aR, .ref aM, .ref aG, .ref aN, .ref aQ, lI 0, lI 0, .ref aO, .ref aS, .ref aH, .ref aU, lI sc, iI zc, .ref aW, lI al, lI nr, lI dr, iI bp, lI ba, lI bb, lI hh])], [(aT, cI u 24 tb)], [(aN, cJ u 124 (uZ f (60 + po) 1))], [(aQ, cJ u 124 nx)]]) G FX2 (jAt_1 0 rfl) 25 (by decide) q1869 rfl rfl rfl (Nat.le_of_ble_eq_true rfl) dX2_go_44 rfl ?_
        refine j_iconst G dX2_go_47 ?_
        refine j_istore G [(4, iI 0), (0, .ref y0), (1, iI t), (2, iI lo), (3, iI hi)] rfl (by decide) dX2_go_48 ?_
        have L50 : ∀ (m : Nat) (i : Nat) (f1 : Int → Int) (f2 : Int → Int) (k : Int) (lsb : Int) (wnb : Int), t.toNat - i < m → k = i → cTw lo hi (cGo lo hi (n, gr, pw, pr, tB tb, tF tb) (po, ix, sd) i) f1 lsb wnb → i ≤ t.toNat → jJ X u 5 [[(y0, jO 1 [iI th, iI n, iI gr, iI pw, .ref aT, iI po, iI pr, iI ix, iI sd, iI gn, iI tk, iI ln, .ref aX, iI zs, iI zl, iI za, iI zf, iI ze, iI zi, .ref aR, .ref aM, .ref aG, .ref aN, .ref aQ, lI lsb, lI wnb, .ref aO, .ref aS, .ref aH, .ref aU, lI sc, iI zc, .ref aW, lI al, lI nr, lI dr, iI bp, lI ba, lI bb, lI hh])], [(aT, cI u 24 tb)], [(aN, cJ u 124 f1)], [(aQ, cJ u 124 f2)]] [(0, .ref y0), (1, iI t), (2, iI lo), (3, iI hi), (4, iI k)] 0 0 50 [] := by
          intro m
          induction m with
          | zero =>
            intro i f1 f2 k lsb wnb g5 g6 g7 g8
            exfalso
            omega
          | succ m ih_L50 =>
            intro i f1 f2 k lsb wnb g5 g6 g7 g8
            refine j_iload G 4 rfl dX2_go_50 ?_
            refine j_iload_n G 1 rfl dX2_go_52 ?_
            refine j_icmp_ge 90 G (by unfold iR at *; omega) (by unfold iR at *; omega) dX2_go_53 (by decide) (fun c_53 => ?_) (fun c_53 => ?_)
            · skip
              have hi : t.toNat = i := by omega
              exact j_vret G E ⟨f1, f2, lsb, wnb, (by rw [hi]; exact g7), rfl, rfl⟩ ⟨by omega, by omega⟩ dX2_go_90
            · skip
              refine j_aload_n G 0 rfl dX2_go_56 ?_
              refine j_aload_n G 0 rfl dX2_go_57 ?_
              refine j_get G FX2 (jAt_1 0 rfl) 6 (by decide) q1850 rfl dX2_go_58 ?_
              refine j_aload_n G 0 rfl dX2_go_61 ?_
              refine j_get G FX2 (jAt_1 0 rfl) 7 (by decide) q1851 rfl dX2_go_62 ?_
              refine j_iload G 4 rfl dX2_go_65 ?_
              refine j_iadd G dX2_go_67 ?_
              refine j_aload_n G 0 rfl dX2_go_68 ?_
              refine j_get G FX2 (jAt_1 0 rfl) 6 (by decide) q1850 rfl dX2_go_69 ?_
              refine j_callS (wr := [[(y0, jO 1 [iI th, iI n, iI gr, iI pw, .ref aT, iI po, iI pr, iI ix, iI sd, iI gn, iI tk, iI ln, .ref aX, iI zs, iI zl, iI za, iI zf, iI ze, iI zi, .ref aR, .ref aM, .ref aG, .ref aN, .ref aQ, lI lsb, lI wnb, .ref aO, .ref aS, .ref aH, .ref aU, lI sc, iI zc, .ref aW, lI al, lI nr, lI dr, iI bp, lI ba, lI bb, lI hh])], [(aT, cI u 24 tb)], [(aN, cJ u 124 f1)], [(aQ, cJ u 124 f2)]]) (k' := 0) (n' := 0) G (c_X2_size l u pr (by unfold iR at *; omega)) hY_X2_size q2029 q2030 q90 q2031 (jcut 4 [0, 1, 2, 3] (by decide) rfl rfl) ⟨by omega, by omega, by omega, by omega, by omega, by omega⟩ (Nat.le_of_ble_eq_true rfl) dX2_go_72 rfl (fun v_ w_ hp => ?_)
              obtain ⟨r_72, h72_1, h72_2, rfl, rfl⟩ := hp
              show jJ X u 5 [[(y0, jO 1 [iI th, iI n, iI gr, iI pw, .ref aT, iI po, iI pr, iI ix, iI sd, iI gn, iI tk, iI ln, .ref aX, iI zs, iI zl, iI za, iI zf, iI ze, iI zi, .ref aR, .ref aM, .ref aG, .ref aN, .ref aQ, lI lsb, lI wnb, .ref aO, .ref aS, .ref aH, .ref aU, lI sc, iI zc, .ref aW, lI al, lI nr, lI dr, iI bp, lI ba, lI bb, lI hh])], [(aT, cI u 24 tb)], [(aN, cJ u 124 f1)], [(aQ, cJ u 124 f2)]] [(0, .ref y0), (1, iI t), (2, iI lo), (3, iI hi), (4, iI k)] 0 0 75 [iI r_72, iI (ix + k), iI pr, .ref y0]
              refine j_iremN G (by (try unfold iR at *); omega) (by (try unfold iR at *); omega) dX2_go_75 ?_
              refine j_callS (wr := [[(y0, jO 1 [iI th, iI n, iI gr, iI pw, .ref aT, iI po, iI pr, iI ix, iI sd, iI gn, iI tk, iI ln, .ref aX, iI zs, iI zl, iI za, iI zf, iI ze, iI zi, .ref aR, .ref aM, .ref aG, .ref aN, .ref aQ, lI lsb, lI wnb, .ref aO, .ref aS, .ref aH, .ref aU, lI sc, iI zc, .ref aW, lI al, lI nr, lI dr, iI bp, lI ba, lI bb, lI hh])], [(aT, cI u 24 tb)], [(aN, cJ u 124 f1)], [(aQ, cJ u 124 f2)]]) (k' := 0) (n' := 0) G (c_X2_leverAt l u pr ((ix + k) % r_72) hp (by rw [h72_1]; exact ⟨Int.emod_nonneg _ (by omega), Int.emod_lt_of_pos _ (by omega)⟩)) hY_X2_leverAt q2026 q2027 q90 q2028 (jcut 4 [0, 1, 2, 3] (by decide) rfl rfl) ⟨by omega, by omega, by omega, by omega, by omega, by omega⟩ (Nat.le_of_ble_eq_true rfl) dX2_go_76 rfl (fun v_ w_ hp => ?_)
              obtain ⟨r_76, h76_1, h76_2, rfl, rfl⟩ := hp
              show jJ X u 5 [[(y0, jO 1 [iI th, iI n, iI gr, iI pw, .ref aT, iI po, iI pr, iI ix, iI sd, iI gn, iI tk, iI ln, .ref aX, iI zs, iI zl, iI za, iI zf, iI ze, iI zi, .ref aR, .ref aM, .ref aG, .ref aN, .ref aQ, lI lsb, lI wnb, .ref aO, .ref aS, .ref aH, .ref aU, lI sc, iI zc, .ref aW, lI al, lI nr, lI dr, iI bp, lI ba, lI bb, lI hh])], [(aT, cI u 24 tb)], [(aN, cJ u 124 f1)], [(aQ, cJ u 124 f2)]] [(0, .ref y0), (1, iI t), (2, iI lo), (3, iI hi), (4, iI k)] 0 0 79 [iI r_76, .ref y0]
              refine j_iload_n G 2 rfl dX2_go_79 ?_
              refine j_iload_n G 3 rfl dX2_go_80 ?_
              refine j_callV (wr := []) (k' := 0) (n' := 0) G FX2 (c_X2_spread l u y0 aT aX aR aM aG aN aQ aO aS aH aU aW th n gr pw po pr ix sd gn tk ln zs zl za zf ze zi zc bp lsb wnb sc al nr dr ba bb hh tb f1 f2 (cGo lo hi (n, gr, pw, pr, tB tb, tF tb) (po, ix, sd) i) i r_76 lo hi hn hg hw hT hRlo hRhi h76_2 (by omega) (cGo_ok lo hi ⟨hn, hg, hw, hp, hT⟩ hq i (by omega)) (by omega) (cIn_go ⟨hn, hg, hw, hp, hT⟩ hq hlh i) g7) (jAt_1 0 rfl) ⟨rfl, hY_X2_spread⟩ q2108 q2110 qs61 q90 q2111 (jcut 4 [0, 1, 2, 3] (by decide) rfl rfl) ⟨by omega, by omega, by omega, by omega, by omega, by omega⟩ (Nat.le_of_ble_eq_true rfl) dX2_go_81 rfl (fun v_ w_ hp => ?_)
              obtain ⟨nw2_81, nx2_81, ls2_81, wn2_81, h81_1, rfl, rfl⟩ := hp
              show jJ X u 5 [[(y0, jO 1 [iI th, iI n, iI gr, iI pw, .ref aT, iI po, iI pr, iI ix, iI sd, iI gn, iI tk, iI ln, .ref aX, iI zs, iI zl, iI za, iI zf, iI ze, iI zi, .ref aR, .ref aM, .ref aG, .ref aN, .ref aQ, lI ls2_81, lI wn2_81, .ref aO, .ref aS, .ref aH, .ref aU, lI sc, iI zc, .ref aW, lI al, lI nr, lI dr, iI bp, lI ba, lI bb, lI hh])], [(aT, cI u 24 tb)], [(aN, cJ u 124 nw2_81)], [(aQ, cJ u 124 nx2_81)]] [(0, .ref y0), (1, iI t), (2, iI lo), (3, iI hi), (4, iI k)] 0 0 84 []
              have hu : 0 ≤ t := ht.1
              refine j_iinc G 4 rfl [(4, iI (k + 1)), (0, .ref y0), (1, iI t), (2, iI lo), (3, iI hi)] rfl (by decide) dX2_go_84 ?_
              refine j_goto 50 G dX2_go_87 (by decide) ?_
              refine j_lv [1, 2, 3, 4, 0] rfl ?_
              exact ih_L50 (i + 1) nw2_81 nx2_81 (k + 1) ls2_81 wn2_81 (by (try unfold iR at *); omega) (by (try unfold iR at *); omega) (by rw [h76_1, h72_1, g6] at h81_1; exact h81_1) (by (try unfold iR at *); omega)
        refine j_lv [1, 2, 3, 4, 0] rfl ?_
        exact L50 (t.toNat + 1) 0 (uZ f (60 + po) 1) nx 0 0 0 (by omega) rfl (cTw_Z hlh (by omega) (fun q h0 h1 => g3 q h0 (by omega))) (by omega)
      · skip
        refine j_aload_n G 0 rfl dX2_go_10 ?_
        refine j_get G FX2 (jAt_1 0 rfl) 22 (by decide) q1866 rfl dX2_go_11 ?_
        refine j_iload G 4 rfl dX2_go_14 ?_
        refine j_lconst 0 G rfl dX2_go_16 ?_
        refine j_lastore (ws' := [[(y0, jO 1 [iI th, iI n, iI gr, iI pw, .ref aT, iI po, iI pr, iI ix, iI sd, iI gn, iI tk, iI ln, .ref aX, iI zs, iI zl, iI za, iI zf, iI ze, iI zi, .ref aR, .ref aM, .ref aG, .ref aN, .ref aQ, lI ls, lI wn, .ref aO, .ref aS, .ref aH, .ref aU, lI sc, iI zc, .ref aW, lI al, lI nr, lI dr, iI bp, lI ba, lI bb, lI hh])], [(aT, cI u 24 tb)], [(aN, cJ u 124 (uZ f k 0))], [(aQ, cJ u 124 nx)]]) G (jAt_1 2 rfl) (by (try unfold iR at *); omega) (by (try unfold iR at *); omega) (by (try unfold iR at *); omega) dX2_go_17 rfl ?_
        refine j_iinc G 4 rfl [(4, iI (k + 1)), (0, .ref y0), (1, iI t), (2, iI lo), (3, iI hi)] rfl (by decide) dX2_go_18 ?_
        refine j_goto 3 G dX2_go_21 (by decide) ?_
        refine j_lv [1, 2, 3, 4, 0] rfl ?_
        exact ih_L3 (j + 1) (uZ f k 0) (k + 1) (by (try unfold iR at *); omega) (by (try unfold iR at *); omega) (fun q h0 h1 => by unfold uZ; split <;> first | rfl | exact g3 q h0 (by omega)) (by (try unfold iR at *); omega)
  refine j_lv [1, 2, 3, 4, 0] rfl ?_
  exact L3 125 0 nw 0 (by (try unfold iR at *); omega) rfl (fun q h0 h1 => absurd h1 (by omega)) (by (try unfold iR at *); omega)
theorem hY_X2_chanceAt : jY yX2_chanceAt 2 := ⟨by decide +kernel, by decide +kernel, by decide +kernel⟩
set_option maxHeartbeats 4000000 in
set_option maxRecDepth 100000 in
theorem c_X2_chanceAt (l : Launch) (u : jU) (y0 aT aX aR aM aG aN aQ aO aS aH aU aW : Nat) (th n gr pw po pr ix sd gn tk ln zs zl za zf ze zi zc bp ls wn sc al nr dr ba bb hh : Int) (tb : Int → Int) (nw : Int → Int) (nx : Int → Int) (t p : Int) (hn : 2 ≤ n ∧ n ≤ 4) (hg : 0 ≤ gr ∧ gr ≤ 7) (hw : 0 ≤ pw ∧ pw ≤ 15) (hp : sProg pr = 1) (hT : wT (tB tb) (tF tb)) (hq : wQ (n, gr, pw, pr, tB tb, tF tb) (po, ix, sd)) (ht : 0 ≤ t ∧ t ≤ 15) (hpp : 0 ≤ p ∧ p < n) : jC l u yX2_chanceAt cX2_chanceAt 6 (some .long) 4 94 0 0 [.ref y0, iI t, iI p] [[(y0, jO 1 [iI th, iI n, iI gr, iI pw, .ref aT, iI po, iI pr, iI ix, iI sd, iI gn, iI tk, iI ln, .ref aX, iI zs, iI zl, iI za, iI zf, iI ze, iI zi, .ref aR, .ref aM, .ref aG, .ref aN, .ref aQ, lI ls, lI wn, .ref aO, .ref aS, .ref aH, .ref aU, lI sc, iI zc, .ref aW, lI al, lI nr, lI dr, iI bp, lI ba, lI bb, lI hh])], [(aT, cI u 24 tb)], [(aN, cJ u 124 nw)], [(aQ, cJ u 124 nx)]] (fun v_ w_ => ∃ (nw2 nx2 : Int → Int) (ls2 wn2 : Int) (r : Int), r = cMany (cGo (-100) 100 (n, gr, pw, pr, tB tb, tF tb) (po, ix, sd) t.toNat) (-1000) 1000 p ∧ v_ = some (lI r) ∧ w_ = [[(y0, jO 1 [iI th, iI n, iI gr, iI pw, .ref aT, iI po, iI pr, iI ix, iI sd, iI gn, iI tk, iI ln, .ref aX, iI zs, iI zl, iI za, iI zf, iI ze, iI zi, .ref aR, .ref aM, .ref aG, .ref aN, .ref aQ, lI ls2, lI wn2, .ref aO, .ref aS, .ref aH, .ref aU, lI sc, iI zc, .ref aW, lI al, lI nr, lI dr, iI bp, lI ba, lI bb, lI hh])], [(aT, cI u 24 tb)], [(aN, cJ u 124 nw2)], [(aQ, cJ u 124 nx2)]]) := by
  refine jC.of "FlashRatchetModel" (by decide +kernel) rfl (Nat.le_of_ble_eq_true rfl) [(0, .ref y0), (1, iI t), (2, iI p)] rfl (fun X G E I => ?_)
  refine j_aload_n G 0 rfl dX2_chanceAt_0 ?_
  refine j_iload_n G 1 rfl dX2_chanceAt_1 ?_
  refine j_bipush G (by decide) dX2_chanceAt_2 ?_
  refine j_bipush G (by decide) dX2_chanceAt_4 ?_
  refine j_callV (wr := []) (k' := 0) (n' := 0) G FX2 (c_X2_go l u y0 aT aX aR aM aG aN aQ aO aS aH aU aW th n gr pw po pr ix sd gn tk ln zs zl za zf ze zi zc bp ls wn sc al nr dr ba bb hh tb nw nx t (-100) 100 hn hg hw hp hT hq (by unfold iR; omega) (by unfold iR; omega) ht (by omega)) (jAt_1 0 rfl) ⟨rfl, hY_X2_go⟩ q2104 q2106 qs60 q90 q2107 (jcut 4 [0, 1, 2, 3] (by decide) rfl rfl) ⟨by omega, by omega, by omega, by omega, by omega, by omega⟩ (Nat.le_of_ble_eq_true rfl) dX2_chanceAt_6 rfl (fun v_ w_ hp => ?_)
  obtain ⟨nw2_6, nx2_6, ls2_6, wn2_6, h6_1, rfl, rfl⟩ := hp
  show jJ X u 6 [[(y0, jO 1 [iI th, iI n, iI gr, iI pw, .ref aT, iI po, iI pr, iI ix, iI sd, iI gn, iI tk, iI ln, .ref aX, iI zs, iI zl, iI za, iI zf, iI ze, iI zi, .ref aR, .ref aM, .ref aG, .ref aN, .ref aQ, lI ls2_6, lI wn2_6, .ref aO, .ref aS, .ref aH, .ref aU, lI sc, iI zc, .ref aW, lI al, lI nr, lI dr, iI bp, lI ba, lI bb, lI hh])], [(aT, cI u 24 tb)], [(aN, cJ u 124 nw2_6)], [(aQ, cJ u 124 nx2_6)]] [(0, .ref y0), (1, iI t), (2, iI p)] 0 0 9 []
  have hnab : ∀ j, 0 ≤ j → j < 124 → nw2_6 j = (cGo (-100) 100 (n, gr, pw, pr, tB tb, tF tb) (po, ix, sd) t.toNat) j := fun j h0 h1 => by
    rw [h6_1.1 j h0 h1, if_neg (fun hh => by rcases hh with hh | hh <;> omega)]
  refine j_lconst 0 G rfl dX2_chanceAt_9 ?_
  refine j_lstore_n G [(3, lI 0), (0, .ref y0), (1, iI t), (2, iI p)] rfl (by decide) dX2_chanceAt_10 ?_
  refine j_iconst G dX2_chanceAt_11 ?_
  refine j_istore G [(5, iI 0), (3, lI 0), (0, .ref y0), (1, iI t), (2, iI p)] rfl (by decide) dX2_chanceAt_12 ?_
  have L14 : ∀ (m : Nat) (j : Nat) (s : Int) (k : Int), 31 - j < m → k = j → s = sumF (fun r => nw2_6 (4 * r + p)) j → j ≤ 31 → jJ X u 6 [[(y0, jO 1 [iI th, iI n, iI gr, iI pw, .ref aT, iI po, iI pr, iI ix, iI sd, iI gn, iI tk, iI ln, .ref aX, iI zs, iI zl, iI za, iI zf, iI ze, iI zi, .ref aR, .ref aM, .ref aG, .ref aN, .ref aQ, lI ls2_6, lI wn2_6, .ref aO, .ref aS, .ref aH, .ref aU, lI sc, iI zc, .ref aW, lI al, lI nr, lI dr, iI bp, lI ba, lI bb, lI hh])], [(aT, cI u 24 tb)], [(aN, cJ u 124 nw2_6)], [(aQ, cJ u 124 nx2_6)]] [(0, .ref y0), (1, iI t), (2, iI p), (3, lI s), (5, iI k)] 0 0 14 [] := by
    intro m
    induction m with
    | zero =>
      intro j s k g1 g2 g3 g4
      exfalso
      omega
    | succ m ih_L14 =>
      intro j s k g1 g2 g3 g4
      refine j_iload G 4 rfl dX2_chanceAt_14 ?_
      refine j_bipush G (by decide) dX2_chanceAt_16 ?_
      refine j_icmp_ge 41 G (by unfold iR at *; omega) (by unfold iR; omega) dX2_chanceAt_18 (by decide) (fun c_18 => ?_) (fun c_18 => ?_)
      · skip
        have hj : j = 31 := by omega
        subst hj
        refine j_lload_n G 3 rfl dX2_chanceAt_41 ?_
        exact j_lret G E ⟨nw2_6, nx2_6, ls2_6, wn2_6, s, (by rw [g3, cMany_at (by omega) (by omega) (by omega)]; exact sumF_c (fun i h0 h1 => hnab (4 * i + p) (by omega) (by omega))), rfl, rfl⟩ ⟨by omega, by omega⟩ dX2_chanceAt_42
      · skip
        refine j_lload_n G 3 rfl dX2_chanceAt_21 ?_
        refine j_aload_n G 0 rfl dX2_chanceAt_22 ?_
        refine j_get G FX2 (jAt_1 0 rfl) 22 (by decide) q1866 rfl dX2_chanceAt_23 ?_
        refine j_iconst G dX2_chanceAt_26 ?_
        refine j_iload G 4 rfl dX2_chanceAt_27 ?_
        refine j_imul G dX2_chanceAt_29 ?_
        refine j_iload_n G 2 rfl dX2_chanceAt_30 ?_
        refine j_iadd G dX2_chanceAt_31 ?_
        refine j_laload G (jAt_1 2 rfl) (by (try unfold iR at *); omega) (by (try unfold iR at *); omega) (by (try unfold iR at *); omega) dX2_chanceAt_32 ?_
        refine j_ladd G dX2_chanceAt_33 ?_
        refine j_lstore_n G [(3, lI (s + (nw2_6 ((4 * k) + p)))), (0, .ref y0), (1, iI t), (2, iI p), (5, iI k)] rfl (by decide) dX2_chanceAt_34 ?_
        refine j_iinc G 4 rfl [(5, iI (k + 1)), (3, lI (s + (nw2_6 ((4 * k) + p)))), (0, .ref y0), (1, iI t), (2, iI p)] rfl (by decide) dX2_chanceAt_35 ?_
        refine j_goto 14 G dX2_chanceAt_38 (by decide) ?_
        refine j_lv [2, 3, 4, 1, 0] rfl ?_
        exact ih_L14 (j + 1) (s + (nw2_6 ((4 * k) + p))) (k + 1) (by (try unfold iR at *); omega) (by (try unfold iR at *); omega) (by rw [g3, g2]; rfl) (by (try unfold iR at *); omega)
  refine j_lv [2, 3, 4, 1, 0] rfl ?_
  exact L14 32 0 0 0 (by omega) rfl rfl (by omega)
theorem hY_X2_chance : jY yX2_chance 2 := ⟨by decide +kernel, by decide +kernel, by decide +kernel⟩
set_option maxHeartbeats 4000000 in
set_option maxRecDepth 100000 in
theorem c_X2_chance (l : Launch) (u : jU) (y0 aT aX aR aM aG aN aQ aO aS aH aU aW : Nat) (th n gr pw po pr ix sd gn tk ln zs zl za zf ze zi zc bp ls wn sc al nr dr ba bb hh : Int) (tb : Int → Int) (nw : Int → Int) (nx : Int → Int) (t p : Int) (hRt : iR t) (hRp : iR p) (hn : 2 ≤ n ∧ n ≤ 4) (hg : 0 ≤ gr ∧ gr ≤ 7) (hw : 0 ≤ pw ∧ pw ≤ 15) (hp : sProg pr = 1) (hT : wT (tB tb) (tF tb)) (hq : wQ (n, gr, pw, pr, tB tb, tF tb) (po, ix, sd)) : jC l u yX2_chance cX2_chance 3 (some .long) 5 119 0 0 [.ref y0, iI t, iI p] [[(y0, jO 1 [iI th, iI n, iI gr, iI pw, .ref aT, iI po, iI pr, iI ix, iI sd, iI gn, iI tk, iI ln, .ref aX, iI zs, iI zl, iI za, iI zf, iI ze, iI zi, .ref aR, .ref aM, .ref aG, .ref aN, .ref aQ, lI ls, lI wn, .ref aO, .ref aS, .ref aH, .ref aU, lI sc, iI zc, .ref aW, lI al, lI nr, lI dr, iI bp, lI ba, lI bb, lI hh])], [(aT, cI u 24 tb)], [(aN, cJ u 124 nw)], [(aQ, cJ u 124 nx)]] (fun v_ w_ => (∃ (nw2 nx2 : Int → Int) (ls2 wn2 : Int) (r : Int), r = cMany (cGo (-100) 100 (n, gr, pw, pr, tB tb, tF tb) (po, ix, sd) t.toNat) (-1000) 1000 p ∧ (0 ≤ t ∧ t ≤ 15) ∧ (0 ≤ p ∧ p < n) ∧ v_ = some (lI r) ∧ w_ = [[(y0, jO 1 [iI 0, iI n, iI gr, iI pw, .ref aT, iI po, iI pr, iI ix, iI sd, iI gn, iI tk, iI ln, .ref aX, iI zs, iI zl, iI za, iI zf, iI ze, iI zi, .ref aR, .ref aM, .ref aG, .ref aN, .ref aQ, lI ls2, lI wn2, .ref aO, .ref aS, .ref aH, .ref aU, lI sc, iI zc, .ref aW, lI al, lI nr, lI dr, iI bp, lI ba, lI bb, lI hh])], [(aT, cI u 24 tb)], [(aN, cJ u 124 nw2)], [(aQ, cJ u 124 nx2)]]) ∨ ((¬ (0 ≤ t ∧ t ≤ 15)) ∧ v_ = some (lI 0) ∧ w_ = [[(y0, jO 1 [iI 1, iI n, iI gr, iI pw, .ref aT, iI po, iI pr, iI ix, iI sd, iI gn, iI tk, iI ln, .ref aX, iI zs, iI zl, iI za, iI zf, iI ze, iI zi, .ref aR, .ref aM, .ref aG, .ref aN, .ref aQ, lI ls, lI wn, .ref aO, .ref aS, .ref aH, .ref aU, lI sc, iI zc, .ref aW, lI al, lI nr, lI dr, iI bp, lI ba, lI bb, lI hh])], [(aT, cI u 24 tb)], [(aN, cJ u 124 nw)], [(aQ, cJ u 124 nx)]]) ∨ ((0 ≤ t ∧ t ≤ 15) ∧ (¬ (0 ≤ p ∧ p < n)) ∧ v_ = some (lI 0) ∧ w_ = [[(y0, jO 1 [iI 2, iI n, iI gr, iI pw, .ref aT, iI po, iI pr, iI ix, iI sd, iI gn, iI tk, iI ln, .ref aX, iI zs, iI zl, iI za, iI zf, iI ze, iI zi, .ref aR, .ref aM, .ref aG, .ref aN, .ref aQ, lI ls, lI wn, .ref aO, .ref aS, .ref aH, .ref aU, lI sc, iI zc, .ref aW, lI al, lI nr, lI dr, iI bp, lI ba, lI bb, lI hh])], [(aT, cI u 24 tb)], [(aN, cJ u 124 nw)], [(aQ, cJ u 124 nx)]])) := by
  refine jC.of "FlashRatchetModel" (by decide +kernel) rfl (Nat.le_of_ble_eq_true rfl) [(0, .ref y0), (1, iI t), (2, iI p)] rfl (fun X G E I => ?_)
  refine j_aload_n G 0 rfl dX2_chance_0 ?_
  refine j_iload_n G 1 rfl dX2_chance_1 ?_
  refine j_iconst G dX2_chance_2 ?_
  refine j_bipush G (by decide) dX2_chance_3 ?_
  refine j_callS (wr := [[(y0, jO 1 [iI th, iI n, iI gr, iI pw, .ref aT, iI po, iI pr, iI ix, iI sd, iI gn, iI tk, iI ln, .ref aX, iI zs, iI zl, iI za, iI zf, iI ze, iI zi, .ref aR, .ref aM, .ref aG, .ref aN, .ref aQ, lI ls, lI wn, .ref aO, .ref aS, .ref aH, .ref aU, lI sc, iI zc, .ref aW, lI al, lI nr, lI dr, iI bp, lI ba, lI bb, lI hh])], [(aT, cI u 24 tb)], [(aN, cJ u 124 nw)], [(aQ, cJ u 124 nx)]]) (k' := 0) (n' := 0) G (c_X2_within l u t 0 15 hRt (by unfold iR; omega) (by unfold iR; omega)) hY_X2_within q1973 q1974 q90 q1975 (jcut 4 [0, 1, 2, 3] (by decide) rfl rfl) ⟨by omega, by omega, by omega, by omega, by omega, by omega⟩ (Nat.le_of_ble_eq_true rfl) dX2_chance_5 rfl (fun v_ w_ hp => ?_)
  obtain ⟨r_5, h5_1, rfl, rfl⟩ := hp
  show jJ X u 3 [[(y0, jO 1 [iI th, iI n, iI gr, iI pw, .ref aT, iI po, iI pr, iI ix, iI sd, iI gn, iI tk, iI ln, .ref aX, iI zs, iI zl, iI za, iI zf, iI ze, iI zi, .ref aR, .ref aM, .ref aG, .ref aN, .ref aQ, lI ls, lI wn, .ref aO, .ref aS, .ref aH, .ref aU, lI sc, iI zc, .ref aW, lI al, lI nr, lI dr, iI bp, lI ba, lI bb, lI hh])], [(aT, cI u 24 tb)], [(aN, cJ u 124 nw)], [(aQ, cJ u 124 nx)]] [(0, .ref y0), (1, iI t), (2, iI p)] 0 0 8 [iI r_5, .ref y0]
  refine j_if_ne 15 G (by unfold iR at *; omega) dX2_chance_8 (by decide) (fun c_8 => ?_) (fun c_8 => ?_)
  · skip
    refine j_aload_n G 0 rfl dX2_chance_15 ?_
    refine j_iload_n G 2 rfl dX2_chance_16 ?_
    refine j_callV (wr := [[(aT, cI u 24 tb)], [(aN, cJ u 124 nw)], [(aQ, cJ u 124 nx)]]) (k' := 0) (n' := 0) G FX2 (c_X2_isPosition l u y0 aT aX aR aM aG aN aQ aO aS aH aU aW th n gr pw po pr ix sd gn tk ln zs zl za zf ze zi zc bp ls wn sc al nr dr ba bb hh p hRp hn) (jAt_1 0 rfl) ⟨rfl, hY_X2_isPosition⟩ q1983 q1985 qs44 q90 q1986 (jcut 4 [0, 1, 2, 3] (by decide) rfl rfl) ⟨by omega, by omega, by omega, by omega, by omega, by omega⟩ (Nat.le_of_ble_eq_true rfl) dX2_chance_17 rfl (fun v_ w_ hp => ?_)
    obtain ⟨r_17, h17_1, rfl, rfl⟩ := hp
    show jJ X u 3 [[(y0, jO 1 [iI th, iI n, iI gr, iI pw, .ref aT, iI po, iI pr, iI ix, iI sd, iI gn, iI tk, iI ln, .ref aX, iI zs, iI zl, iI za, iI zf, iI ze, iI zi, .ref aR, .ref aM, .ref aG, .ref aN, .ref aQ, lI ls, lI wn, .ref aO, .ref aS, .ref aH, .ref aU, lI sc, iI zc, .ref aW, lI al, lI nr, lI dr, iI bp, lI ba, lI bb, lI hh])], [(aT, cI u 24 tb)], [(aN, cJ u 124 nw)], [(aQ, cJ u 124 nx)]] [(0, .ref y0), (1, iI t), (2, iI p)] 0 0 20 [iI r_17, .ref y0]
    refine j_if_eq 27 G (by unfold iR at *; omega) dX2_chance_20 (by decide) (fun c_20 => ?_) (fun c_20 => ?_)
    · skip
      refine j_iconst G dX2_chance_27 ?_
      refine j_put (ws' := [[(y0, jO 1 [iI 2, iI n, iI gr, iI pw, .ref aT, iI po, iI pr, iI ix, iI sd, iI gn, iI tk, iI ln, .ref aX, iI zs, iI zl, iI za, iI zf, iI ze, iI zi, .ref aR, .ref aM, .ref aG, .ref aN, .ref aQ, lI ls, lI wn, .ref aO, .ref aS, .ref aH, .ref aU, lI sc, iI zc, .ref aW, lI al, lI nr, lI dr, iI bp, lI ba, lI bb, lI hh])], [(aT, cI u 24 tb)], [(aN, cJ u 124 nw)], [(aQ, cJ u 124 nx)]]) G FX2 (jAt_1 0 rfl) 0 (by decide) q1844 rfl rfl rfl (Nat.le_of_ble_eq_true rfl) dX2_chance_28 rfl ?_
      refine j_aload_n G 0 rfl dX2_chance_31 ?_
      refine j_get G FX2 (jAt_1 0 rfl) 0 (by decide) q1844 rfl dX2_chance_32 ?_
      refine j_if_le 42 G (by unfold iR; omega) dX2_chance_35 (by decide) (fun c_35 => ?_) (fun c_35 => ?_)
      · exact absurd c_35 (by decide)
      · skip
        refine j_lconst 0 G rfl dX2_chance_38 ?_
        refine j_goto 48 G dX2_chance_39 (by decide) ?_
        exact j_lret G E (Or.inr (Or.inr ⟨(by omega), (by omega), rfl, rfl⟩)) ⟨by omega, by omega⟩ dX2_chance_48
    · skip
      refine j_iconst G dX2_chance_23 ?_
      refine j_goto 28 G dX2_chance_24 (by decide) ?_
      refine j_put (ws' := [[(y0, jO 1 [iI 0, iI n, iI gr, iI pw, .ref aT, iI po, iI pr, iI ix, iI sd, iI gn, iI tk, iI ln, .ref aX, iI zs, iI zl, iI za, iI zf, iI ze, iI zi, .ref aR, .ref aM, .ref aG, .ref aN, .ref aQ, lI ls, lI wn, .ref aO, .ref aS, .ref aH, .ref aU, lI sc, iI zc, .ref aW, lI al, lI nr, lI dr, iI bp, lI ba, lI bb, lI hh])], [(aT, cI u 24 tb)], [(aN, cJ u 124 nw)], [(aQ, cJ u 124 nx)]]) G FX2 (jAt_1 0 rfl) 0 (by decide) q1844 rfl rfl rfl (Nat.le_of_ble_eq_true rfl) dX2_chance_28 rfl ?_
      refine j_aload_n G 0 rfl dX2_chance_31 ?_
      refine j_get G FX2 (jAt_1 0 rfl) 0 (by decide) q1844 rfl dX2_chance_32 ?_
      refine j_if_le 42 G (by unfold iR; omega) dX2_chance_35 (by decide) (fun c_35 => ?_) (fun c_35 => ?_)
      · skip
        refine j_aload_n G 0 rfl dX2_chance_42 ?_
        refine j_iload_n G 1 rfl dX2_chance_43 ?_
        refine j_iload_n G 2 rfl dX2_chance_44 ?_
        refine j_callV (wr := []) (k' := 0) (n' := 0) G FX2 (c_X2_chanceAt l u y0 aT aX aR aM aG aN aQ aO aS aH aU aW 0 n gr pw po pr ix sd gn tk ln zs zl za zf ze zi zc bp ls wn sc al nr dr ba bb hh tb nw nx t p hn hg hw hp hT hq (by omega) (by omega)) (jAt_1 0 rfl) ⟨rfl, hY_X2_chanceAt⟩ q2100 q2102 qs59 q90 q2103 (jcut 4 [0, 1, 2, 3] (by decide) rfl rfl) ⟨by omega, by omega, by omega, by omega, by omega, by omega⟩ (Nat.le_of_ble_eq_true rfl) dX2_chance_45 rfl (fun v_ w_ hp => ?_)
        obtain ⟨nw2_45, nx2_45, ls2_45, wn2_45, r_45, h45_1, rfl, rfl⟩ := hp
        show jJ X u 3 [[(y0, jO 1 [iI 0, iI n, iI gr, iI pw, .ref aT, iI po, iI pr, iI ix, iI sd, iI gn, iI tk, iI ln, .ref aX, iI zs, iI zl, iI za, iI zf, iI ze, iI zi, .ref aR, .ref aM, .ref aG, .ref aN, .ref aQ, lI ls2_45, lI wn2_45, .ref aO, .ref aS, .ref aH, .ref aU, lI sc, iI zc, .ref aW, lI al, lI nr, lI dr, iI bp, lI ba, lI bb, lI hh])], [(aT, cI u 24 tb)], [(aN, cJ u 124 nw2_45)], [(aQ, cJ u 124 nx2_45)]] [(0, .ref y0), (1, iI t), (2, iI p)] 0 0 48 [lI r_45]
        exact j_lret G E (Or.inl ⟨nw2_45, nx2_45, ls2_45, wn2_45, r_45, h45_1, (by omega), (by omega), rfl, rfl⟩) ⟨by omega, by omega⟩ dX2_chance_48
      · exact absurd c_35 (by decide)
  · skip
    refine j_iconst G dX2_chance_11 ?_
    refine j_goto 28 G dX2_chance_12 (by decide) ?_
    refine j_put (ws' := [[(y0, jO 1 [iI 1, iI n, iI gr, iI pw, .ref aT, iI po, iI pr, iI ix, iI sd, iI gn, iI tk, iI ln, .ref aX, iI zs, iI zl, iI za, iI zf, iI ze, iI zi, .ref aR, .ref aM, .ref aG, .ref aN, .ref aQ, lI ls, lI wn, .ref aO, .ref aS, .ref aH, .ref aU, lI sc, iI zc, .ref aW, lI al, lI nr, lI dr, iI bp, lI ba, lI bb, lI hh])], [(aT, cI u 24 tb)], [(aN, cJ u 124 nw)], [(aQ, cJ u 124 nx)]]) G FX2 (jAt_1 0 rfl) 0 (by decide) q1844 rfl rfl rfl (Nat.le_of_ble_eq_true rfl) dX2_chance_28 rfl ?_
    refine j_aload_n G 0 rfl dX2_chance_31 ?_
    refine j_get G FX2 (jAt_1 0 rfl) 0 (by decide) q1844 rfl dX2_chance_32 ?_
    refine j_if_le 42 G (by unfold iR; omega) dX2_chance_35 (by decide) (fun c_35 => ?_) (fun c_35 => ?_)
    · exact absurd c_35 (by decide)
    · skip
      refine j_lconst 0 G rfl dX2_chance_38 ?_
      refine j_goto 48 G dX2_chance_39 (by decide) ?_
      exact j_lret G E (Or.inr (Or.inl ⟨(by omega), rfl, rfl⟩)) ⟨by omega, by omega⟩ dX2_chance_48
theorem hY_X2_chanceFrom : jY yX2_chanceFrom 2 := ⟨by decide +kernel, by decide +kernel, by decide +kernel⟩
set_option maxHeartbeats 4000000 in
set_option maxRecDepth 100000 in
theorem c_X2_chanceFrom (l : Launch) (u : jU) (y0 aT aX aR aM aG aN aQ aO aS aH aU aW : Nat) (th n gr pw po pr ix sd gn tk ln zs zl za zf ze zi zc bp ls wn sc al nr dr ba bb hh : Int) (tb : Int → Int) (nw : Int → Int) (nx : Int → Int) (t e : Int) (hn : 2 ≤ n ∧ n ≤ 4) (hg : 0 ≤ gr ∧ gr ≤ 7) (hw : 0 ≤ pw ∧ pw ≤ 15) (hp : sProg pr = 1) (hT : wT (tB tb) (tF tb)) (hq : wQ (n, gr, pw, pr, tB tb, tF tb) (po, ix, sd)) (hRe : iR e) (ht : 0 ≤ t ∧ t ≤ 15) : jC l u yX2_chanceFrom cX2_chanceFrom 7 (some .long) 4 94 0 0 [.ref y0, iI t, iI e] [[(y0, jO 1 [iI th, iI n, iI gr, iI pw, .ref aT, iI po, iI pr, iI ix, iI sd, iI gn, iI tk, iI ln, .ref aX, iI zs, iI zl, iI za, iI zf, iI ze, iI zi, .ref aR, .ref aM, .ref aG, .ref aN, .ref aQ, lI ls, lI wn, .ref aO, .ref aS, .ref aH, .ref aU, lI sc, iI zc, .ref aW, lI al, lI nr, lI dr, iI bp, lI ba, lI bb, lI hh])], [(aT, cI u 24 tb)], [(aN, cJ u 124 nw)], [(aQ, cJ u 124 nx)]] (fun v_ w_ => ∃ (nw2 nx2 : Int → Int) (ls2 wn2 : Int) (r : Int), r = cMany (cGo (-100) 100 (n, gr, pw, pr, tB tb, tF tb) (po, ix, sd) t.toNat) e 2147483647 (-1) ∧ v_ = some (lI r) ∧ w_ = [[(y0, jO 1 [iI th, iI n, iI gr, iI pw, .ref aT, iI po, iI pr, iI ix, iI sd, iI gn, iI tk, iI ln, .ref aX, iI zs, iI zl, iI za, iI zf, iI ze, iI zi, .ref aR, .ref aM, .ref aG, .ref aN, .ref aQ, lI ls2, lI wn2, .ref aO, .ref aS, .ref aH, .ref aU, lI sc, iI zc, .ref aW, lI al, lI nr, lI dr, iI bp, lI ba, lI bb, lI hh])], [(aT, cI u 24 tb)], [(aN, cJ u 124 nw2)], [(aQ, cJ u 124 nx2)]]) := by
  refine jC.of "FlashRatchetModel" (by decide +kernel) rfl (Nat.le_of_ble_eq_true rfl) [(0, .ref y0), (1, iI t), (2, iI e)] rfl (fun X G E I => ?_)
  refine j_aload_n G 0 rfl dX2_chanceFrom_0 ?_
  refine j_iload_n G 1 rfl dX2_chanceFrom_1 ?_
  refine j_bipush G (by decide) dX2_chanceFrom_2 ?_
  refine j_bipush G (by decide) dX2_chanceFrom_4 ?_
  refine j_callV (wr := []) (k' := 0) (n' := 0) G FX2 (c_X2_go l u y0 aT aX aR aM aG aN aQ aO aS aH aU aW th n gr pw po pr ix sd gn tk ln zs zl za zf ze zi zc bp ls wn sc al nr dr ba bb hh tb nw nx t (-100) 100 hn hg hw hp hT hq (by unfold iR; omega) (by unfold iR; omega) ht (by omega)) (jAt_1 0 rfl) ⟨rfl, hY_X2_go⟩ q2104 q2106 qs60 q90 q2107 (jcut 4 [0, 1, 2, 3] (by decide) rfl rfl) ⟨by omega, by omega, by omega, by omega, by omega, by omega⟩ (Nat.le_of_ble_eq_true rfl) dX2_chanceFrom_6 rfl (fun v_ w_ hp => ?_)
  obtain ⟨nw2_6, nx2_6, ls2_6, wn2_6, h6_1, rfl, rfl⟩ := hp
  show jJ X u 7 [[(y0, jO 1 [iI th, iI n, iI gr, iI pw, .ref aT, iI po, iI pr, iI ix, iI sd, iI gn, iI tk, iI ln, .ref aX, iI zs, iI zl, iI za, iI zf, iI ze, iI zi, .ref aR, .ref aM, .ref aG, .ref aN, .ref aQ, lI ls2_6, lI wn2_6, .ref aO, .ref aS, .ref aH, .ref aU, lI sc, iI zc, .ref aW, lI al, lI nr, lI dr, iI bp, lI ba, lI bb, lI hh])], [(aT, cI u 24 tb)], [(aN, cJ u 124 nw2_6)], [(aQ, cJ u 124 nx2_6)]] [(0, .ref y0), (1, iI t), (2, iI e)] 0 0 9 []
  have hnab : ∀ j, 0 ≤ j → j < 124 → nw2_6 j = (cGo (-100) 100 (n, gr, pw, pr, tB tb, tF tb) (po, ix, sd) t.toNat) j := fun j h0 h1 => by
    rw [h6_1.1 j h0 h1, if_neg (fun hh => by rcases hh with hh | hh <;> omega)]
  refine j_lconst 0 G rfl dX2_chanceFrom_9 ?_
  refine j_lstore_n G [(3, lI 0), (0, .ref y0), (1, iI t), (2, iI e)] rfl (by decide) dX2_chanceFrom_10 ?_
  refine j_iconst G dX2_chanceFrom_11 ?_
  refine j_istore G [(5, iI 0), (3, lI 0), (0, .ref y0), (1, iI t), (2, iI e)] rfl (by decide) dX2_chanceFrom_12 ?_
  have L14 : ∀ (m : Nat) (j : Nat) (s : Int) (k : Int), 31 - j < m → k = j → (s = sumF (fun r => if e ≤ r - 15 ∧ r - 15 ≤ 2147483647 then sumF (fun q => nw2_6 (4 * r + q)) 4 else 0) j) → j ≤ 31 → jJ X u 7 [[(y0, jO 1 [iI th, iI n, iI gr, iI pw, .ref aT, iI po, iI pr, iI ix, iI sd, iI gn, iI tk, iI ln, .ref aX, iI zs, iI zl, iI za, iI zf, iI ze, iI zi, .ref aR, .ref aM, .ref aG, .ref aN, .ref aQ, lI ls2_6, lI wn2_6, .ref aO, .ref aS, .ref aH, .ref aU, lI sc, iI zc, .ref aW, lI al, lI nr, lI dr, iI bp, lI ba, lI bb, lI hh])], [(aT, cI u 24 tb)], [(aN, cJ u 124 nw2_6)], [(aQ, cJ u 124 nx2_6)]] [(0, .ref y0), (1, iI t), (2, iI e), (3, lI s), (5, iI k)] 0 0 14 [] := by
    intro m
    induction m with
    | zero =>
      intro j s k g1 g2 g3 g4
      exfalso
      omega
    | succ m ih_L14 =>
      intro j s k g1 g2 g3 g4
      refine j_iload G 4 rfl dX2_chanceFrom_14 ?_
      refine j_bipush G (by decide) dX2_chanceFrom_16 ?_
      refine j_icmp_ge 66 G (by unfold iR at *; omega) (by unfold iR; omega) dX2_chanceFrom_18 (by decide) (fun c_18 => ?_) (fun c_18 => ?_)
      · skip
        have hj : j = 31 := by omega
        subst hj
        refine j_lload_n G 3 rfl dX2_chanceFrom_66 ?_
        exact j_lret G E ⟨nw2_6, nx2_6, ls2_6, wn2_6, s, (by
          rw [g3, cMany_row]
          refine sumF_c (fun i h0 h1 => ?_)
          rw [sumF_c (f := fun q => nw2_6 (4 * i + q)) (g := fun q => (cGo (-100) 100 (n, gr, pw, pr, tB tb, tF tb) (po, ix, sd) t.toNat) (4 * i + q)) (fun q a b => hnab _ (by omega) (by omega))]), rfl, rfl⟩ ⟨by omega, by omega⟩ dX2_chanceFrom_67
      · skip
        refine j_iconst G dX2_chanceFrom_21 ?_
        refine j_istore G [(6, iI 0), (0, .ref y0), (1, iI t), (2, iI e), (3, lI s), (5, iI k)] rfl (by decide) dX2_chanceFrom_22 ?_
        have L24 : ∀ (m : Nat) (i : Nat) (s1 : Int) (p : Int), 4 - i < m → p = i → s1 = s + sumF (fun q => nw2_6 (4 * k + q)) i → (i ≤ 4 ∧ (0 < i → e ≤ k - 15)) → jJ X u 7 [[(y0, jO 1 [iI th, iI n, iI gr, iI pw, .ref aT, iI po, iI pr, iI ix, iI sd, iI gn, iI tk, iI ln, .ref aX, iI zs, iI zl, iI za, iI zf, iI ze, iI zi, .ref aR, .ref aM, .ref aG, .ref aN, .ref aQ, lI ls2_6, lI wn2_6, .ref aO, .ref aS, .ref aH, .ref aU, lI sc, iI zc, .ref aW, lI al, lI nr, lI dr, iI bp, lI ba, lI bb, lI hh])], [(aT, cI u 24 tb)], [(aN, cJ u 124 nw2_6)], [(aQ, cJ u 124 nx2_6)]] [(0, .ref y0), (1, iI t), (2, iI e), (3, lI s1), (5, iI k), (6, iI p)] 0 0 24 [] := by
          intro m
          induction m with
          | zero =>
            intro i s1 p g5 g6 g7 g8
            exfalso
            omega
          | succ m ih_L24 =>
            intro i s1 p g5 g6 g7 g8
            refine j_iload G 5 rfl dX2_chanceFrom_24 ?_
            refine j_iconst G dX2_chanceFrom_26 ?_
            refine j_icmp_ge 60 G (by unfold iR at *; omega) (by unfold iR; omega) dX2_chanceFrom_27 (by decide) (fun c_27 => ?_) (fun c_27 => ?_)
            · skip
              have hsj : sumF (fun r => if e ≤ r - 15 ∧ r - 15 ≤ 2147483647 then sumF (fun q => nw2_6 (4 * r + q)) 4 else 0) (j + 1) = sumF (fun r => if e ≤ r - 15 ∧ r - 15 ≤ 2147483647 then sumF (fun q => nw2_6 (4 * r + q)) 4 else 0) j + (if e ≤ k - 15 ∧ k - 15 ≤ 2147483647 then sumF (fun q => nw2_6 (4 * k + q)) 4 else 0) := by rw [g2]; rfl
              have g9 : s1 = sumF (fun r => if e ≤ r - 15 ∧ r - 15 ≤ 2147483647 then sumF (fun q => nw2_6 (4 * r + q)) 4 else 0) j + (if e ≤ k - 15 ∧ k - 15 ≤ 2147483647 then sumF (fun q => nw2_6 (4 * k + q)) 4 else 0) := by
                by_cases hi : i = 4
                · subst hi
                  rw [g7, g3, if_pos (by omega)]
                · have hi0 : i = 0 := by omega
                  subst hi0
                  rw [g7, g3, if_neg (by omega)]
                  rfl
              refine j_iinc G 4 rfl [(5, iI (k + 1)), (0, .ref y0), (1, iI t), (2, iI e), (3, lI s1), (6, iI p)] rfl (by decide) dX2_chanceFrom_60 ?_
              refine j_goto 14 G dX2_chanceFrom_63 (by decide) ?_
              refine j_lv [1, 2, 3, 4, 0] rfl ?_
              exact ih_L14 (j + 1) s1 (k + 1) (by (try unfold iR at *); omega) (by (try unfold iR at *); omega) (by rw [g9, hsj]) (by (try unfold iR at *); omega)
            · skip
              refine j_iload G 4 rfl dX2_chanceFrom_30 ?_
              refine j_bipush G (by decide) dX2_chanceFrom_32 ?_
              refine j_isub G dX2_chanceFrom_34 ?_
              refine j_iload_n G 2 rfl dX2_chanceFrom_35 ?_
              refine j_icmp_lt 60 G (by unfold iR at *; omega) hRe dX2_chanceFrom_36 (by decide) (fun c_36 => ?_) (fun c_36 => ?_)
              · skip
                have hsj : sumF (fun r => if e ≤ r - 15 ∧ r - 15 ≤ 2147483647 then sumF (fun q => nw2_6 (4 * r + q)) 4 else 0) (j + 1) = sumF (fun r => if e ≤ r - 15 ∧ r - 15 ≤ 2147483647 then sumF (fun q => nw2_6 (4 * r + q)) 4 else 0) j + (if e ≤ k - 15 ∧ k - 15 ≤ 2147483647 then sumF (fun q => nw2_6 (4 * k + q)) 4 else 0) := by rw [g2]; rfl
                have g9 : s1 = sumF (fun r => if e ≤ r - 15 ∧ r - 15 ≤ 2147483647 then sumF (fun q => nw2_6 (4 * r + q)) 4 else 0) j + (if e ≤ k - 15 ∧ k - 15 ≤ 2147483647 then sumF (fun q => nw2_6 (4 * k + q)) 4 else 0) := by
                  by_cases hi : i = 4
                  · subst hi
                    rw [g7, g3, if_pos (by omega)]
                  · have hi0 : i = 0 := by omega
                    subst hi0
                    rw [g7, g3, if_neg (by omega)]
                    rfl
                refine j_iinc G 4 rfl [(5, iI (k + 1)), (0, .ref y0), (1, iI t), (2, iI e), (3, lI s1), (6, iI p)] rfl (by decide) dX2_chanceFrom_60 ?_
                refine j_goto 14 G dX2_chanceFrom_63 (by decide) ?_
                refine j_lv [1, 2, 3, 4, 0] rfl ?_
                exact ih_L14 (j + 1) s1 (k + 1) (by (try unfold iR at *); omega) (by (try unfold iR at *); omega) (by rw [g9, hsj]) (by (try unfold iR at *); omega)
              · skip
                refine j_lload_n G 3 rfl dX2_chanceFrom_39 ?_
                refine j_aload_n G 0 rfl dX2_chanceFrom_40 ?_
                refine j_get G FX2 (jAt_1 0 rfl) 22 (by decide) q1866 rfl dX2_chanceFrom_41 ?_
                refine j_iconst G dX2_chanceFrom_44 ?_
                refine j_iload G 4 rfl dX2_chanceFrom_45 ?_
                refine j_imul G dX2_chanceFrom_47 ?_
                refine j_iload G 5 rfl dX2_chanceFrom_48 ?_
                refine j_iadd G dX2_chanceFrom_50 ?_
                refine j_laload G (jAt_1 2 rfl) (by (try unfold iR at *); omega) (by (try unfold iR at *); omega) (by (try unfold iR at *); omega) dX2_chanceFrom_51 ?_
                refine j_ladd G dX2_chanceFrom_52 ?_
                refine j_lstore_n G [(3, lI (s1 + (nw2_6 ((4 * k) + p)))), (0, .ref y0), (1, iI t), (2, iI e), (5, iI k), (6, iI p)] rfl (by decide) dX2_chanceFrom_53 ?_
                refine j_iinc G 5 rfl [(6, iI (p + 1)), (3, lI (s1 + (nw2_6 ((4 * k) + p)))), (0, .ref y0), (1, iI t), (2, iI e), (5, iI k)] rfl (by decide) dX2_chanceFrom_54 ?_
                refine j_goto 24 G dX2_chanceFrom_57 (by decide) ?_
                refine j_lv [2, 3, 4, 1, 5, 0] rfl ?_
                exact ih_L24 (i + 1) (s1 + (nw2_6 ((4 * k) + p))) (p + 1) (by (try unfold iR at *); omega) (by (try unfold iR at *); omega) (by rw [g7, g6, Int.add_assoc]; rfl) (by omega)
        refine j_lv [1, 2, 3, 4, 5, 0] rfl ?_
        exact L24 5 0 s 0 (by omega) rfl (Int.add_zero s).symm (by omega)
  refine j_lv [2, 3, 4, 1, 0] rfl ?_
  exact L14 32 0 0 0 (by omega) rfl rfl (by omega)
theorem hY_X2_chanceOfGain : jY yX2_chanceOfGain 2 := ⟨by decide +kernel, by decide +kernel, by decide +kernel⟩
set_option maxHeartbeats 4000000 in
set_option maxRecDepth 100000 in
theorem c_X2_chanceOfGain (l : Launch) (u : jU) (y0 aT aX aR aM aG aN aQ aO aS aH aU aW : Nat) (th n gr pw po pr ix sd gn tk ln zs zl za zf ze zi zc bp ls wn sc al nr dr ba bb hh : Int) (tb : Int → Int) (nw : Int → Int) (nx : Int → Int) (t e : Int) (hRt : iR t) (hRe : iR e) (hn : 2 ≤ n ∧ n ≤ 4) (hg : 0 ≤ gr ∧ gr ≤ 7) (hw : 0 ≤ pw ∧ pw ≤ 15) (hp : sProg pr = 1) (hT : wT (tB tb) (tF tb)) (hq : wQ (n, gr, pw, pr, tB tb, tF tb) (po, ix, sd)) : jC l u yX2_chanceOfGain cX2_chanceOfGain 3 (some .long) 5 120 0 0 [.ref y0, iI t, iI e] [[(y0, jO 1 [iI th, iI n, iI gr, iI pw, .ref aT, iI po, iI pr, iI ix, iI sd, iI gn, iI tk, iI ln, .ref aX, iI zs, iI zl, iI za, iI zf, iI ze, iI zi, .ref aR, .ref aM, .ref aG, .ref aN, .ref aQ, lI ls, lI wn, .ref aO, .ref aS, .ref aH, .ref aU, lI sc, iI zc, .ref aW, lI al, lI nr, lI dr, iI bp, lI ba, lI bb, lI hh])], [(aT, cI u 24 tb)], [(aN, cJ u 124 nw)], [(aQ, cJ u 124 nx)]] (fun v_ w_ => (∃ (nw2 nx2 : Int → Int) (ls2 wn2 : Int) (r : Int), r = cMany (cGo (-100) 100 (n, gr, pw, pr, tB tb, tF tb) (po, ix, sd) t.toNat) e 2147483647 (-1) ∧ (0 ≤ t ∧ t ≤ 15) ∧ v_ = some (lI r) ∧ w_ = [[(y0, jO 1 [iI 0, iI n, iI gr, iI pw, .ref aT, iI po, iI pr, iI ix, iI sd, iI gn, iI tk, iI ln, .ref aX, iI zs, iI zl, iI za, iI zf, iI ze, iI zi, .ref aR, .ref aM, .ref aG, .ref aN, .ref aQ, lI ls2, lI wn2, .ref aO, .ref aS, .ref aH, .ref aU, lI sc, iI zc, .ref aW, lI al, lI nr, lI dr, iI bp, lI ba, lI bb, lI hh])], [(aT, cI u 24 tb)], [(aN, cJ u 124 nw2)], [(aQ, cJ u 124 nx2)]]) ∨ ((¬ (0 ≤ t ∧ t ≤ 15)) ∧ v_ = some (lI 0) ∧ w_ = [[(y0, jO 1 [iI 1, iI n, iI gr, iI pw, .ref aT, iI po, iI pr, iI ix, iI sd, iI gn, iI tk, iI ln, .ref aX, iI zs, iI zl, iI za, iI zf, iI ze, iI zi, .ref aR, .ref aM, .ref aG, .ref aN, .ref aQ, lI ls, lI wn, .ref aO, .ref aS, .ref aH, .ref aU, lI sc, iI zc, .ref aW, lI al, lI nr, lI dr, iI bp, lI ba, lI bb, lI hh])], [(aT, cI u 24 tb)], [(aN, cJ u 124 nw)], [(aQ, cJ u 124 nx)]])) := by
  refine jC.of "FlashRatchetModel" (by decide +kernel) rfl (Nat.le_of_ble_eq_true rfl) [(0, .ref y0), (1, iI t), (2, iI e)] rfl (fun X G E I => ?_)
  refine j_aload_n G 0 rfl dX2_chanceOfGain_0 ?_
  refine j_iload_n G 1 rfl dX2_chanceOfGain_1 ?_
  refine j_iconst G dX2_chanceOfGain_2 ?_
  refine j_bipush G (by decide) dX2_chanceOfGain_3 ?_
  refine j_callS (wr := [[(y0, jO 1 [iI th, iI n, iI gr, iI pw, .ref aT, iI po, iI pr, iI ix, iI sd, iI gn, iI tk, iI ln, .ref aX, iI zs, iI zl, iI za, iI zf, iI ze, iI zi, .ref aR, .ref aM, .ref aG, .ref aN, .ref aQ, lI ls, lI wn, .ref aO, .ref aS, .ref aH, .ref aU, lI sc, iI zc, .ref aW, lI al, lI nr, lI dr, iI bp, lI ba, lI bb, lI hh])], [(aT, cI u 24 tb)], [(aN, cJ u 124 nw)], [(aQ, cJ u 124 nx)]]) (k' := 0) (n' := 0) G (c_X2_within l u t 0 15 hRt (by unfold iR; omega) (by unfold iR; omega)) hY_X2_within q1973 q1974 q90 q1975 (jcut 4 [0, 1, 2, 3] (by decide) rfl rfl) ⟨by omega, by omega, by omega, by omega, by omega, by omega⟩ (Nat.le_of_ble_eq_true rfl) dX2_chanceOfGain_5 rfl (fun v_ w_ hp => ?_)
  obtain ⟨r_5, h5_1, rfl, rfl⟩ := hp
  show jJ X u 3 [[(y0, jO 1 [iI th, iI n, iI gr, iI pw, .ref aT, iI po, iI pr, iI ix, iI sd, iI gn, iI tk, iI ln, .ref aX, iI zs, iI zl, iI za, iI zf, iI ze, iI zi, .ref aR, .ref aM, .ref aG, .ref aN, .ref aQ, lI ls, lI wn, .ref aO, .ref aS, .ref aH, .ref aU, lI sc, iI zc, .ref aW, lI al, lI nr, lI dr, iI bp, lI ba, lI bb, lI hh])], [(aT, cI u 24 tb)], [(aN, cJ u 124 nw)], [(aQ, cJ u 124 nx)]] [(0, .ref y0), (1, iI t), (2, iI e)] 0 0 8 [iI r_5, .ref y0]
  refine j_if_eq 15 G (by unfold iR at *; omega) dX2_chanceOfGain_8 (by decide) (fun c_8 => ?_) (fun c_8 => ?_)
  · skip
    refine j_iconst G dX2_chanceOfGain_15 ?_
    refine j_put (ws' := [[(y0, jO 1 [iI 1, iI n, iI gr, iI pw, .ref aT, iI po, iI pr, iI ix, iI sd, iI gn, iI tk, iI ln, .ref aX, iI zs, iI zl, iI za, iI zf, iI ze, iI zi, .ref aR, .ref aM, .ref aG, .ref aN, .ref aQ, lI ls, lI wn, .ref aO, .ref aS, .ref aH, .ref aU, lI sc, iI zc, .ref aW, lI al, lI nr, lI dr, iI bp, lI ba, lI bb, lI hh])], [(aT, cI u 24 tb)], [(aN, cJ u 124 nw)], [(aQ, cJ u 124 nx)]]) G FX2 (jAt_1 0 rfl) 0 (by decide) q1844 rfl rfl rfl (Nat.le_of_ble_eq_true rfl) dX2_chanceOfGain_16 rfl ?_
    refine j_aload_n G 0 rfl dX2_chanceOfGain_19 ?_
    refine j_get G FX2 (jAt_1 0 rfl) 0 (by decide) q1844 rfl dX2_chanceOfGain_20 ?_
    refine j_if_le 30 G (by unfold iR; omega) dX2_chanceOfGain_23 (by decide) (fun c_23 => ?_) (fun c_23 => ?_)
    · exact absurd c_23 (by decide)
    · skip
      refine j_lconst 0 G rfl dX2_chanceOfGain_26 ?_
      refine j_goto 36 G dX2_chanceOfGain_27 (by decide) ?_
      exact j_lret G E (Or.inr ⟨(by omega), rfl, rfl⟩) ⟨by omega, by omega⟩ dX2_chanceOfGain_36
  · skip
    refine j_iconst G dX2_chanceOfGain_11 ?_
    refine j_goto 16 G dX2_chanceOfGain_12 (by decide) ?_
    refine j_put (ws' := [[(y0, jO 1 [iI 0, iI n, iI gr, iI pw, .ref aT, iI po, iI pr, iI ix, iI sd, iI gn, iI tk, iI ln, .ref aX, iI zs, iI zl, iI za, iI zf, iI ze, iI zi, .ref aR, .ref aM, .ref aG, .ref aN, .ref aQ, lI ls, lI wn, .ref aO, .ref aS, .ref aH, .ref aU, lI sc, iI zc, .ref aW, lI al, lI nr, lI dr, iI bp, lI ba, lI bb, lI hh])], [(aT, cI u 24 tb)], [(aN, cJ u 124 nw)], [(aQ, cJ u 124 nx)]]) G FX2 (jAt_1 0 rfl) 0 (by decide) q1844 rfl rfl rfl (Nat.le_of_ble_eq_true rfl) dX2_chanceOfGain_16 rfl ?_
    refine j_aload_n G 0 rfl dX2_chanceOfGain_19 ?_
    refine j_get G FX2 (jAt_1 0 rfl) 0 (by decide) q1844 rfl dX2_chanceOfGain_20 ?_
    refine j_if_le 30 G (by unfold iR; omega) dX2_chanceOfGain_23 (by decide) (fun c_23 => ?_) (fun c_23 => ?_)
    · skip
      refine j_aload_n G 0 rfl dX2_chanceOfGain_30 ?_
      refine j_iload_n G 1 rfl dX2_chanceOfGain_31 ?_
      refine j_iload_n G 2 rfl dX2_chanceOfGain_32 ?_
      refine j_callV (wr := []) (k' := 0) (n' := 0) G FX2 (c_X2_chanceFrom l u y0 aT aX aR aM aG aN aQ aO aS aH aU aW 0 n gr pw po pr ix sd gn tk ln zs zl za zf ze zi zc bp ls wn sc al nr dr ba bb hh tb nw nx t e hn hg hw hp hT hq hRe (by omega)) (jAt_1 0 rfl) ⟨rfl, hY_X2_chanceFrom⟩ q2129 q2131 qs65 q90 q2132 (jcut 4 [0, 1, 2, 3] (by decide) rfl rfl) ⟨by omega, by omega, by omega, by omega, by omega, by omega⟩ (Nat.le_of_ble_eq_true rfl) dX2_chanceOfGain_33 rfl (fun v_ w_ hp => ?_)
      obtain ⟨nw2_33, nx2_33, ls2_33, wn2_33, r_33, h33_1, rfl, rfl⟩ := hp
      show jJ X u 3 [[(y0, jO 1 [iI 0, iI n, iI gr, iI pw, .ref aT, iI po, iI pr, iI ix, iI sd, iI gn, iI tk, iI ln, .ref aX, iI zs, iI zl, iI za, iI zf, iI ze, iI zi, .ref aR, .ref aM, .ref aG, .ref aN, .ref aQ, lI ls2_33, lI wn2_33, .ref aO, .ref aS, .ref aH, .ref aU, lI sc, iI zc, .ref aW, lI al, lI nr, lI dr, iI bp, lI ba, lI bb, lI hh])], [(aT, cI u 24 tb)], [(aN, cJ u 124 nw2_33)], [(aQ, cJ u 124 nx2_33)]] [(0, .ref y0), (1, iI t), (2, iI e)] 0 0 36 [lI r_33]
      exact j_lret G E (Or.inl ⟨nw2_33, nx2_33, ls2_33, wn2_33, r_33, h33_1, (by omega), rfl, rfl⟩) ⟨by omega, by omega⟩ dX2_chanceOfGain_36
    · exact absurd c_23 (by decide)
theorem hY_X2_gameOf : jY yX2_gameOf 4 := ⟨by decide +kernel, by decide +kernel, by decide +kernel⟩
set_option maxHeartbeats 4000000 in
set_option maxRecDepth 100000 in
theorem c_X2_gameOf (l : Launch) (u : jU) (y0 aT aX aR aM aG aN aQ aO aS aH aU aW : Nat) (th n gr pw po pr ix sd gn tk ln zs zl za zf ze zi zc bp ls wn sc al nr dr ba bb hh : Int) (tb : Int → Int) (nw : Int → Int) (nx : Int → Int) (a g t w : Int) (hn : 2 ≤ n ∧ n ≤ 4) (hg : 0 ≤ gr ∧ gr ≤ 7) (hw : 0 ≤ pw ∧ pw ≤ 15) (hp : sProg pr = 1) (hT : wT (tB tb) (tF tb)) (hq : wQ (n, gr, pw, pr, tB tb, tF tb) (po, ix, sd)) (hRw : iR w) (ha : 1 ≤ a ∧ a ≤ 15) (hgg : 1 ≤ g ∧ g ≤ 15) (ht : 0 ≤ t ∧ t ≤ 15) : jC l u yX2_gameOf cX2_gameOf 8 (some .long) 4 94 0 0 [.ref y0, iI a, iI g, iI t, iI w] [[(y0, jO 1 [iI th, iI n, iI gr, iI pw, .ref aT, iI po, iI pr, iI ix, iI sd, iI gn, iI tk, iI ln, .ref aX, iI zs, iI zl, iI za, iI zf, iI ze, iI zi, .ref aR, .ref aM, .ref aG, .ref aN, .ref aQ, lI ls, lI wn, .ref aO, .ref aS, .ref aH, .ref aU, lI sc, iI zc, .ref aW, lI al, lI nr, lI dr, iI bp, lI ba, lI bb, lI hh])], [(aT, cI u 24 tb)], [(aN, cJ u 124 nw)], [(aQ, cJ u 124 nx)]] (fun v_ w_ => ∃ (nw2 nx2 : Int → Int) (ls2 wn2 : Int) (r : Int), r = (if w = 0 then cRow (cGo (-a) g (n, gr, pw, pr, tB tb, tF tb) (po, ix, sd) t.toNat) (-a) else if w = 1 then cRow (cGo (-a) g (n, gr, pw, pr, tB tb, tF tb) (po, ix, sd) t.toNat) g else sumF (fun i => if cAb (-a) g i then 0 else (cGo (-a) g (n, gr, pw, pr, tB tb, tF tb) (po, ix, sd) t.toNat) i) 124) ∧ v_ = some (lI r) ∧ w_ = [[(y0, jO 1 [iI th, iI n, iI gr, iI pw, .ref aT, iI po, iI pr, iI ix, iI sd, iI gn, iI tk, iI ln, .ref aX, iI zs, iI zl, iI za, iI zf, iI ze, iI zi, .ref aR, .ref aM, .ref aG, .ref aN, .ref aQ, lI ls2, lI wn2, .ref aO, .ref aS, .ref aH, .ref aU, lI sc, iI zc, .ref aW, lI al, lI nr, lI dr, iI bp, lI ba, lI bb, lI hh])], [(aT, cI u 24 tb)], [(aN, cJ u 124 nw2)], [(aQ, cJ u 124 nx2)]]) := by
  refine jC.of "FlashRatchetModel" (by decide +kernel) rfl (Nat.le_of_ble_eq_true rfl) [(0, .ref y0), (1, iI a), (2, iI g), (3, iI t), (4, iI w)] rfl (fun X G E I => ?_)
  refine j_aload_n G 0 rfl dX2_gameOf_0 ?_
  refine j_iload_n G 3 rfl dX2_gameOf_1 ?_
  refine j_iload_n G 1 rfl dX2_gameOf_2 ?_
  refine j_ineg G dX2_gameOf_3 ?_
  refine j_iload_n G 2 rfl dX2_gameOf_4 ?_
  refine j_callV (wr := []) (k' := 0) (n' := 0) G FX2 (c_X2_go l u y0 aT aX aR aM aG aN aQ aO aS aH aU aW th n gr pw po pr ix sd gn tk ln zs zl za zf ze zi zc bp ls wn sc al nr dr ba bb hh tb nw nx t (-a) g hn hg hw hp hT hq (by unfold iR at *; omega) (by unfold iR at *; omega) ht (by omega)) (jAt_1 0 rfl) ⟨rfl, hY_X2_go⟩ q2104 q2106 qs60 q90 q2107 (jcut 4 [0, 1, 2, 3] (by decide) rfl rfl) ⟨by omega, by omega, by omega, by omega, by omega, by omega⟩ (Nat.le_of_ble_eq_true rfl) dX2_gameOf_5 rfl (fun v_ w_ hp => ?_)
  obtain ⟨nw2_5, nx2_5, ls2_5, wn2_5, h5_1, rfl, rfl⟩ := hp
  show jJ X u 8 [[(y0, jO 1 [iI th, iI n, iI gr, iI pw, .ref aT, iI po, iI pr, iI ix, iI sd, iI gn, iI tk, iI ln, .ref aX, iI zs, iI zl, iI za, iI zf, iI ze, iI zi, .ref aR, .ref aM, .ref aG, .ref aN, .ref aQ, lI ls2_5, lI wn2_5, .ref aO, .ref aS, .ref aH, .ref aU, lI sc, iI zc, .ref aW, lI al, lI nr, lI dr, iI bp, lI ba, lI bb, lI hh])], [(aT, cI u 24 tb)], [(aN, cJ u 124 nw2_5)], [(aQ, cJ u 124 nx2_5)]] [(0, .ref y0), (1, iI a), (2, iI g), (3, iI t), (4, iI w)] 0 0 8 []
  refine j_lconst 0 G rfl dX2_gameOf_8 ?_
  refine j_lstore G [(5, lI 0), (0, .ref y0), (1, iI a), (2, iI g), (3, iI t), (4, iI w)] rfl (by decide) dX2_gameOf_9 ?_
  refine j_iconst G dX2_gameOf_11 ?_
  refine j_istore G [(7, iI 0), (5, lI 0), (0, .ref y0), (1, iI a), (2, iI g), (3, iI t), (4, iI w)] rfl (by decide) dX2_gameOf_12 ?_
  have L14 : ∀ (m : Nat) (j : Nat) (s : Int) (k : Int), 124 - j < m → k = j → s = sumF nw2_5 j → j ≤ 124 → jJ X u 8 [[(y0, jO 1 [iI th, iI n, iI gr, iI pw, .ref aT, iI po, iI pr, iI ix, iI sd, iI gn, iI tk, iI ln, .ref aX, iI zs, iI zl, iI za, iI zf, iI ze, iI zi, .ref aR, .ref aM, .ref aG, .ref aN, .ref aQ, lI ls2_5, lI wn2_5, .ref aO, .ref aS, .ref aH, .ref aU, lI sc, iI zc, .ref aW, lI al, lI nr, lI dr, iI bp, lI ba, lI bb, lI hh])], [(aT, cI u 24 tb)], [(aN, cJ u 124 nw2_5)], [(aQ, cJ u 124 nx2_5)]] [(0, .ref y0), (1, iI a), (2, iI g), (3, iI t), (4, iI w), (5, lI s), (7, iI k)] 0 0 14 [] := by
    intro m
    induction m with
    | zero =>
      intro j s k g1 g2 g3 g4
      exfalso
      omega
    | succ m ih_L14 =>
      intro j s k g1 g2 g3 g4
      refine j_iload G 6 rfl dX2_gameOf_14 ?_
      refine j_bipush G (by decide) dX2_gameOf_16 ?_
      refine j_icmp_ge 39 G (by unfold iR at *; omega) (by unfold iR; omega) dX2_gameOf_18 (by decide) (fun c_18 => ?_) (fun c_18 => ?_)
      · skip
        have hj : j = 124 := by omega
        subst hj
        refine j_iload G 4 rfl dX2_gameOf_39 ?_
        refine j_if_ne 51 G hRw dX2_gameOf_41 (by decide) (fun c_41 => ?_) (fun c_41 => ?_)
        · skip
          refine j_iload G 4 rfl dX2_gameOf_51 ?_
          refine j_iconst G dX2_gameOf_53 ?_
          refine j_icmp_ne 64 G hRw (by unfold iR; omega) dX2_gameOf_54 (by decide) (fun c_54 => ?_) (fun c_54 => ?_)
          · skip
            refine j_lload G 5 rfl dX2_gameOf_64 ?_
            exact j_lret G E ⟨nw2_5, nx2_5, ls2_5, wn2_5, s, (by first | (rw [if_pos c_41]; exact h5_1.2.1) | (rw [if_neg c_41, if_pos c_54]; exact h5_1.2.2) | (rw [if_neg c_41, if_neg c_54, g3]; exact sumF_c (fun i h0 h1 => h5_1.1 i h0 h1))), rfl, rfl⟩ ⟨by omega, by omega⟩ dX2_gameOf_66
          · skip
            refine j_aload_n G 0 rfl dX2_gameOf_57 ?_
            refine j_get G FX2 (jAt_1 0 rfl) 25 (by decide) q1869 rfl dX2_gameOf_58 ?_
            refine j_goto 66 G dX2_gameOf_61 (by decide) ?_
            exact j_lret G E ⟨nw2_5, nx2_5, ls2_5, wn2_5, wn2_5, (by first | (rw [if_pos c_41]; exact h5_1.2.1) | (rw [if_neg c_41, if_pos c_54]; exact h5_1.2.2) | (rw [if_neg c_41, if_neg c_54, g3]; exact sumF_c (fun i h0 h1 => h5_1.1 i h0 h1))), rfl, rfl⟩ ⟨by omega, by omega⟩ dX2_gameOf_66
        · skip
          refine j_aload_n G 0 rfl dX2_gameOf_44 ?_
          refine j_get G FX2 (jAt_1 0 rfl) 24 (by decide) q1868 rfl dX2_gameOf_45 ?_
          refine j_goto 66 G dX2_gameOf_48 (by decide) ?_
          exact j_lret G E ⟨nw2_5, nx2_5, ls2_5, wn2_5, ls2_5, (by first | (rw [if_pos c_41]; exact h5_1.2.1) | (rw [if_neg c_41, if_pos c_54]; exact h5_1.2.2) | (rw [if_neg c_41, if_neg c_54, g3]; exact sumF_c (fun i h0 h1 => h5_1.1 i h0 h1))), rfl, rfl⟩ ⟨by omega, by omega⟩ dX2_gameOf_66
      · skip
        refine j_lload G 5 rfl dX2_gameOf_21 ?_
        refine j_aload_n G 0 rfl dX2_gameOf_23 ?_
        refine j_get G FX2 (jAt_1 0 rfl) 22 (by decide) q1866 rfl dX2_gameOf_24 ?_
        refine j_iload G 6 rfl dX2_gameOf_27 ?_
        refine j_laload G (jAt_1 2 rfl) (by (try unfold iR at *); omega) (by (try unfold iR at *); omega) (by (try unfold iR at *); omega) dX2_gameOf_29 ?_
        refine j_ladd G dX2_gameOf_30 ?_
        refine j_lstore G [(5, lI (s + (nw2_5 k))), (0, .ref y0), (1, iI a), (2, iI g), (3, iI t), (4, iI w), (7, iI k)] rfl (by decide) dX2_gameOf_31 ?_
        refine j_iinc G 6 rfl [(7, iI (k + 1)), (5, lI (s + (nw2_5 k))), (0, .ref y0), (1, iI a), (2, iI g), (3, iI t), (4, iI w)] rfl (by decide) dX2_gameOf_33 ?_
        refine j_goto 14 G dX2_gameOf_36 (by decide) ?_
        refine j_lv [2, 3, 4, 5, 6, 1, 0] rfl ?_
        exact ih_L14 (j + 1) (s + (nw2_5 k)) (k + 1) (by (try unfold iR at *); omega) (by (try unfold iR at *); omega) (by rw [g3, g2]; rfl) (by (try unfold iR at *); omega)
  refine j_lv [2, 3, 4, 5, 6, 1, 0] rfl ?_
  exact L14 125 0 0 0 (by omega) rfl rfl (by omega)
theorem hY_X2_game : jY yX2_game 4 := ⟨by decide +kernel, by decide +kernel, by decide +kernel⟩
set_option maxHeartbeats 4000000 in
set_option maxRecDepth 100000 in
theorem c_X2_game (l : Launch) (u : jU) (y0 aT aX aR aM aG aN aQ aO aS aH aU aW : Nat) (th n gr pw po pr ix sd gn tk ln zs zl za zf ze zi zc bp ls wn sc al nr dr ba bb hh : Int) (tb : Int → Int) (nw : Int → Int) (nx : Int → Int) (a g t w : Int) (hRa : iR a) (hRg : iR g) (hRt : iR t) (hRw : iR w) (hn : 2 ≤ n ∧ n ≤ 4) (hg : 0 ≤ gr ∧ gr ≤ 7) (hw : 0 ≤ pw ∧ pw ≤ 15) (hp : sProg pr = 1) (hT : wT (tB tb) (tF tb)) (hq : wQ (n, gr, pw, pr, tB tb, tF tb) (po, ix, sd)) : jC l u yX2_game cX2_game 5 (some .long) 5 121 0 0 [.ref y0, iI a, iI g, iI t, iI w] [[(y0, jO 1 [iI th, iI n, iI gr, iI pw, .ref aT, iI po, iI pr, iI ix, iI sd, iI gn, iI tk, iI ln, .ref aX, iI zs, iI zl, iI za, iI zf, iI ze, iI zi, .ref aR, .ref aM, .ref aG, .ref aN, .ref aQ, lI ls, lI wn, .ref aO, .ref aS, .ref aH, .ref aU, lI sc, iI zc, .ref aW, lI al, lI nr, lI dr, iI bp, lI ba, lI bb, lI hh])], [(aT, cI u 24 tb)], [(aN, cJ u 124 nw)], [(aQ, cJ u 124 nx)]] (fun v_ w_ => (∃ (nw2 nx2 : Int → Int) (ls2 wn2 : Int) (r : Int), r = (if w = 0 then cRow (cGo (-a) g (n, gr, pw, pr, tB tb, tF tb) (po, ix, sd) t.toNat) (-a) else if w = 1 then cRow (cGo (-a) g (n, gr, pw, pr, tB tb, tF tb) (po, ix, sd) t.toNat) g else sumF (fun i => if cAb (-a) g i then 0 else (cGo (-a) g (n, gr, pw, pr, tB tb, tF tb) (po, ix, sd) t.toNat) i) 124) ∧ (((1 ≤ a ∧ a ≤ 15) ∧ (1 ≤ g ∧ g ≤ 15) ∧ (0 ≤ t ∧ t ≤ 15) ∧ 0 ≤ w ∧ w ≤ 2)) ∧ v_ = some (lI r) ∧ w_ = [[(y0, jO 1 [iI 0, iI n, iI gr, iI pw, .ref aT, iI po, iI pr, iI ix, iI sd, iI gn, iI tk, iI ln, .ref aX, iI zs, iI zl, iI za, iI zf, iI ze, iI zi, .ref aR, .ref aM, .ref aG, .ref aN, .ref aQ, lI ls2, lI wn2, .ref aO, .ref aS, .ref aH, .ref aU, lI sc, iI zc, .ref aW, lI al, lI nr, lI dr, iI bp, lI ba, lI bb, lI hh])], [(aT, cI u 24 tb)], [(aN, cJ u 124 nw2)], [(aQ, cJ u 124 nx2)]]) ∨ ((¬ ((1 ≤ a ∧ a ≤ 15) ∧ (1 ≤ g ∧ g ≤ 15) ∧ (0 ≤ t ∧ t ≤ 15) ∧ 0 ≤ w ∧ w ≤ 2)) ∧ v_ = some (lI 0) ∧ w_ = [[(y0, jO 1 [iI 1, iI n, iI gr, iI pw, .ref aT, iI po, iI pr, iI ix, iI sd, iI gn, iI tk, iI ln, .ref aX, iI zs, iI zl, iI za, iI zf, iI ze, iI zi, .ref aR, .ref aM, .ref aG, .ref aN, .ref aQ, lI ls, lI wn, .ref aO, .ref aS, .ref aH, .ref aU, lI sc, iI zc, .ref aW, lI al, lI nr, lI dr, iI bp, lI ba, lI bb, lI hh])], [(aT, cI u 24 tb)], [(aN, cJ u 124 nw)], [(aQ, cJ u 124 nx)]])) := by
  refine jC.of "FlashRatchetModel" (by decide +kernel) rfl (Nat.le_of_ble_eq_true rfl) [(0, .ref y0), (1, iI a), (2, iI g), (3, iI t), (4, iI w)] rfl (fun X G E I => ?_)
  refine j_aload_n G 0 rfl dX2_game_0 ?_
  refine j_iload_n G 1 rfl dX2_game_1 ?_
  refine j_iconst G dX2_game_2 ?_
  refine j_bipush G (by decide) dX2_game_3 ?_
  refine j_callS (wr := [[(y0, jO 1 [iI th, iI n, iI gr, iI pw, .ref aT, iI po, iI pr, iI ix, iI sd, iI gn, iI tk, iI ln, .ref aX, iI zs, iI zl, iI za, iI zf, iI ze, iI zi, .ref aR, .ref aM, .ref aG, .ref aN, .ref aQ, lI ls, lI wn, .ref aO, .ref aS, .ref aH, .ref aU, lI sc, iI zc, .ref aW, lI al, lI nr, lI dr, iI bp, lI ba, lI bb, lI hh])], [(aT, cI u 24 tb)], [(aN, cJ u 124 nw)], [(aQ, cJ u 124 nx)]]) (k' := 0) (n' := 0) G (c_X2_within l u a 1 15 hRa (by unfold iR; omega) (by unfold iR; omega)) hY_X2_within q1973 q1974 q90 q1975 (jcut 4 [0, 1, 2, 3] (by decide) rfl rfl) ⟨by omega, by omega, by omega, by omega, by omega, by omega⟩ (Nat.le_of_ble_eq_true rfl) dX2_game_5 rfl (fun v_ w_ hp => ?_)
  obtain ⟨r_5, h5_1, rfl, rfl⟩ := hp
  show jJ X u 5 [[(y0, jO 1 [iI th, iI n, iI gr, iI pw, .ref aT, iI po, iI pr, iI ix, iI sd, iI gn, iI tk, iI ln, .ref aX, iI zs, iI zl, iI za, iI zf, iI ze, iI zi, .ref aR, .ref aM, .ref aG, .ref aN, .ref aQ, lI ls, lI wn, .ref aO, .ref aS, .ref aH, .ref aU, lI sc, iI zc, .ref aW, lI al, lI nr, lI dr, iI bp, lI ba, lI bb, lI hh])], [(aT, cI u 24 tb)], [(aN, cJ u 124 nw)], [(aQ, cJ u 124 nx)]] [(0, .ref y0), (1, iI a), (2, iI g), (3, iI t), (4, iI w)] 0 0 8 [iI r_5, .ref y0]
  refine j_if_eq 45 G (by unfold iR at *; omega) dX2_game_8 (by decide) (fun c_8 => ?_) (fun c_8 => ?_)
  · skip
    refine j_iconst G dX2_game_45 ?_
    refine j_put (ws' := [[(y0, jO 1 [iI 1, iI n, iI gr, iI pw, .ref aT, iI po, iI pr, iI ix, iI sd, iI gn, iI tk, iI ln, .ref aX, iI zs, iI zl, iI za, iI zf, iI ze, iI zi, .ref aR, .ref aM, .ref aG, .ref aN, .ref aQ, lI ls, lI wn, .ref aO, .ref aS, .ref aH, .ref aU, lI sc, iI zc, .ref aW, lI al, lI nr, lI dr, iI bp, lI ba, lI bb, lI hh])], [(aT, cI u 24 tb)], [(aN, cJ u 124 nw)], [(aQ, cJ u 124 nx)]]) G FX2 (jAt_1 0 rfl) 0 (by decide) q1844 rfl rfl rfl (Nat.le_of_ble_eq_true rfl) dX2_game_46 rfl ?_
    refine j_aload_n G 0 rfl dX2_game_49 ?_
    refine j_get G FX2 (jAt_1 0 rfl) 0 (by decide) q1844 rfl dX2_game_50 ?_
    refine j_if_le 60 G (by unfold iR; omega) dX2_game_53 (by decide) (fun c_53 => ?_) (fun c_53 => ?_)
    · exact absurd c_53 (by decide)
    · skip
      refine j_lconst 0 G rfl dX2_game_56 ?_
      refine j_goto 69 G dX2_game_57 (by decide) ?_
      exact j_lret G E (Or.inr ⟨(by omega), rfl, rfl⟩) ⟨by omega, by omega⟩ dX2_game_69
  · skip
    refine j_iload_n G 2 rfl dX2_game_11 ?_
    refine j_iconst G dX2_game_12 ?_
    refine j_bipush G (by decide) dX2_game_13 ?_
    refine j_callS (wr := [[(y0, jO 1 [iI th, iI n, iI gr, iI pw, .ref aT, iI po, iI pr, iI ix, iI sd, iI gn, iI tk, iI ln, .ref aX, iI zs, iI zl, iI za, iI zf, iI ze, iI zi, .ref aR, .ref aM, .ref aG, .ref aN, .ref aQ, lI ls, lI wn, .ref aO, .ref aS, .ref aH, .ref aU, lI sc, iI zc, .ref aW, lI al, lI nr, lI dr, iI bp, lI ba, lI bb, lI hh])], [(aT, cI u 24 tb)], [(aN, cJ u 124 nw)], [(aQ, cJ u 124 nx)]]) (k' := 0) (n' := 0) G (c_X2_within l u g 1 15 hRg (by unfold iR; omega) (by unfold iR; omega)) hY_X2_within q1973 q1974 q90 q1975 (jcut 4 [0, 1, 2, 3] (by decide) rfl rfl) ⟨by omega, by omega, by omega, by omega, by omega, by omega⟩ (Nat.le_of_ble_eq_true rfl) dX2_game_15 rfl (fun v_ w_ hp => ?_)
    obtain ⟨r_15, h15_1, rfl, rfl⟩ := hp
    show jJ X u 5 [[(y0, jO 1 [iI th, iI n, iI gr, iI pw, .ref aT, iI po, iI pr, iI ix, iI sd, iI gn, iI tk, iI ln, .ref aX, iI zs, iI zl, iI za, iI zf, iI ze, iI zi, .ref aR, .ref aM, .ref aG, .ref aN, .ref aQ, lI ls, lI wn, .ref aO, .ref aS, .ref aH, .ref aU, lI sc, iI zc, .ref aW, lI al, lI nr, lI dr, iI bp, lI ba, lI bb, lI hh])], [(aT, cI u 24 tb)], [(aN, cJ u 124 nw)], [(aQ, cJ u 124 nx)]] [(0, .ref y0), (1, iI a), (2, iI g), (3, iI t), (4, iI w)] 0 0 18 [iI r_15, .ref y0]
    refine j_if_eq 45 G (by unfold iR at *; omega) dX2_game_18 (by decide) (fun c_18 => ?_) (fun c_18 => ?_)
    · skip
      refine j_iconst G dX2_game_45 ?_
      refine j_put (ws' := [[(y0, jO 1 [iI 1, iI n, iI gr, iI pw, .ref aT, iI po, iI pr, iI ix, iI sd, iI gn, iI tk, iI ln, .ref aX, iI zs, iI zl, iI za, iI zf, iI ze, iI zi, .ref aR, .ref aM, .ref aG, .ref aN, .ref aQ, lI ls, lI wn, .ref aO, .ref aS, .ref aH, .ref aU, lI sc, iI zc, .ref aW, lI al, lI nr, lI dr, iI bp, lI ba, lI bb, lI hh])], [(aT, cI u 24 tb)], [(aN, cJ u 124 nw)], [(aQ, cJ u 124 nx)]]) G FX2 (jAt_1 0 rfl) 0 (by decide) q1844 rfl rfl rfl (Nat.le_of_ble_eq_true rfl) dX2_game_46 rfl ?_
      refine j_aload_n G 0 rfl dX2_game_49 ?_
      refine j_get G FX2 (jAt_1 0 rfl) 0 (by decide) q1844 rfl dX2_game_50 ?_
      refine j_if_le 60 G (by unfold iR; omega) dX2_game_53 (by decide) (fun c_53 => ?_) (fun c_53 => ?_)
      · exact absurd c_53 (by decide)
      · skip
        refine j_lconst 0 G rfl dX2_game_56 ?_
        refine j_goto 69 G dX2_game_57 (by decide) ?_
        exact j_lret G E (Or.inr ⟨(by omega), rfl, rfl⟩) ⟨by omega, by omega⟩ dX2_game_69
    · skip
      refine j_iload_n G 3 rfl dX2_game_21 ?_
      refine j_iconst G dX2_game_22 ?_
      refine j_bipush G (by decide) dX2_game_23 ?_
      refine j_callS (wr := [[(y0, jO 1 [iI th, iI n, iI gr, iI pw, .ref aT, iI po, iI pr, iI ix, iI sd, iI gn, iI tk, iI ln, .ref aX, iI zs, iI zl, iI za, iI zf, iI ze, iI zi, .ref aR, .ref aM, .ref aG, .ref aN, .ref aQ, lI ls, lI wn, .ref aO, .ref aS, .ref aH, .ref aU, lI sc, iI zc, .ref aW, lI al, lI nr, lI dr, iI bp, lI ba, lI bb, lI hh])], [(aT, cI u 24 tb)], [(aN, cJ u 124 nw)], [(aQ, cJ u 124 nx)]]) (k' := 0) (n' := 0) G (c_X2_within l u t 0 15 hRt (by unfold iR; omega) (by unfold iR; omega)) hY_X2_within q1973 q1974 q90 q1975 (jcut 4 [0, 1, 2, 3] (by decide) rfl rfl) ⟨by omega, by omega, by omega, by omega, by omega, by omega⟩ (Nat.le_of_ble_eq_true rfl) dX2_game_25 rfl (fun v_ w_ hp => ?_)
      obtain ⟨r_25, h25_1, rfl, rfl⟩ := hp
      show jJ X u 5 [[(y0, jO 1 [iI th, iI n, iI gr, iI pw, .ref aT, iI po, iI pr, iI ix, iI sd, iI gn, iI tk, iI ln, .ref aX, iI zs, iI zl, iI za, iI zf, iI ze, iI zi, .ref aR, .ref aM, .ref aG, .ref aN, .ref aQ, lI ls, lI wn, .ref aO, .ref aS, .ref aH, .ref aU, lI sc, iI zc, .ref aW, lI al, lI nr, lI dr, iI bp, lI ba, lI bb, lI hh])], [(aT, cI u 24 tb)], [(aN, cJ u 124 nw)], [(aQ, cJ u 124 nx)]] [(0, .ref y0), (1, iI a), (2, iI g), (3, iI t), (4, iI w)] 0 0 28 [iI r_25, .ref y0]
      refine j_if_eq 45 G (by unfold iR at *; omega) dX2_game_28 (by decide) (fun c_28 => ?_) (fun c_28 => ?_)
      · skip
        refine j_iconst G dX2_game_45 ?_
        refine j_put (ws' := [[(y0, jO 1 [iI 1, iI n, iI gr, iI pw, .ref aT, iI po, iI pr, iI ix, iI sd, iI gn, iI tk, iI ln, .ref aX, iI zs, iI zl, iI za, iI zf, iI ze, iI zi, .ref aR, .ref aM, .ref aG, .ref aN, .ref aQ, lI ls, lI wn, .ref aO, .ref aS, .ref aH, .ref aU, lI sc, iI zc, .ref aW, lI al, lI nr, lI dr, iI bp, lI ba, lI bb, lI hh])], [(aT, cI u 24 tb)], [(aN, cJ u 124 nw)], [(aQ, cJ u 124 nx)]]) G FX2 (jAt_1 0 rfl) 0 (by decide) q1844 rfl rfl rfl (Nat.le_of_ble_eq_true rfl) dX2_game_46 rfl ?_
        refine j_aload_n G 0 rfl dX2_game_49 ?_
        refine j_get G FX2 (jAt_1 0 rfl) 0 (by decide) q1844 rfl dX2_game_50 ?_
        refine j_if_le 60 G (by unfold iR; omega) dX2_game_53 (by decide) (fun c_53 => ?_) (fun c_53 => ?_)
        · exact absurd c_53 (by decide)
        · skip
          refine j_lconst 0 G rfl dX2_game_56 ?_
          refine j_goto 69 G dX2_game_57 (by decide) ?_
          exact j_lret G E (Or.inr ⟨(by omega), rfl, rfl⟩) ⟨by omega, by omega⟩ dX2_game_69
      · skip
        refine j_iload G 4 rfl dX2_game_31 ?_
        refine j_iconst G dX2_game_33 ?_
        refine j_iconst G dX2_game_34 ?_
        refine j_callS (wr := [[(y0, jO 1 [iI th, iI n, iI gr, iI pw, .ref aT, iI po, iI pr, iI ix, iI sd, iI gn, iI tk, iI ln, .ref aX, iI zs, iI zl, iI za, iI zf, iI ze, iI zi, .ref aR, .ref aM, .ref aG, .ref aN, .ref aQ, lI ls, lI wn, .ref aO, .ref aS, .ref aH, .ref aU, lI sc, iI zc, .ref aW, lI al, lI nr, lI dr, iI bp, lI ba, lI bb, lI hh])], [(aT, cI u 24 tb)], [(aN, cJ u 124 nw)], [(aQ, cJ u 124 nx)]]) (k' := 0) (n' := 0) G (c_X2_within l u w 0 2 hRw (by unfold iR; omega) (by unfold iR; omega)) hY_X2_within q1973 q1974 q90 q1975 (jcut 4 [0, 1, 2, 3] (by decide) rfl rfl) ⟨by omega, by omega, by omega, by omega, by omega, by omega⟩ (Nat.le_of_ble_eq_true rfl) dX2_game_35 rfl (fun v_ w_ hp => ?_)
        obtain ⟨r_35, h35_1, rfl, rfl⟩ := hp
        show jJ X u 5 [[(y0, jO 1 [iI th, iI n, iI gr, iI pw, .ref aT, iI po, iI pr, iI ix, iI sd, iI gn, iI tk, iI ln, .ref aX, iI zs, iI zl, iI za, iI zf, iI ze, iI zi, .ref aR, .ref aM, .ref aG, .ref aN, .ref aQ, lI ls, lI wn, .ref aO, .ref aS, .ref aH, .ref aU, lI sc, iI zc, .ref aW, lI al, lI nr, lI dr, iI bp, lI ba, lI bb, lI hh])], [(aT, cI u 24 tb)], [(aN, cJ u 124 nw)], [(aQ, cJ u 124 nx)]] [(0, .ref y0), (1, iI a), (2, iI g), (3, iI t), (4, iI w)] 0 0 38 [iI r_35, .ref y0]
        refine j_if_eq 45 G (by unfold iR at *; omega) dX2_game_38 (by decide) (fun c_38 => ?_) (fun c_38 => ?_)
        · skip
          refine j_iconst G dX2_game_45 ?_
          refine j_put (ws' := [[(y0, jO 1 [iI 1, iI n, iI gr, iI pw, .ref aT, iI po, iI pr, iI ix, iI sd, iI gn, iI tk, iI ln, .ref aX, iI zs, iI zl, iI za, iI zf, iI ze, iI zi, .ref aR, .ref aM, .ref aG, .ref aN, .ref aQ, lI ls, lI wn, .ref aO, .ref aS, .ref aH, .ref aU, lI sc, iI zc, .ref aW, lI al, lI nr, lI dr, iI bp, lI ba, lI bb, lI hh])], [(aT, cI u 24 tb)], [(aN, cJ u 124 nw)], [(aQ, cJ u 124 nx)]]) G FX2 (jAt_1 0 rfl) 0 (by decide) q1844 rfl rfl rfl (Nat.le_of_ble_eq_true rfl) dX2_game_46 rfl ?_
          refine j_aload_n G 0 rfl dX2_game_49 ?_
          refine j_get G FX2 (jAt_1 0 rfl) 0 (by decide) q1844 rfl dX2_game_50 ?_
          refine j_if_le 60 G (by unfold iR; omega) dX2_game_53 (by decide) (fun c_53 => ?_) (fun c_53 => ?_)
          · exact absurd c_53 (by decide)
          · skip
            refine j_lconst 0 G rfl dX2_game_56 ?_
            refine j_goto 69 G dX2_game_57 (by decide) ?_
            exact j_lret G E (Or.inr ⟨(by omega), rfl, rfl⟩) ⟨by omega, by omega⟩ dX2_game_69
        · skip
          refine j_iconst G dX2_game_41 ?_
          refine j_goto 46 G dX2_game_42 (by decide) ?_
          refine j_put (ws' := [[(y0, jO 1 [iI 0, iI n, iI gr, iI pw, .ref aT, iI po, iI pr, iI ix, iI sd, iI gn, iI tk, iI ln, .ref aX, iI zs, iI zl, iI za, iI zf, iI ze, iI zi, .ref aR, .ref aM, .ref aG, .ref aN, .ref aQ, lI ls, lI wn, .ref aO, .ref aS, .ref aH, .ref aU, lI sc, iI zc, .ref aW, lI al, lI nr, lI dr, iI bp, lI ba, lI bb, lI hh])], [(aT, cI u 24 tb)], [(aN, cJ u 124 nw)], [(aQ, cJ u 124 nx)]]) G FX2 (jAt_1 0 rfl) 0 (by decide) q1844 rfl rfl rfl (Nat.le_of_ble_eq_true rfl) dX2_game_46 rfl ?_
          refine j_aload_n G 0 rfl dX2_game_49 ?_
          refine j_get G FX2 (jAt_1 0 rfl) 0 (by decide) q1844 rfl dX2_game_50 ?_
          refine j_if_le 60 G (by unfold iR; omega) dX2_game_53 (by decide) (fun c_53 => ?_) (fun c_53 => ?_)
          · skip
            refine j_aload_n G 0 rfl dX2_game_60 ?_
            refine j_iload_n G 1 rfl dX2_game_61 ?_
            refine j_iload_n G 2 rfl dX2_game_62 ?_
            refine j_iload_n G 3 rfl dX2_game_63 ?_
            refine j_iload G 4 rfl dX2_game_64 ?_
            refine j_callV (wr := []) (k' := 0) (n' := 0) G FX2 (c_X2_gameOf l u y0 aT aX aR aM aG aN aQ aO aS aH aU aW 0 n gr pw po pr ix sd gn tk ln zs zl za zf ze zi zc bp ls wn sc al nr dr ba bb hh tb nw nx a g t w hn hg hw hp hT hq hRw (by omega) (by omega) (by omega)) (jAt_1 0 rfl) ⟨rfl, hY_X2_gameOf⟩ q2137 q2139 qs66 q90 q2140 (jcut 4 [0, 1, 2, 3] (by decide) rfl rfl) ⟨by omega, by omega, by omega, by omega, by omega, by omega⟩ (Nat.le_of_ble_eq_true rfl) dX2_game_66 rfl (fun v_ w_ hp => ?_)
            obtain ⟨nw2_66, nx2_66, ls2_66, wn2_66, r_66, h66_1, rfl, rfl⟩ := hp
            show jJ X u 5 [[(y0, jO 1 [iI 0, iI n, iI gr, iI pw, .ref aT, iI po, iI pr, iI ix, iI sd, iI gn, iI tk, iI ln, .ref aX, iI zs, iI zl, iI za, iI zf, iI ze, iI zi, .ref aR, .ref aM, .ref aG, .ref aN, .ref aQ, lI ls2_66, lI wn2_66, .ref aO, .ref aS, .ref aH, .ref aU, lI sc, iI zc, .ref aW, lI al, lI nr, lI dr, iI bp, lI ba, lI bb, lI hh])], [(aT, cI u 24 tb)], [(aN, cJ u 124 nw2_66)], [(aQ, cJ u 124 nx2_66)]] [(0, .ref y0), (1, iI a), (2, iI g), (3, iI t), (4, iI w)] 0 0 69 [lI r_66]
            exact j_lret G E (Or.inl ⟨nw2_66, nx2_66, ls2_66, wn2_66, r_66, h66_1, (by omega), rfl, rfl⟩) ⟨by omega, by omega⟩ dX2_game_69
          · exact absurd c_53 (by decide)
