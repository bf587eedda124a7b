theorem hY_X2_pass : jY yX2_pass 1 := ⟨by decide +kernel, by decide +kernel, by decide +kernel⟩
set_option maxHeartbeats 4000000 in
set_option maxRecDepth 100000 in
theorem c_X2_pass (l : Launch) (u : jU) (y0 aT aX aR aM aG aN aQ aO aS aH aU aW : Nat) (th n gr pw po pr ix sd gn tk ln zs zl za zf ze zi zc bp ls wn sc al nr dr ba bb hh : Int) (tb : Int → Int) (h : Int → Int) (ut : Int → Int) (lv : Int) (hn : 2 ≤ n ∧ n ≤ 4) (hg : 0 ≤ gr ∧ gr ≤ 7) (hw : 0 ≤ pw ∧ pw ≤ 15) (hT : wT (tB tb) (tF tb)) (hlv : 0 ≤ lv ∧ lv ≤ 2) : jC l u yX2_pass cX2_pass 7 (some .long) 2 43 0 0 [.ref y0, iI lv] [[(y0, jO 1 [iI th, iI n, iI gr, iI pw, .ref aT, iI po, iI pr, iI ix, iI sd, iI gn, iI tk, iI ln, .ref aX, iI zs, iI zl, iI za, iI zf, iI ze, iI zi, .ref aR, .ref aM, .ref aG, .ref aN, .ref aQ, lI ls, lI wn, .ref aO, .ref aS, .ref aH, .ref aU, lI sc, iI zc, .ref aW, lI al, lI nr, lI dr, iI bp, lI ba, lI bb, lI hh])], [(aT, cI u 24 tb)], [(aH, cJ u 4 h)], [(aU, cJ u 4 ut)]] (fun v_ w_ => ∃ (h2 ut2 : Int → Int), eqN 4 h2 (rwT n (sDraw gr pw (tB tb) (tF tb) lv) h) ∧ v_ = some (lI (rwG (sDraw gr pw (tB tb) (tF tb) lv) h n.toNat)) ∧ w_ = [[(y0, jO 1 [iI th, iI n, iI gr, iI pw, .ref aT, iI po, iI pr, iI ix, iI sd, iI gn, iI tk, iI ln, .ref aX, iI zs, iI zl, iI za, iI zf, iI ze, iI zi, .ref aR, .ref aM, .ref aG, .ref aN, .ref aQ, lI ls, lI wn, .ref aO, .ref aS, .ref aH, .ref aU, lI sc, iI zc, .ref aW, lI al, lI nr, lI dr, iI bp, lI ba, lI bb, lI hh])], [(aT, cI u 24 tb)], [(aH, cJ u 4 h2)], [(aU, cJ u 4 ut2)]]) := by
  refine jC.of "FlashRatchetModel" (by decide +kernel) rfl (Nat.le_of_ble_eq_true rfl) [(0, .ref y0), (1, iI lv)] rfl (fun X G E I => ?_)
  refine j_lconst 0 G rfl dX2_pass_0 ?_
  refine j_lstore_n G [(2, lI 0), (0, .ref y0), (1, iI lv)] rfl (by decide) dX2_pass_1 ?_
  refine j_iconst G dX2_pass_2 ?_
  refine j_istore G [(4, iI 0), (2, lI 0), (0, .ref y0), (1, iI lv)] rfl (by decide) dX2_pass_3 ?_
  have L5 : ∀ (m : Nat) (j : Nat) (f : Int → Int) (k : Int), 4 - j < m → k = j → (∀ q : Int, 0 ≤ q → q < k → f q = 0) → j ≤ 4 → jJ X u 7 [[(y0, jO 1 [iI th, iI n, iI gr, iI pw, .ref aT, iI po, iI pr, iI ix, iI sd, iI gn, iI tk, iI ln, .ref aX, iI zs, iI zl, iI za, iI zf, iI ze, iI zi, .ref aR, .ref aM, .ref aG, .ref aN, .ref aQ, lI ls, lI wn, .ref aO, .ref aS, .ref aH, .ref aU, lI sc, iI zc, .ref aW, lI al, lI nr, lI dr, iI bp, lI ba, lI bb, lI hh])], [(aT, cI u 24 tb)], [(aH, cJ u 4 h)], [(aU, cJ u 4 f)]] [(0, .ref y0), (1, iI lv), (2, lI 0), (4, iI k)] 0 0 5 [] := by
    intro m
    induction m with
    | zero =>
      intro j f k g1 g2 g3 g4
      exfalso
      omega
    | succ m ih_L5 =>
      intro j f k g1 g2 g3 g4
      refine j_iload G 3 rfl dX2_pass_5 ?_
      refine j_iconst G dX2_pass_7 ?_
      refine j_icmp_ge 25 G (by unfold iR at *; omega) (by unfold iR; omega) dX2_pass_8 (by decide) (fun c_8 => ?_) (fun c_8 => ?_)
      · skip
        refine j_iconst G dX2_pass_25 ?_
        refine j_istore G [(4, iI 0), (0, .ref y0), (1, iI lv), (2, lI 0)] rfl (by decide) dX2_pass_26 ?_
        have L28 : ∀ (m : Nat) (j : Nat) (f1 : Int → Int) (k : Int) (s : Int), 4 - j < m → k = j → eqN 4 f1 (rwF n (sDraw gr pw (tB tb) (tF tb) lv) h j) → (j : Int) ≤ n → s = rwG (sDraw gr pw (tB tb) (tF tb) lv) h j → jJ X u 7 [[(y0, jO 1 [iI th, iI n, iI gr, iI pw, .ref aT, iI po, iI pr, iI ix, iI sd, iI gn, iI tk, iI ln, .ref aX, iI zs, iI zl, iI za, iI zf, iI ze, iI zi, .ref aR, .ref aM, .ref aG, .ref aN, .ref aQ, lI ls, lI wn, .ref aO, .ref aS, .ref aH, .ref aU, lI sc, iI zc, .ref aW, lI al, lI nr, lI dr, iI bp, lI ba, lI bb, lI hh])], [(aT, cI u 24 tb)], [(aH, cJ u 4 h)], [(aU, cJ u 4 f1)]] [(0, .ref y0), (1, iI lv), (2, lI s), (4, iI k)] 0 0 28 [] := by
          intro m
          induction m with
          | zero =>
            intro j f1 k s g5 g6 g7 g8 g9
            exfalso
            omega
          | succ m ih_L28 =>
            intro j f1 k s g5 g6 g7 g8 g9
            refine j_iload G 3 rfl dX2_pass_28 ?_
            refine j_aload_n G 0 rfl dX2_pass_30 ?_
            refine j_get G FX2 (jAt_1 0 rfl) 1 (by decide) q1845 rfl dX2_pass_31 ?_
            refine j_icmp_ge 157 G (by unfold iR at *; omega) (by unfold iR at *; omega) dX2_pass_34 (by decide) (fun c_34 => ?_) (fun c_34 => ?_)
            · skip
              have hj : j = n.toNat := by omega
              subst hj
              refine j_iconst G dX2_pass_157 ?_
              refine j_istore G [(4, iI 0), (0, .ref y0), (1, iI lv), (2, lI s)] rfl (by decide) dX2_pass_158 ?_
              have L160 : ∀ (m : Nat) (i : Nat) (f2 : Int → Int) (k : Int), 4 - i < m → k = i → (∀ q : Int, 0 ≤ q → q < k → f2 q = f1 q) → i ≤ 4 → jJ X u 7 [[(y0, jO 1 [iI th, iI n, iI gr, iI pw, .ref aT, iI po, iI pr, iI ix, iI sd, iI gn, iI tk, iI ln, .ref aX, iI zs, iI zl, iI za, iI zf, iI ze, iI zi, .ref aR, .ref aM, .ref aG, .ref aN, .ref aQ, lI ls, lI wn, .ref aO, .ref aS, .ref aH, .ref aU, lI sc, iI zc, .ref aW, lI al, lI nr, lI dr, iI bp, lI ba, lI bb, lI hh])], [(aT, cI u 24 tb)], [(aH, cJ u 4 f2)], [(aU, cJ u 4 f1)]] [(0, .ref y0), (1, iI lv), (2, lI s), (4, iI k)] 0 0 160 [] := by
                intro m
                induction m with
                | zero =>
                  intro i f2 k g10 g11 g12 g13
                  exfalso
                  omega
                | succ m ih_L160 =>
                  intro i f2 k g10 g11 g12 g13
                  refine j_iload G 3 rfl dX2_pass_160 ?_
                  refine j_iconst G dX2_pass_162 ?_
                  refine j_icmp_ge 186 G (by unfold iR at *; omega) (by unfold iR; omega) dX2_pass_163 (by decide) (fun c_163 => ?_) (fun c_163 => ?_)
                  · skip
                    refine j_lload_n G 2 rfl dX2_pass_186 ?_
                    exact j_lret G E ⟨f2, f1, (fun q h0 h1 => by rw [g12 q h0 (by omega)]; exact g7 q h0 h1), (by rw [g9]), rfl⟩ ⟨by omega, by omega⟩ dX2_pass_187
                  · skip
                    refine j_aload_n G 0 rfl dX2_pass_166 ?_
                    refine j_get G FX2 (jAt_1 0 rfl) 28 (by decide) q1872 rfl dX2_pass_167 ?_
                    refine j_iload G 3 rfl dX2_pass_170 ?_
                    refine j_aload_n G 0 rfl dX2_pass_172 ?_
                    refine j_get G FX2 (jAt_1 0 rfl) 29 (by decide) q1873 rfl dX2_pass_173 ?_
                    refine j_iload G 3 rfl dX2_pass_176 ?_
                    refine j_laload G (jAt_1 3 rfl) (by (try unfold iR at *); omega) (by (try unfold iR at *); omega) (by (try unfold iR at *); omega) dX2_pass_178 ?_
                    refine j_lastore (ws' := [[(y0, jO 1 [iI th, iI n, iI gr, iI pw, .ref aT, iI po, iI pr, iI ix, iI sd, iI gn, iI tk, iI ln, .ref aX, iI zs, iI zl, iI za, iI zf, iI ze, iI zi, .ref aR, .ref aM, .ref aG, .ref aN, .ref aQ, lI ls, lI wn, .ref aO, .ref aS, .ref aH, .ref aU, lI sc, iI zc, .ref aW, lI al, lI nr, lI dr, iI bp, lI ba, lI bb, lI hh])], [(aT, cI u 24 tb)], [(aH, cJ u 4 (uZ f2 k (f1 k)))], [(aU, cJ u 4 f1)]]) G (jAt_1 2 rfl) (by (try unfold iR at *); omega) (by (try unfold iR at *); omega) (by (try unfold iR at *); omega) dX2_pass_179 rfl ?_
                    refine j_iinc G 3 rfl [(4, iI (k + 1)), (0, .ref y0), (1, iI lv), (2, lI s)] rfl (by decide) dX2_pass_180 ?_
                    refine j_goto 160 G dX2_pass_183 (by decide) ?_
                    refine j_lv [1, 2, 3, 0] rfl ?_
                    exact ih_L160 (i + 1) (uZ f2 k (f1 k)) (k + 1) (by (try unfold iR at *); omega) (by (try unfold iR at *); omega) (fun q h0 h1 => by unfold uZ; split <;> first | (rename_i e; rw [e]) | exact g12 q h0 (by omega)) (by (try unfold iR at *); omega)
              refine j_lv [1, 2, 3, 0] rfl ?_
              exact L160 5 0 h 0 (by omega) rfl (fun q h0 h1 => absurd h1 (by omega)) (by omega)
            · skip
              refine j_aload_n G 0 rfl dX2_pass_37 ?_
              refine j_iload_n G 1 rfl dX2_pass_38 ?_
              refine j_iload G 3 rfl dX2_pass_39 ?_
              refine j_callV (wr := [[(aH, cJ u 4 h)], [(aU, cJ u 4 f1)]]) (k' := 0) (n' := 0) G FX2 (c_X2_back l u y0 aT aX aR aM aG aN aQ aO aS aH aU aW th n gr pw po pr ix sd gn tk ln zs zl za zf ze zi zc bp ls wn sc al nr dr ba bb hh tb lv k hlv (by omega) hg hw) (jAt_1 0 rfl) ⟨rfl, hY_X2_back⟩ q2113 q2115 qs62 q90 q2116 (jcut 4 [0, 1, 2, 3] (by decide) rfl rfl) ⟨by omega, by omega, by omega, by omega, by omega, by omega⟩ (Nat.le_of_ble_eq_true rfl) dX2_pass_41 rfl (fun v_ w_ hp => ?_)
              obtain ⟨r_41, h41_1, rfl, rfl⟩ := hp
              show jJ X u 7 [[(y0, jO 1 [iI th, iI n, iI gr, iI pw, .ref aT, iI po, iI pr, iI ix, iI sd, iI gn, iI tk, iI ln, .ref aX, iI zs, iI zl, iI za, iI zf, iI ze, iI zi, .ref aR, .ref aM, .ref aG, .ref aN, .ref aQ, lI ls, lI wn, .ref aO, .ref aS, .ref aH, .ref aU, lI sc, iI zc, .ref aW, lI al, lI nr, lI dr, iI bp, lI ba, lI bb, lI hh])], [(aT, cI u 24 tb)], [(aH, cJ u 4 h)], [(aU, cJ u 4 f1)]] [(0, .ref y0), (1, iI lv), (2, lI s), (4, iI k)] 0 0 44 [iI r_41]
              refine j_istore G [(5, iI r_41), (0, .ref y0), (1, iI lv), (2, lI s), (4, iI k)] rfl (by decide) dX2_pass_44 ?_
              refine j_aload_n G 1 rfl dX2_pass_46 ?_
              refine j_iload_n G 2 rfl dX2_pass_47 ?_
              refine j_iload G 4 rfl dX2_pass_48 ?_
              refine j_callV (wr := [[(aH, cJ u 4 h)], [(aU, cJ u 4 f1)]]) (k' := 0) (n' := 0) G FX2 (c_X2_forward l u y0 aT aX aR aM aG aN aQ aO aS aH aU aW th n gr pw po pr ix sd gn tk ln zs zl za zf ze zi zc bp ls wn sc al nr dr ba bb hh tb lv k hlv (by omega) hg hw) (jAt_1 0 rfl) ⟨rfl, hY_X2_forward⟩ q2117 q2119 qs63 q90 q2120 (jcut 4 [0, 1, 2, 3] (by decide) rfl rfl) ⟨by omega, by omega, by omega, by omega, by omega, by omega⟩ (Nat.le_of_ble_eq_true rfl) dX2_pass_50 rfl (fun v_ w_ hp => ?_)
              obtain ⟨r_50, h50_1, rfl, rfl⟩ := hp
              show jJ X u 7 [[(y0, jO 1 [iI th, iI n, iI gr, iI pw, .ref aT, iI po, iI pr, iI ix, iI sd, iI gn, iI tk, iI ln, .ref aX, iI zs, iI zl, iI za, iI zf, iI ze, iI zi, .ref aR, .ref aM, .ref aG, .ref aN, .ref aQ, lI ls, lI wn, .ref aO, .ref aS, .ref aH, .ref aU, lI sc, iI zc, .ref aW, lI al, lI nr, lI dr, iI bp, lI ba, lI bb, lI hh])], [(aT, cI u 24 tb)], [(aH, cJ u 4 h)], [(aU, cJ u 4 f1)]] [(5, iI r_41), (0, .ref y0), (1, iI lv), (2, lI s), (4, iI k)] 0 0 53 [iI r_50]
              refine j_istore G [(6, iI r_50), (5, iI r_41), (0, .ref y0), (1, iI lv), (2, lI s), (4, iI k)] rfl (by decide) dX2_pass_53 ?_
              refine j_lload_n G 4 rfl dX2_pass_55 ?_
              refine j_aload_n G 2 rfl dX2_pass_56 ?_
              refine j_get G FX2 (jAt_1 0 rfl) 28 (by decide) q1872 rfl dX2_pass_57 ?_
              have hb41 := sDraw_R (gr := gr) (pw := pw) (lv := lv) (p := k) hT hlv (by omega)
              refine j_iload G 5 rfl dX2_pass_60 ?_
              refine j_laload G (jAt_1 2 rfl) (by (try unfold iR at *); omega) (by (try unfold iR at *); omega) (by (try unfold iR at *); omega) dX2_pass_62 ?_
              refine j_iload G 0 rfl dX2_pass_63 ?_
              refine j_iload G 1 rfl dX2_pass_65 ?_
              refine j_isub G dX2_pass_67 ?_
              refine j_i2l G (by unfold iR at *; omega) dX2_pass_68 ?_
              refine j_lmul G dX2_pass_69 ?_
              refine j_ladd G dX2_pass_70 ?_
              refine j_lstore_n G [(2, lI (s + ((h k) * (r_50 - r_41)))), (6, iI r_50), (5, iI r_41), (0, .ref y0), (1, iI lv), (4, iI k)] rfl (by decide) dX2_pass_71 ?_
              refine j_aload_n G 3 rfl dX2_pass_72 ?_
              refine j_get G FX2 (jAt_1 0 rfl) 29 (by decide) q1873 rfl dX2_pass_73 ?_
              refine j_aload_n G 3 rfl dX2_pass_76 ?_
              refine j_iload G 5 rfl dX2_pass_77 ?_
              refine j_iconst G dX2_pass_79 ?_
              refine j_callV (wr := [[(aT, cI u 24 tb)], [(aH, cJ u 4 h)], [(aU, cJ u 4 f1)]]) (k' := 0) (n' := 0) G FX2 (c_X2_moved l u y0 aT aX aR aM aG aN aQ aO aS aH aU aW th n gr pw po pr ix sd gn tk ln zs zl za zf ze zi zc bp ls wn sc al nr dr ba bb hh k (-1) hn (by omega) (by omega)) (jAt_1 0 rfl) ⟨rfl, hY_X2_moved⟩ q2036 q2038 qs49 q90 q2039 (jcut 4 [0, 1, 2, 3] (by decide) rfl rfl) ⟨by omega, by omega, by omega, by omega, by omega, by omega⟩ (Nat.le_of_ble_eq_true rfl) dX2_pass_80 rfl (fun v_ w_ hp => ?_)
              obtain ⟨r_80, h80_1, h80_2, rfl, rfl⟩ := hp
              show jJ X u 7 [[(y0, jO 1 [iI th, iI n, iI gr, iI pw, .ref aT, iI po, iI pr, iI ix, iI sd, iI gn, iI tk, iI ln, .ref aX, iI zs, iI zl, iI za, iI zf, iI ze, iI zi, .ref aR, .ref aM, .ref aG, .ref aN, .ref aQ, lI ls, lI wn, .ref aO, .ref aS, .ref aH, .ref aU, lI sc, iI zc, .ref aW, lI al, lI nr, lI dr, iI bp, lI ba, lI bb, lI hh])], [(aT, cI u 24 tb)], [(aH, cJ u 4 h)], [(aU, cJ u 4 f1)]] [(2, lI (s + ((h k) * (r_50 - r_41)))), (6, iI r_50), (5, iI r_41), (0, .ref y0), (1, iI lv), (4, iI k)] 0 0 83 [iI r_80, .ref aU]
              refine j_dup2 G rfl rfl dX2_pass_83 ?_
              refine j_laload G (jAt_1 3 rfl) (by (try unfold iR at *); omega) (by (try unfold iR at *); omega) (by (try unfold iR at *); omega) dX2_pass_84 ?_
              refine j_aload_n G 3 rfl dX2_pass_85 ?_
              refine j_get G FX2 (jAt_1 0 rfl) 28 (by decide) q1872 rfl dX2_pass_86 ?_
              refine j_iload G 5 rfl dX2_pass_89 ?_
              refine j_laload G (jAt_1 2 rfl) (by (try unfold iR at *); omega) (by (try unfold iR at *); omega) (by (try unfold iR at *); omega) dX2_pass_91 ?_
              refine j_iload G 2 rfl dX2_pass_92 ?_
              refine j_i2l G (by unfold iR at *; omega) dX2_pass_94 ?_
              refine j_lmul G dX2_pass_95 ?_
              refine j_ladd G dX2_pass_96 ?_
              refine j_lastore (ws' := [[(y0, jO 1 [iI th, iI n, iI gr, iI pw, .ref aT, iI po, iI pr, iI ix, iI sd, iI gn, iI tk, iI ln, .ref aX, iI zs, iI zl, iI za, iI zf, iI ze, iI zi, .ref aR, .ref aM, .ref aG, .ref aN, .ref aQ, lI ls, lI wn, .ref aO, .ref aS, .ref aH, .ref aU, lI sc, iI zc, .ref aW, lI al, lI nr, lI dr, iI bp, lI ba, lI bb, lI hh])], [(aT, cI u 24 tb)], [(aH, cJ u 4 h)], [(aU, cJ u 4 (uZ f1 r_80 ((f1 r_80) + ((h k) * r_41))))]]) G (jAt_1 3 rfl) (by (try unfold iR at *); omega) (by (try unfold iR at *); omega) (by (try unfold iR at *); omega) dX2_pass_97 rfl ?_
              refine j_aload_n G 3 rfl dX2_pass_98 ?_
              refine j_get G FX2 (jAt_1 0 rfl) 29 (by decide) q1873 rfl dX2_pass_99 ?_
              refine j_iload G 5 rfl dX2_pass_102 ?_
              refine j_dup2 G rfl rfl dX2_pass_104 ?_
              refine j_laload G (jAt_1 3 rfl) (by (try unfold iR at *); omega) (by (try unfold iR at *); omega) (by (try unfold iR at *); omega) dX2_pass_105 ?_
              refine j_aload_n G 3 rfl dX2_pass_106 ?_
              refine j_get G FX2 (jAt_1 0 rfl) 28 (by decide) q1872 rfl dX2_pass_107 ?_
              refine j_iload G 5 rfl dX2_pass_110 ?_
              refine j_laload G (jAt_1 2 rfl) (by (try unfold iR at *); omega) (by (try unfold iR at *); omega) (by (try unfold iR at *); omega) dX2_pass_112 ?_
              refine j_bipush G (by decide) dX2_pass_113 ?_
              refine j_iload G 2 rfl dX2_pass_115 ?_
              refine j_isub G dX2_pass_117 ?_
              refine j_iload G 1 rfl dX2_pass_118 ?_
              refine j_isub G dX2_pass_120 ?_
              refine j_i2l G (by unfold iR at *; omega) dX2_pass_121 ?_
              refine j_lmul G dX2_pass_122 ?_
              refine j_ladd G dX2_pass_123 ?_
              refine j_lastore (ws' := [[(y0, jO 1 [iI th, iI n, iI gr, iI pw, .ref aT, iI po, iI pr, iI ix, iI sd, iI gn, iI tk, iI ln, .ref aX, iI zs, iI zl, iI za, iI zf, iI ze, iI zi, .ref aR, .ref aM, .ref aG, .ref aN, .ref aQ, lI ls, lI wn, .ref aO, .ref aS, .ref aH, .ref aU, lI sc, iI zc, .ref aW, lI al, lI nr, lI dr, iI bp, lI ba, lI bb, lI hh])], [(aT, cI u 24 tb)], [(aH, cJ u 4 h)], [(aU, cJ u 4 (uZ (uZ f1 r_80 ((f1 r_80) + ((h k) * r_41))) k (((uZ f1 r_80 ((f1 r_80) + ((h k) * r_41))) k) + ((h k) * ((10 - r_41) - r_50)))))]]) G (jAt_1 3 rfl) (by (try unfold iR at *); omega) (by (try unfold iR at *); omega) (by (try unfold iR at *); omega) dX2_pass_124 rfl ?_
              refine j_aload_n G 3 rfl dX2_pass_125 ?_
              refine j_get G FX2 (jAt_1 0 rfl) 29 (by decide) q1873 rfl dX2_pass_126 ?_
              refine j_aload_n G 3 rfl dX2_pass_129 ?_
              refine j_iload G 5 rfl dX2_pass_130 ?_
              refine j_iconst G dX2_pass_132 ?_
              refine j_callV (wr := [[(aT, cI u 24 tb)], [(aH, cJ u 4 h)], [(aU, cJ u 4 (uZ (uZ f1 r_80 ((f1 r_80) + ((h k) * r_41))) k (((uZ f1 r_80 ((f1 r_80) + ((h k) * r_41))) k) + ((h k) * ((10 - r_41) - r_50)))))]]) (k' := 0) (n' := 0) G FX2 (c_X2_moved l u y0 aT aX aR aM aG aN aQ aO aS aH aU aW th n gr pw po pr ix sd gn tk ln zs zl za zf ze zi zc bp ls wn sc al nr dr ba bb hh k 1 hn (by omega) (by omega)) (jAt_1 0 rfl) ⟨rfl, hY_X2_moved⟩ q2036 q2038 qs49 q90 q2039 (jcut 4 [0, 1, 2, 3] (by decide) rfl rfl) ⟨by omega, by omega, by omega, by omega, by omega, by omega⟩ (Nat.le_of_ble_eq_true rfl) dX2_pass_133 rfl (fun v_ w_ hp => ?_)
              obtain ⟨r_133, h133_1, h133_2, rfl, rfl⟩ := hp
              show jJ X u 7 [[(y0, jO 1 [iI th, iI n, iI gr, iI pw, .ref aT, iI po, iI pr, iI ix, iI sd, iI gn, iI tk, iI ln, .ref aX, iI zs, iI zl, iI za, iI zf, iI ze, iI zi, .ref aR, .ref aM, .ref aG, .ref aN, .ref aQ, lI ls, lI wn, .ref aO, .ref aS, .ref aH, .ref aU, lI sc, iI zc, .ref aW, lI al, lI nr, lI dr, iI bp, lI ba, lI bb, lI hh])], [(aT, cI u 24 tb)], [(aH, cJ u 4 h)], [(aU, cJ u 4 (uZ (uZ f1 r_80 ((f1 r_80) + ((h k) * r_41))) k (((uZ f1 r_80 ((f1 r_80) + ((h k) * r_41))) k) + ((h k) * ((10 - r_41) - r_50)))))]] [(2, lI (s + ((h k) * (r_50 - r_41)))), (6, iI r_50), (5, iI r_41), (0, .ref y0), (1, iI lv), (4, iI k)] 0 0 136 [iI r_133, .ref aU]
              refine j_dup2 G rfl rfl dX2_pass_136 ?_
              refine j_laload G (jAt_1 3 rfl) (by (try unfold iR at *); omega) (by (try unfold iR at *); omega) (by (try unfold iR at *); omega) dX2_pass_137 ?_
              refine j_aload_n G 3 rfl dX2_pass_138 ?_
              refine j_get G FX2 (jAt_1 0 rfl) 28 (by decide) q1872 rfl dX2_pass_139 ?_
              refine j_iload G 5 rfl dX2_pass_142 ?_
              refine j_laload G (jAt_1 2 rfl) (by (try unfold iR at *); omega) (by (try unfold iR at *); omega) (by (try unfold iR at *); omega) dX2_pass_144 ?_
              refine j_iload G 1 rfl dX2_pass_145 ?_
              refine j_i2l G (by unfold iR at *; omega) dX2_pass_147 ?_
              refine j_lmul G dX2_pass_148 ?_
              refine j_ladd G dX2_pass_149 ?_
              refine j_lastore (ws' := [[(y0, jO 1 [iI th, iI n, iI gr, iI pw, .ref aT, iI po, iI pr, iI ix, iI sd, iI gn, iI tk, iI ln, .ref aX, iI zs, iI zl, iI za, iI zf, iI ze, iI zi, .ref aR, .ref aM, .ref aG, .ref aN, .ref aQ, lI ls, lI wn, .ref aO, .ref aS, .ref aH, .ref aU, lI sc, iI zc, .ref aW, lI al, lI nr, lI dr, iI bp, lI ba, lI bb, lI hh])], [(aT, cI u 24 tb)], [(aH, cJ u 4 h)], [(aU, cJ u 4 (uZ (uZ (uZ f1 r_80 ((f1 r_80) + ((h k) * r_41))) k (((uZ f1 r_80 ((f1 r_80) + ((h k) * r_41))) k) + ((h k) * ((10 - r_41) - r_50)))) r_133 (((uZ (uZ f1 r_80 ((f1 r_80) + ((h k) * r_41))) k (((uZ f1 r_80 ((f1 r_80) + ((h k) * r_41))) k) + ((h k) * ((10 - r_41) - r_50)))) r_133) + ((h k) * r_50))))]]) G (jAt_1 3 rfl) (by (try unfold iR at *); omega) (by (try unfold iR at *); omega) (by (try unfold iR at *); omega) dX2_pass_150 rfl ?_
              refine j_iinc G 5 rfl [(4, iI (k + 1)), (2, lI (s + ((h k) * (r_50 - r_41)))), (6, iI r_50), (5, iI r_41), (0, .ref y0), (1, iI lv)] rfl (by decide) dX2_pass_151 ?_
              refine j_goto 28 G dX2_pass_154 (by decide) ?_
              refine j_lv [4, 5, 1, 0] rfl ?_
              exact ih_L28 (j + 1) (uZ (uZ (uZ f1 r_80 ((f1 r_80) + ((h k) * r_41))) k (((uZ f1 r_80 ((f1 r_80) + ((h k) * r_41))) k) + ((h k) * ((10 - r_41) - r_50)))) r_133 (((uZ (uZ f1 r_80 ((f1 r_80) + ((h k) * r_41))) k (((uZ f1 r_80 ((f1 r_80) + ((h k) * r_41))) k) + ((h k) * ((10 - r_41) - r_50)))) r_133) + ((h k) * r_50))) (k + 1) (s + ((h k) * (r_50 - r_41))) (by (try unfold iR at *); omega) (by (try unfold iR at *); omega) (by
                have e := eqN_A (eqN_A (eqN_A g7 (i := r_80) (w := h k * r_41) (by omega) (by omega)) (i := k) (w := h k * (10 - r_41 - r_50)) (by omega) (by omega)) (i := r_133) (w := h k * r_50) (by omega) (by omega)
                unfold rwF
                rw [sDraw_b, sDraw_s, sDraw_f, ← g6, ← h80_1, ← h133_1, ← h41_1, ← h50_1]
                exact e) (by (try unfold iR at *); omega) (by unfold rwG; rw [sDraw_b, sDraw_f, ← g6, ← h41_1, ← h50_1, g9])
        refine j_lv [1, 2, 3, 0] rfl ?_
        exact L28 5 0 f 0 0 (by omega) rfl (fun q h0 h1 => g3 q h0 (by omega)) (by omega) rfl
      · skip
        refine j_aload_n G 0 rfl dX2_pass_11 ?_
        refine j_get G FX2 (jAt_1 0 rfl) 29 (by decide) q1873 rfl dX2_pass_12 ?_
        refine j_iload G 3 rfl dX2_pass_15 ?_
        refine j_lconst 0 G rfl dX2_pass_17 ?_
        refine j_lastore (ws' := [[(y0, jO 1 [iI th, iI n, iI gr, iI pw, .ref aT, iI po, iI pr, iI ix, iI sd, iI gn, iI tk, iI ln, .ref aX, iI zs, iI zl, iI za, iI zf, iI ze, iI zi, .ref aR, .ref aM, .ref aG, .ref aN, .ref aQ, lI ls, lI wn, .ref aO, .ref aS, .ref aH, .ref aU, lI sc, iI zc, .ref aW, lI al, lI nr, lI dr, iI bp, lI ba, lI bb, lI hh])], [(aT, cI u 24 tb)], [(aH, cJ u 4 h)], [(aU, cJ u 4 (uZ f k 0))]]) G (jAt_1 3 rfl) (by (try unfold iR at *); omega) (by (try unfold iR at *); omega) (by (try unfold iR at *); omega) dX2_pass_18 rfl ?_
        refine j_iinc G 3 rfl [(4, iI (k + 1)), (0, .ref y0), (1, iI lv), (2, lI 0)] rfl (by decide) dX2_pass_19 ?_
        refine j_goto 5 G dX2_pass_22 (by decide) ?_
        refine j_lv [1, 2, 3, 0] rfl ?_
        exact ih_L5 (j + 1) (uZ f k 0) (k + 1) (by (try unfold iR at *); omega) (by (try unfold iR at *); omega) (fun q h0 h1 => by unfold uZ; split <;> first | rfl | exact g3 q h0 (by omega)) (by (try unfold iR at *); omega)
  refine j_lv [2, 3, 1, 0] rfl ?_
  exact L5 5 0 ut 0 (by (try unfold iR at *); omega) rfl (fun q h0 h1 => absurd h1 (by omega)) (by (try unfold iR at *); omega)
theorem hY_X2_entry : jY yX2_entry 2 := ⟨by decide +kernel, by decide +kernel, by decide +kernel⟩
set_option maxHeartbeats 4000000 in
set_option maxRecDepth 100000 in
theorem c_X2_entry (l : Launch) (u : jU) (y0 aT aX aR aM aG aN aQ aO aS aH aU aW : Nat) (th n gr pw po pr ix sd gn tk ln zs zl za zf ze zi zc bp ls wn sc al nr dr ba bb hh : Int) (ro : Int → Int) (M : Int → Int → Int) (p q : Int) (hn : 2 ≤ n ∧ n ≤ 4) (hM : ∀ a b : Int, 0 ≤ a → a < n → 0 ≤ b → b < 4 → ro (4 * a + b) = M a b) (hp : 0 ≤ p ∧ p < n) (hq : 0 ≤ q ∧ q < n) : jC l u yX2_entry cX2_entry 3 (some .long) 0 0 0 0 [.ref y0, iI p, iI q] [[(y0, jO 1 [iI th, iI n, iI gr, iI pw, .ref aT, iI po, iI pr, iI ix, iI sd, iI gn, iI tk, iI ln, .ref aX, iI zs, iI zl, iI za, iI zf, iI ze, iI zi, .ref aR, .ref aM, .ref aG, .ref aN, .ref aQ, lI ls, lI wn, .ref aO, .ref aS, .ref aH, .ref aU, lI sc, iI zc, .ref aW, lI al, lI nr, lI dr, iI bp, lI ba, lI bb, lI hh])], [(aO, cJ u 16 ro)]] (fun v_ w_ => v_ = some (lI (ent M sc p q)) ∧ w_ = [[(y0, jO 1 [iI th, iI n, iI gr, iI pw, .ref aT, iI po, iI pr, iI ix, iI sd, iI gn, iI tk, iI ln, .ref aX, iI zs, iI zl, iI za, iI zf, iI ze, iI zi, .ref aR, .ref aM, .ref aG, .ref aN, .ref aQ, lI ls, lI wn, .ref aO, .ref aS, .ref aH, .ref aU, lI sc, iI zc, .ref aW, lI al, lI nr, lI dr, iI bp, lI ba, lI bb, lI hh])], [(aO, cJ u 16 ro)]]) := by
  refine jC.of "FlashRatchetModel" (by decide +kernel) rfl (Nat.le_of_ble_eq_true rfl) [(0, .ref y0), (1, iI p), (2, iI q)] rfl (fun X G E I => ?_)
  refine j_iload_n G 1 rfl dX2_entry_0 ?_
  refine j_iload_n G 2 rfl dX2_entry_1 ?_
  refine j_icmp_ne 23 G (by unfold iR at *; omega) (by unfold iR at *; omega) dX2_entry_2 (by decide) (fun c_2 => ?_) (fun c_2 => ?_)
  · skip
    refine j_aload_n G 0 rfl dX2_entry_23 ?_
    refine j_get G FX2 (jAt_1 0 rfl) 26 (by decide) q1870 rfl dX2_entry_24 ?_
    refine j_iconst G dX2_entry_27 ?_
    refine j_iload_n G 1 rfl dX2_entry_28 ?_
    refine j_imul G dX2_entry_29 ?_
    refine j_iload_n G 2 rfl dX2_entry_30 ?_
    refine j_iadd G dX2_entry_31 ?_
    refine j_laload G (jAt_1 1 rfl) (by (try unfold iR at *); omega) (by (try unfold iR at *); omega) (by (try unfold iR at *); omega) dX2_entry_32 ?_
    refine j_lneg G dX2_entry_33 ?_
    exact j_lret G E ⟨(by unfold ent; first | (rw [if_pos c_2, hM p p (by omega) (by omega) (by omega) (by omega)]) | (rw [if_neg c_2, hM p q (by omega) (by omega) (by omega) (by omega)])), rfl⟩ ⟨by omega, by omega⟩ dX2_entry_34
  · skip
    refine j_aload_n G 0 rfl dX2_entry_5 ?_
    refine j_get G FX2 (jAt_1 0 rfl) 30 (by decide) q1874 rfl dX2_entry_6 ?_
    refine j_aload_n G 0 rfl dX2_entry_9 ?_
    refine j_get G FX2 (jAt_1 0 rfl) 26 (by decide) q1870 rfl dX2_entry_10 ?_
    refine j_iconst G dX2_entry_13 ?_
    refine j_iload_n G 1 rfl dX2_entry_14 ?_
    refine j_imul G dX2_entry_15 ?_
    refine j_iload_n G 1 rfl dX2_entry_16 ?_
    refine j_iadd G dX2_entry_17 ?_
    refine j_laload G (jAt_1 1 rfl) (by (try unfold iR at *); omega) (by (try unfold iR at *); omega) (by (try unfold iR at *); omega) dX2_entry_18 ?_
    refine j_lsub G dX2_entry_19 ?_
    refine j_goto 34 G dX2_entry_20 (by decide) ?_
    exact j_lret G E ⟨(by unfold ent; first | (rw [if_pos c_2, hM p p (by omega) (by omega) (by omega) (by omega)]) | (rw [if_neg c_2, hM p q (by omega) (by omega) (by omega) (by omega)])), rfl⟩ ⟨by omega, by omega⟩ dX2_entry_34
theorem hY_X2_minor : jY yX2_minor 1 := ⟨by decide +kernel, by decide +kernel, by decide +kernel⟩
set_option maxHeartbeats 4000000 in
set_option maxRecDepth 100000 in
theorem c_X2_minor (l : Launch) (u : jU) (y0 aT aX aR aM aG aN aQ aO aS aH aU aW : Nat) (th n gr pw po pr ix sd gn tk ln zs zl za zf ze zi zc bp ls wn sc al nr dr ba bb hh : Int) (ro : Int → Int) (M : Int → Int → Int) (w : Int) (hn : 2 ≤ n ∧ n ≤ 4) (hM : ∀ a b : Int, 0 ≤ a → a < n → 0 ≤ b → b < 4 → ro (4 * a + b) = M a b) (hw : 0 ≤ w ∧ w < n) : jC l u yX2_minor cX2_minor 11 (some .long) 1 22 0 0 [.ref y0, iI w] [[(y0, jO 1 [iI th, iI n, iI gr, iI pw, .ref aT, iI po, iI pr, iI ix, iI sd, iI gn, iI tk, iI ln, .ref aX, iI zs, iI zl, iI za, iI zf, iI ze, iI zi, .ref aR, .ref aM, .ref aG, .ref aN, .ref aQ, lI ls, lI wn, .ref aO, .ref aS, .ref aH, .ref aU, lI sc, iI zc, .ref aW, lI al, lI nr, lI dr, iI bp, lI ba, lI bb, lI hh])], [(aO, cJ u 16 ro)]] (fun v_ w_ => v_ = some (lI (mnr n M sc w)) ∧ w_ = [[(y0, jO 1 [iI th, iI n, iI gr, iI pw, .ref aT, iI po, iI pr, iI ix, iI sd, iI gn, iI tk, iI ln, .ref aX, iI zs, iI zl, iI za, iI zf, iI ze, iI zi, .ref aR, .ref aM, .ref aG, .ref aN, .ref aQ, lI ls, lI wn, .ref aO, .ref aS, .ref aH, .ref aU, lI sc, iI zc, .ref aW, lI al, lI nr, lI dr, iI bp, lI ba, lI bb, lI hh])], [(aO, cJ u 16 ro)]]) := by
  refine jC.of "FlashRatchetModel" (by decide +kernel) rfl (Nat.le_of_ble_eq_true rfl) [(0, .ref y0), (1, iI w)] rfl (fun X G E I => ?_)
  have habc := mnABC hn hw
  obtain ⟨hA, hB, hC⟩ := habc
  have L10 : jJ X u 11 [[(y0, jO 1 [iI th, iI n, iI gr, iI pw, .ref aT, iI po, iI pr, iI ix, iI sd, iI gn, iI tk, iI ln, .ref aX, iI zs, iI zl, iI za, iI zf, iI ze, iI zi, .ref aR, .ref aM, .ref aG, .ref aN, .ref aQ, lI ls, lI wn, .ref aO, .ref aS, .ref aH, .ref aU, lI sc, iI zc, .ref aW, lI al, lI nr, lI dr, iI bp, lI ba, lI bb, lI hh])], [(aO, cJ u 16 ro)]] [(0, .ref y0), (1, iI w), (2, iI (mnA w))] 0 0 10 [] := by
    have L21 : jJ X u 11 [[(y0, jO 1 [iI th, iI n, iI gr, iI pw, .ref aT, iI po, iI pr, iI ix, iI sd, iI gn, iI tk, iI ln, .ref aX, iI zs, iI zl, iI za, iI zf, iI ze, iI zi, .ref aR, .ref aM, .ref aG, .ref aN, .ref aQ, lI ls, lI wn, .ref aO, .ref aS, .ref aH, .ref aU, lI sc, iI zc, .ref aW, lI al, lI nr, lI dr, iI bp, lI ba, lI bb, lI hh])], [(aO, cJ u 16 ro)]] [(0, .ref y0), (1, iI w), (2, iI (mnA w)), (3, iI (mnB w))] 0 0 21 [] := by
      have L33 : jJ X u 11 [[(y0, jO 1 [iI th, iI n, iI gr, iI pw, .ref aT, iI po, iI pr, iI ix, iI sd, iI gn, iI tk, iI ln, .ref aX, iI zs, iI zl, iI za, iI zf, iI ze, iI zi, .ref aR, .ref aM, .ref aG, .ref aN, .ref aQ, lI ls, lI wn, .ref aO, .ref aS, .ref aH, .ref aU, lI sc, iI zc, .ref aW, lI al, lI nr, lI dr, iI bp, lI ba, lI bb, lI hh])], [(aO, cJ u 16 ro)]] [(0, .ref y0), (1, iI w), (2, iI (mnA w)), (3, iI (mnB w)), (4, iI (mnC w))] 0 0 33 [] := by
        refine j_aload_n G 0 rfl dX2_minor_33 ?_
        refine j_get G FX2 (jAt_1 0 rfl) 1 (by decide) q1845 rfl dX2_minor_34 ?_
        refine j_iconst G dX2_minor_37 ?_
        refine j_icmp_ne 48 G (by unfold iR at *; omega) (by unfold iR; omega) dX2_minor_38 (by decide) (fun c_38 => ?_) (fun c_38 => ?_)
        · skip
          refine j_aload_n G 0 rfl dX2_minor_48 ?_
          refine j_get G FX2 (jAt_1 0 rfl) 1 (by decide) q1845 rfl dX2_minor_49 ?_
          refine j_iconst G dX2_minor_52 ?_
          refine j_icmp_ne 84 G (by unfold iR at *; omega) (by unfold iR; omega) dX2_minor_53 (by decide) (fun c_53 => ?_) (fun c_53 => ?_)
          · skip
            have hB := hB (by omega)
            have hC := hC (by omega)
            refine j_aload_n G 0 rfl dX2_minor_84 ?_
            refine j_iload_n G 2 rfl dX2_minor_85 ?_
            refine j_iload_n G 2 rfl dX2_minor_86 ?_
            refine j_callV (wr := []) (k' := 0) (n' := 0) G FX2 (c_X2_entry l u y0 aT aX aR aM aG aN aQ aO aS aH aU aW th n gr pw po pr ix sd gn tk ln zs zl za zf ze zi zc bp ls wn sc al nr dr ba bb hh ro M (mnA w) (mnA w) hn hM (by omega) (by omega)) (jAt_1 0 rfl) ⟨rfl, hY_X2_entry⟩ q2173 q2175 qs74 q90 q2176 (jcut 2 [0, 1] (by decide) rfl rfl) ⟨by omega, by omega, by omega, by omega, by omega, by omega⟩ (Nat.le_of_ble_eq_true rfl) dX2_minor_87 rfl (fun v_ w_ hp => ?_)
            obtain ⟨rfl, rfl⟩ := hp
            show jJ X u 11 [[(y0, jO 1 [iI th, iI n, iI gr, iI pw, .ref aT, iI po, iI pr, iI ix, iI sd, iI gn, iI tk, iI ln, .ref aX, iI zs, iI zl, iI za, iI zf, iI ze, iI zi, .ref aR, .ref aM, .ref aG, .ref aN, .ref aQ, lI ls, lI wn, .ref aO, .ref aS, .ref aH, .ref aU, lI sc, iI zc, .ref aW, lI al, lI nr, lI dr, iI bp, lI ba, lI bb, lI hh])], [(aO, cJ u 16 ro)]] [(0, .ref y0), (1, iI w), (2, iI (mnA w)), (3, iI (mnB w)), (4, iI (mnC w))] 0 0 90 [lI (ent M sc (mnA w) (mnA w))]
            refine j_aload_n G 0 rfl dX2_minor_90 ?_
            refine j_iload_n G 3 rfl dX2_minor_91 ?_
            refine j_iload_n G 3 rfl dX2_minor_92 ?_
            refine j_callV (wr := []) (k' := 0) (n' := 0) G FX2 (c_X2_entry l u y0 aT aX aR aM aG aN aQ aO aS aH aU aW th n gr pw po pr ix sd gn tk ln zs zl za zf ze zi zc bp ls wn sc al nr dr ba bb hh ro M (mnB w) (mnB w) hn hM (by omega) (by omega)) (jAt_1 0 rfl) ⟨rfl, hY_X2_entry⟩ q2173 q2175 qs74 q90 q2176 (jcut 2 [0, 1] (by decide) rfl rfl) ⟨by omega, by omega, by omega, by omega, by omega, by omega⟩ (Nat.le_of_ble_eq_true rfl) dX2_minor_93 rfl (fun v_ w_ hp => ?_)
            obtain ⟨rfl, rfl⟩ := hp
            show jJ X u 11 [[(y0, jO 1 [iI th, iI n, iI gr, iI pw, .ref aT, iI po, iI pr, iI ix, iI sd, iI gn, iI tk, iI ln, .ref aX, iI zs, iI zl, iI za, iI zf, iI ze, iI zi, .ref aR, .ref aM, .ref aG, .ref aN, .ref aQ, lI ls, lI wn, .ref aO, .ref aS, .ref aH, .ref aU, lI sc, iI zc, .ref aW, lI al, lI nr, lI dr, iI bp, lI ba, lI bb, lI hh])], [(aO, cJ u 16 ro)]] [(0, .ref y0), (1, iI w), (2, iI (mnA w)), (3, iI (mnB w)), (4, iI (mnC w))] 0 0 96 [lI (ent M sc (mnB w) (mnB w)), lI (ent M sc (mnA w) (mnA w))]
            refine j_aload_n G 0 rfl dX2_minor_96 ?_
            refine j_iload G 4 rfl dX2_minor_97 ?_
            refine j_iload G 4 rfl dX2_minor_99 ?_
            refine j_callV (wr := []) (k' := 0) (n' := 0) G FX2 (c_X2_entry l u y0 aT aX aR aM aG aN aQ aO aS aH aU aW th n gr pw po pr ix sd gn tk ln zs zl za zf ze zi zc bp ls wn sc al nr dr ba bb hh ro M (mnC w) (mnC w) hn hM (by omega) (by omega)) (jAt_1 0 rfl) ⟨rfl, hY_X2_entry⟩ q2173 q2175 qs74 q90 q2176 (jcut 2 [0, 1] (by decide) rfl rfl) ⟨by omega, by omega, by omega, by omega, by omega, by omega⟩ (Nat.le_of_ble_eq_true rfl) dX2_minor_101 rfl (fun v_ w_ hp => ?_)
            obtain ⟨rfl, rfl⟩ := hp
            show jJ X u 11 [[(y0, jO 1 [iI th, iI n, iI gr, iI pw, .ref aT, iI po, iI pr, iI ix, iI sd, iI gn, iI tk, iI ln, .ref aX, iI zs, iI zl, iI za, iI zf, iI ze, iI zi, .ref aR, .ref aM, .ref aG, .ref aN, .ref aQ, lI ls, lI wn, .ref aO, .ref aS, .ref aH, .ref aU, lI sc, iI zc, .ref aW, lI al, lI nr, lI dr, iI bp, lI ba, lI bb, lI hh])], [(aO, cJ u 16 ro)]] [(0, .ref y0), (1, iI w), (2, iI (mnA w)), (3, iI (mnB w)), (4, iI (mnC w))] 0 0 104 [lI (ent M sc (mnC w) (mnC w)), lI (ent M sc (mnB w) (mnB w)), lI (ent M sc (mnA w) (mnA w))]
            refine j_lmul G dX2_minor_104 ?_
            refine j_aload_n G 0 rfl dX2_minor_105 ?_
            refine j_iload_n G 3 rfl dX2_minor_106 ?_
            refine j_iload G 4 rfl dX2_minor_107 ?_
            refine j_callV (wr := []) (k' := 0) (n' := 0) G FX2 (c_X2_entry l u y0 aT aX aR aM aG aN aQ aO aS aH aU aW th n gr pw po pr ix sd gn tk ln zs zl za zf ze zi zc bp ls wn sc al nr dr ba bb hh ro M (mnB w) (mnC w) hn hM (by omega) (by omega)) (jAt_1 0 rfl) ⟨rfl, hY_X2_entry⟩ q2173 q2175 qs74 q90 q2176 (jcut 2 [0, 1] (by decide) rfl rfl) ⟨by omega, by omega, by omega, by omega, by omega, by omega⟩ (Nat.le_of_ble_eq_true rfl) dX2_minor_109 rfl (fun v_ w_ hp => ?_)
            obtain ⟨rfl, rfl⟩ := hp
            show jJ X u 11 [[(y0, jO 1 [iI th, iI n, iI gr, iI pw, .ref aT, iI po, iI pr, iI ix, iI sd, iI gn, iI tk, iI ln, .ref aX, iI zs, iI zl, iI za, iI zf, iI ze, iI zi, .ref aR, .ref aM, .ref aG, .ref aN, .ref aQ, lI ls, lI wn, .ref aO, .ref aS, .ref aH, .ref aU, lI sc, iI zc, .ref aW, lI al, lI nr, lI dr, iI bp, lI ba, lI bb, lI hh])], [(aO, cJ u 16 ro)]] [(0, .ref y0), (1, iI w), (2, iI (mnA w)), (3, iI (mnB w)), (4, iI (mnC w))] 0 0 112 [lI (ent M sc (mnB w) (mnC w)), lI ((ent M sc (mnB w) (mnB w)) * (ent M sc (mnC w) (mnC w))), lI (ent M sc (mnA w) (mnA w))]
            refine j_aload_n G 0 rfl dX2_minor_112 ?_
            refine j_iload G 4 rfl dX2_minor_113 ?_
            refine j_iload_n G 3 rfl dX2_minor_115 ?_
            refine j_callV (wr := []) (k' := 0) (n' := 0) G FX2 (c_X2_entry l u y0 aT aX aR aM aG aN aQ aO aS aH aU aW th n gr pw po pr ix sd gn tk ln zs zl za zf ze zi zc bp ls wn sc al nr dr ba bb hh ro M (mnC w) (mnB w) hn hM (by omega) (by omega)) (jAt_1 0 rfl) ⟨rfl, hY_X2_entry⟩ q2173 q2175 qs74 q90 q2176 (jcut 2 [0, 1] (by decide) rfl rfl) ⟨by omega, by omega, by omega, by omega, by omega, by omega⟩ (Nat.le_of_ble_eq_true rfl) dX2_minor_116 rfl (fun v_ w_ hp => ?_)
            obtain ⟨rfl, rfl⟩ := hp
            show jJ X u 11 [[(y0, jO 1 [iI th, iI n, iI gr, iI pw, .ref aT, iI po, iI pr, iI ix, iI sd, iI gn, iI tk, iI ln, .ref aX, iI zs, iI zl, iI za, iI zf, iI ze, iI zi, .ref aR, .ref aM, .ref aG, .ref aN, .ref aQ, lI ls, lI wn, .ref aO, .ref aS, .ref aH, .ref aU, lI sc, iI zc, .ref aW, lI al, lI nr, lI dr, iI bp, lI ba, lI bb, lI hh])], [(aO, cJ u 16 ro)]] [(0, .ref y0), (1, iI w), (2, iI (mnA w)), (3, iI (mnB w)), (4, iI (mnC w))] 0 0 119 [lI (ent M sc (mnC w) (mnB w)), lI (ent M sc (mnB w) (mnC w)), lI ((ent M sc (mnB w) (mnB w)) * (ent M sc (mnC w) (mnC w))), lI (ent M sc (mnA w) (mnA w))]
            refine j_lmul G dX2_minor_119 ?_
            refine j_lsub G dX2_minor_120 ?_
            refine j_lmul G dX2_minor_121 ?_
            refine j_lstore G [(5, lI ((ent M sc (mnA w) (mnA w)) * (((ent M sc (mnB w) (mnB w)) * (ent M sc (mnC w) (mnC w))) - ((ent M sc (mnB w) (mnC w)) * (ent M sc (mnC w) (mnB w)))))), (0, .ref y0), (1, iI w), (2, iI (mnA w)), (3, iI (mnB w)), (4, iI (mnC w))] rfl (by decide) dX2_minor_122 ?_
            refine j_aload_n G 1 rfl dX2_minor_124 ?_
            refine j_iload_n G 3 rfl dX2_minor_125 ?_
            refine j_iload_n G 4 rfl dX2_minor_126 ?_
            refine j_callV (wr := []) (k' := 0) (n' := 0) G FX2 (c_X2_entry l u y0 aT aX aR aM aG aN aQ aO aS aH aU aW th n gr pw po pr ix sd gn tk ln zs zl za zf ze zi zc bp ls wn sc al nr dr ba bb hh ro M (mnA w) (mnB w) hn hM (by omega) (by omega)) (jAt_1 0 rfl) ⟨rfl, hY_X2_entry⟩ q2173 q2175 qs74 q90 q2176 (jcut 2 [0, 1] (by decide) rfl rfl) ⟨by omega, by omega, by omega, by omega, by omega, by omega⟩ (Nat.le_of_ble_eq_true rfl) dX2_minor_127 rfl (fun v_ w_ hp => ?_)
            obtain ⟨rfl, rfl⟩ := hp
            show jJ X u 11 [[(y0, jO 1 [iI th, iI n, iI gr, iI pw, .ref aT, iI po, iI pr, iI ix, iI sd, iI gn, iI tk, iI ln, .ref aX, iI zs, iI zl, iI za, iI zf, iI ze, iI zi, .ref aR, .ref aM, .ref aG, .ref aN, .ref aQ, lI ls, lI wn, .ref aO, .ref aS, .ref aH, .ref aU, lI sc, iI zc, .ref aW, lI al, lI nr, lI dr, iI bp, lI ba, lI bb, lI hh])], [(aO, cJ u 16 ro)]] [(5, lI ((ent M sc (mnA w) (mnA w)) * (((ent M sc (mnB w) (mnB w)) * (ent M sc (mnC w) (mnC w))) - ((ent M sc (mnB w) (mnC w)) * (ent M sc (mnC w) (mnB w)))))), (0, .ref y0), (1, iI w), (2, iI (mnA w)), (3, iI (mnB w)), (4, iI (mnC w))] 0 0 130 [lI (ent M sc (mnA w) (mnB w))]
            refine j_aload_n G 1 rfl dX2_minor_130 ?_
            refine j_iload_n G 4 rfl dX2_minor_131 ?_
            refine j_iload_n G 3 rfl dX2_minor_132 ?_
            refine j_callV (wr := []) (k' := 0) (n' := 0) G FX2 (c_X2_entry l u y0 aT aX aR aM aG aN aQ aO aS aH aU aW th n gr pw po pr ix sd gn tk ln zs zl za zf ze zi zc bp ls wn sc al nr dr ba bb hh ro M (mnB w) (mnA w) hn hM (by omega) (by omega)) (jAt_1 0 rfl) ⟨rfl, hY_X2_entry⟩ q2173 q2175 qs74 q90 q2176 (jcut 2 [0, 1] (by decide) rfl rfl) ⟨by omega, by omega, by omega, by omega, by omega, by omega⟩ (Nat.le_of_ble_eq_true rfl) dX2_minor_133 rfl (fun v_ w_ hp => ?_)
            obtain ⟨rfl, rfl⟩ := hp
            show jJ X u 11 [[(y0, jO 1 [iI th, iI n, iI gr, iI pw, .ref aT, iI po, iI pr, iI ix, iI sd, iI gn, iI tk, iI ln, .ref aX, iI zs, iI zl, iI za, iI zf, iI ze, iI zi, .ref aR, .ref aM, .ref aG, .ref aN, .ref aQ, lI ls, lI wn, .ref aO, .ref aS, .ref aH, .ref aU, lI sc, iI zc, .ref aW, lI al, lI nr, lI dr, iI bp, lI ba, lI bb, lI hh])], [(aO, cJ u 16 ro)]] [(5, lI ((ent M sc (mnA w) (mnA w)) * (((ent M sc (mnB w) (mnB w)) * (ent M sc (mnC w) (mnC w))) - ((ent M sc (mnB w) (mnC w)) * (ent M sc (mnC w) (mnB w)))))), (0, .ref y0), (1, iI w), (2, iI (mnA w)), (3, iI (mnB w)), (4, iI (mnC w))] 0 0 136 [lI (ent M sc (mnB w) (mnA w)), lI (ent M sc (mnA w) (mnB w))]
            refine j_aload_n G 1 rfl dX2_minor_136 ?_
            refine j_iload G 5 rfl dX2_minor_137 ?_
            refine j_iload G 5 rfl dX2_minor_139 ?_
            refine j_callV (wr := []) (k' := 0) (n' := 0) G FX2 (c_X2_entry l u y0 aT aX aR aM aG aN aQ aO aS aH aU aW th n gr pw po pr ix sd gn tk ln zs zl za zf ze zi zc bp ls wn sc al nr dr ba bb hh ro M (mnC w) (mnC w) hn hM (by omega) (by omega)) (jAt_1 0 rfl) ⟨rfl, hY_X2_entry⟩ q2173 q2175 qs74 q90 q2176 (jcut 2 [0, 1] (by decide) rfl rfl) ⟨by omega, by omega, by omega, by omega, by omega, by omega⟩ (Nat.le_of_ble_eq_true rfl) dX2_minor_141 rfl (fun v_ w_ hp => ?_)
            obtain ⟨rfl, rfl⟩ := hp
            show jJ X u 11 [[(y0, jO 1 [iI th, iI n, iI gr, iI pw, .ref aT, iI po, iI pr, iI ix, iI sd, iI gn, iI tk, iI ln, .ref aX, iI zs, iI zl, iI za, iI zf, iI ze, iI zi, .ref aR, .ref aM, .ref aG, .ref aN, .ref aQ, lI ls, lI wn, .ref aO, .ref aS, .ref aH, .ref aU, lI sc, iI zc, .ref aW, lI al, lI nr, lI dr, iI bp, lI ba, lI bb, lI hh])], [(aO, cJ u 16 ro)]] [(5, lI ((ent M sc (mnA w) (mnA w)) * (((ent M sc (mnB w) (mnB w)) * (ent M sc (mnC w) (mnC w))) - ((ent M sc (mnB w) (mnC w)) * (ent M sc (mnC w) (mnB w)))))), (0, .ref y0), (1, iI w), (2, iI (mnA w)), (3, iI (mnB w)), (4, iI (mnC w))] 0 0 144 [lI (ent M sc (mnC w) (mnC w)), lI (ent M sc (mnB w) (mnA w)), lI (ent M sc (mnA w) (mnB w))]
            refine j_lmul G dX2_minor_144 ?_
            refine j_aload_n G 1 rfl dX2_minor_145 ?_
            refine j_iload_n G 4 rfl dX2_minor_146 ?_
            refine j_iload G 5 rfl dX2_minor_147 ?_
            refine j_callV (wr := []) (k' := 0) (n' := 0) G FX2 (c_X2_entry l u y0 aT aX aR aM aG aN aQ aO aS aH aU aW th n gr pw po pr ix sd gn tk ln zs zl za zf ze zi zc bp ls wn sc al nr dr ba bb hh ro M (mnB w) (mnC w) hn hM (by omega) (by omega)) (jAt_1 0 rfl) ⟨rfl, hY_X2_entry⟩ q2173 q2175 qs74 q90 q2176 (jcut 2 [0, 1] (by decide) rfl rfl) ⟨by omega, by omega, by omega, by omega, by omega, by omega⟩ (Nat.le_of_ble_eq_true rfl) dX2_minor_149 rfl (fun v_ w_ hp => ?_)
            obtain ⟨rfl, rfl⟩ := hp
            show jJ X u 11 [[(y0, jO 1 [iI th, iI n, iI gr, iI pw, .ref aT, iI po, iI pr, iI ix, iI sd, iI gn, iI tk, iI ln, .ref aX, iI zs, iI zl, iI za, iI zf, iI ze, iI zi, .ref aR, .ref aM, .ref aG, .ref aN, .ref aQ, lI ls, lI wn, .ref aO, .ref aS, .ref aH, .ref aU, lI sc, iI zc, .ref aW, lI al, lI nr, lI dr, iI bp, lI ba, lI bb, lI hh])], [(aO, cJ u 16 ro)]] [(5, lI ((ent M sc (mnA w) (mnA w)) * (((ent M sc (mnB w) (mnB w)) * (ent M sc (mnC w) (mnC w))) - ((ent M sc (mnB w) (mnC w)) * (ent M sc (mnC w) (mnB w)))))), (0, .ref y0), (1, iI w), (2, iI (mnA w)), (3, iI (mnB w)), (4, iI (mnC w))] 0 0 152 [lI (ent M sc (mnB w) (mnC w)), lI ((ent M sc (mnB w) (mnA w)) * (ent M sc (mnC w) (mnC w))), lI (ent M sc (mnA w) (mnB w))]
            refine j_aload_n G 1 rfl dX2_minor_152 ?_
            refine j_iload G 5 rfl dX2_minor_153 ?_
            refine j_iload_n G 3 rfl dX2_minor_155 ?_
            refine j_callV (wr := []) (k' := 0) (n' := 0) G FX2 (c_X2_entry l u y0 aT aX aR aM aG aN aQ aO aS aH aU aW th n gr pw po pr ix sd gn tk ln zs zl za zf ze zi zc bp ls wn sc al nr dr ba bb hh ro M (mnC w) (mnA w) hn hM (by omega) (by omega)) (jAt_1 0 rfl) ⟨rfl, hY_X2_entry⟩ q2173 q2175 qs74 q90 q2176 (jcut 2 [0, 1] (by decide) rfl rfl) ⟨by omega, by omega, by omega, by omega, by omega, by omega⟩ (Nat.le_of_ble_eq_true rfl) dX2_minor_156 rfl (fun v_ w_ hp => ?_)
            obtain ⟨rfl, rfl⟩ := hp
            show jJ X u 11 [[(y0, jO 1 [iI th, iI n, iI gr, iI pw, .ref aT, iI po, iI pr, iI ix, iI sd, iI gn, iI tk, iI ln, .ref aX, iI zs, iI zl, iI za, iI zf, iI ze, iI zi, .ref aR, .ref aM, .ref aG, .ref aN, .ref aQ, lI ls, lI wn, .ref aO, .ref aS, .ref aH, .ref aU, lI sc, iI zc, .ref aW, lI al, lI nr, lI dr, iI bp, lI ba, lI bb, lI hh])], [(aO, cJ u 16 ro)]] [(5, lI ((ent M sc (mnA w) (mnA w)) * (((ent M sc (mnB w) (mnB w)) * (ent M sc (mnC w) (mnC w))) - ((ent M sc (mnB w) (mnC w)) * (ent M sc (mnC w) (mnB w)))))), (0, .ref y0), (1, iI w), (2, iI (mnA w)), (3, iI (mnB w)), (4, iI (mnC w))] 0 0 159 [lI (ent M sc (mnC w) (mnA w)), lI (ent M sc (mnB w) (mnC w)), lI ((ent M sc (mnB w) (mnA w)) * (ent M sc (mnC w) (mnC w))), lI (ent M sc (mnA w) (mnB w))]
            refine j_lmul G dX2_minor_159 ?_
            refine j_lsub G dX2_minor_160 ?_
            refine j_lmul G dX2_minor_161 ?_
            refine j_lstore G [(7, lI ((ent M sc (mnA w) (mnB w)) * (((ent M sc (mnB w) (mnA w)) * (ent M sc (mnC w) (mnC w))) - ((ent M sc (mnB w) (mnC w)) * (ent M sc (mnC w) (mnA w)))))), (5, lI ((ent M sc (mnA w) (mnA w)) * (((ent M sc (mnB w) (mnB w)) * (ent M sc (mnC w) (mnC w))) - ((ent M sc (mnB w) (mnC w)) * (ent M sc (mnC w) (mnB w)))))), (0, .ref y0), (1, iI w), (2, iI (mnA w)), (3, iI (mnB w)), (4, iI (mnC w))] rfl (by decide) dX2_minor_162 ?_
            refine j_aload_n G 2 rfl dX2_minor_164 ?_
            refine j_iload_n G 4 rfl dX2_minor_165 ?_
            refine j_iload G 6 rfl dX2_minor_166 ?_
            refine j_callV (wr := []) (k' := 0) (n' := 0) G FX2 (c_X2_entry l u y0 aT aX aR aM aG aN aQ aO aS aH aU aW th n gr pw po pr ix sd gn tk ln zs zl za zf ze zi zc bp ls wn sc al nr dr ba bb hh ro M (mnA w) (mnC w) hn hM (by omega) (by omega)) (jAt_1 0 rfl) ⟨rfl, hY_X2_entry⟩ q2173 q2175 qs74 q90 q2176 (jcut 2 [0, 1] (by decide) rfl rfl) ⟨by omega, by omega, by omega, by omega, by omega, by omega⟩ (Nat.le_of_ble_eq_true rfl) dX2_minor_168 rfl (fun v_ w_ hp => ?_)
            obtain ⟨rfl, rfl⟩ := hp
            show jJ X u 11 [[(y0, jO 1 [iI th, iI n, iI gr, iI pw, .ref aT, iI po, iI pr, iI ix, iI sd, iI gn, iI tk, iI ln, .ref aX, iI zs, iI zl, iI za, iI zf, iI ze, iI zi, .ref aR, .ref aM, .ref aG, .ref aN, .ref aQ, lI ls, lI wn, .ref aO, .ref aS, .ref aH, .ref aU, lI sc, iI zc, .ref aW, lI al, lI nr, lI dr, iI bp, lI ba, lI bb, lI hh])], [(aO, cJ u 16 ro)]] [(7, lI ((ent M sc (mnA w) (mnB w)) * (((ent M sc (mnB w) (mnA w)) * (ent M sc (mnC w) (mnC w))) - ((ent M sc (mnB w) (mnC w)) * (ent M sc (mnC w) (mnA w)))))), (5, lI ((ent M sc (mnA w) (mnA w)) * (((ent M sc (mnB w) (mnB w)) * (ent M sc (mnC w) (mnC w))) - ((ent M sc (mnB w) (mnC w)) * (ent M sc (mnC w) (mnB w)))))), (0, .ref y0), (1, iI w), (2, iI (mnA w)), (3, iI (mnB w)), (4, iI (mnC w))] 0 0 171 [lI (ent M sc (mnA w) (mnC w))]
            refine j_aload_n G 2 rfl dX2_minor_171 ?_
            refine j_iload_n G 5 rfl dX2_minor_172 ?_
            refine j_iload_n G 4 rfl dX2_minor_173 ?_
            refine j_callV (wr := []) (k' := 0) (n' := 0) G FX2 (c_X2_entry l u y0 aT aX aR aM aG aN aQ aO aS aH aU aW th n gr pw po pr ix sd gn tk ln zs zl za zf ze zi zc bp ls wn sc al nr dr ba bb hh ro M (mnB w) (mnA w) hn hM (by omega) (by omega)) (jAt_1 0 rfl) ⟨rfl, hY_X2_entry⟩ q2173 q2175 qs74 q90 q2176 (jcut 2 [0, 1] (by decide) rfl rfl) ⟨by omega, by omega, by omega, by omega, by omega, by omega⟩ (Nat.le_of_ble_eq_true rfl) dX2_minor_174 rfl (fun v_ w_ hp => ?_)
            obtain ⟨rfl, rfl⟩ := hp
            show jJ X u 11 [[(y0, jO 1 [iI th, iI n, iI gr, iI pw, .ref aT, iI po, iI pr, iI ix, iI sd, iI gn, iI tk, iI ln, .ref aX, iI zs, iI zl, iI za, iI zf, iI ze, iI zi, .ref aR, .ref aM, .ref aG, .ref aN, .ref aQ, lI ls, lI wn, .ref aO, .ref aS, .ref aH, .ref aU, lI sc, iI zc, .ref aW, lI al, lI nr, lI dr, iI bp, lI ba, lI bb, lI hh])], [(aO, cJ u 16 ro)]] [(7, lI ((ent M sc (mnA w) (mnB w)) * (((ent M sc (mnB w) (mnA w)) * (ent M sc (mnC w) (mnC w))) - ((ent M sc (mnB w) (mnC w)) * (ent M sc (mnC w) (mnA w)))))), (5, lI ((ent M sc (mnA w) (mnA w)) * (((ent M sc (mnB w) (mnB w)) * (ent M sc (mnC w) (mnC w))) - ((ent M sc (mnB w) (mnC w)) * (ent M sc (mnC w) (mnB w)))))), (0, .ref y0), (1, iI w), (2, iI (mnA w)), (3, iI (mnB w)), (4, iI (mnC w))] 0 0 177 [lI (ent M sc (mnB w) (mnA w)), lI (ent M sc (mnA w) (mnC w))]
            refine j_aload_n G 2 rfl dX2_minor_177 ?_
            refine j_iload G 6 rfl dX2_minor_178 ?_
            refine j_iload_n G 5 rfl dX2_minor_180 ?_
            refine j_callV (wr := []) (k' := 0) (n' := 0) G FX2 (c_X2_entry l u y0 aT aX aR aM aG aN aQ aO aS aH aU aW th n gr pw po pr ix sd gn tk ln zs zl za zf ze zi zc bp ls wn sc al nr dr ba bb hh ro M (mnC w) (mnB w) hn hM (by omega) (by omega)) (jAt_1 0 rfl) ⟨rfl, hY_X2_entry⟩ q2173 q2175 qs74 q90 q2176 (jcut 2 [0, 1] (by decide) rfl rfl) ⟨by omega, by omega, by omega, by omega, by omega, by omega⟩ (Nat.le_of_ble_eq_true rfl) dX2_minor_181 rfl (fun v_ w_ hp => ?_)
            obtain ⟨rfl, rfl⟩ := hp
            show jJ X u 11 [[(y0, jO 1 [iI th, iI n, iI gr, iI pw, .ref aT, iI po, iI pr, iI ix, iI sd, iI gn, iI tk, iI ln, .ref aX, iI zs, iI zl, iI za, iI zf, iI ze, iI zi, .ref aR, .ref aM, .ref aG, .ref aN, .ref aQ, lI ls, lI wn, .ref aO, .ref aS, .ref aH, .ref aU, lI sc, iI zc, .ref aW, lI al, lI nr, lI dr, iI bp, lI ba, lI bb, lI hh])], [(aO, cJ u 16 ro)]] [(7, lI ((ent M sc (mnA w) (mnB w)) * (((ent M sc (mnB w) (mnA w)) * (ent M sc (mnC w) (mnC w))) - ((ent M sc (mnB w) (mnC w)) * (ent M sc (mnC w) (mnA w)))))), (5, lI ((ent M sc (mnA w) (mnA w)) * (((ent M sc (mnB w) (mnB w)) * (ent M sc (mnC w) (mnC w))) - ((ent M sc (mnB w) (mnC w)) * (ent M sc (mnC w) (mnB w)))))), (0, .ref y0), (1, iI w), (2, iI (mnA w)), (3, iI (mnB w)), (4, iI (mnC w))] 0 0 184 [lI (ent M sc (mnC w) (mnB w)), lI (ent M sc (mnB w) (mnA w)), lI (ent M sc (mnA w) (mnC w))]
            refine j_lmul G dX2_minor_184 ?_
            refine j_aload_n G 2 rfl dX2_minor_185 ?_
            refine j_iload_n G 5 rfl dX2_minor_186 ?_
            refine j_iload_n G 5 rfl dX2_minor_187 ?_
            refine j_callV (wr := []) (k' := 0) (n' := 0) G FX2 (c_X2_entry l u y0 aT aX aR aM aG aN aQ aO aS aH aU aW th n gr pw po pr ix sd gn tk ln zs zl za zf ze zi zc bp ls wn sc al nr dr ba bb hh ro M (mnB w) (mnB w) hn hM (by omega) (by omega)) (jAt_1 0 rfl) ⟨rfl, hY_X2_entry⟩ q2173 q2175 qs74 q90 q2176 (jcut 2 [0, 1] (by decide) rfl rfl) ⟨by omega, by omega, by omega, by omega, by omega, by omega⟩ (Nat.le_of_ble_eq_true rfl) dX2_minor_188 rfl (fun v_ w_ hp => ?_)
            obtain ⟨rfl, rfl⟩ := hp
            show jJ X u 11 [[(y0, jO 1 [iI th, iI n, iI gr, iI pw, .ref aT, iI po, iI pr, iI ix, iI sd, iI gn, iI tk, iI ln, .ref aX, iI zs, iI zl, iI za, iI zf, iI ze, iI zi, .ref aR, .ref aM, .ref aG, .ref aN, .ref aQ, lI ls, lI wn, .ref aO, .ref aS, .ref aH, .ref aU, lI sc, iI zc, .ref aW, lI al, lI nr, lI dr, iI bp, lI ba, lI bb, lI hh])], [(aO, cJ u 16 ro)]] [(7, lI ((ent M sc (mnA w) (mnB w)) * (((ent M sc (mnB w) (mnA w)) * (ent M sc (mnC w) (mnC w))) - ((ent M sc (mnB w) (mnC w)) * (ent M sc (mnC w) (mnA w)))))), (5, lI ((ent M sc (mnA w) (mnA w)) * (((ent M sc (mnB w) (mnB w)) * (ent M sc (mnC w) (mnC w))) - ((ent M sc (mnB w) (mnC w)) * (ent M sc (mnC w) (mnB w)))))), (0, .ref y0), (1, iI w), (2, iI (mnA w)), (3, iI (mnB w)), (4, iI (mnC w))] 0 0 191 [lI (ent M sc (mnB w) (mnB w)), lI ((ent M sc (mnB w) (mnA w)) * (ent M sc (mnC w) (mnB w))), lI (ent M sc (mnA w) (mnC w))]
            refine j_aload_n G 2 rfl dX2_minor_191 ?_
            refine j_iload G 6 rfl dX2_minor_192 ?_
            refine j_iload_n G 4 rfl dX2_minor_194 ?_
            refine j_callV (wr := []) (k' := 0) (n' := 0) G FX2 (c_X2_entry l u y0 aT aX aR aM aG aN aQ aO aS aH aU aW th n gr pw po pr ix sd gn tk ln zs zl za zf ze zi zc bp ls wn sc al nr dr ba bb hh ro M (mnC w) (mnA w) hn hM (by omega) (by omega)) (jAt_1 0 rfl) ⟨rfl, hY_X2_entry⟩ q2173 q2175 qs74 q90 q2176 (jcut 2 [0, 1] (by decide) rfl rfl) ⟨by omega, by omega, by omega, by omega, by omega, by omega⟩ (Nat.le_of_ble_eq_true rfl) dX2_minor_195 rfl (fun v_ w_ hp => ?_)
            obtain ⟨rfl, rfl⟩ := hp
            show jJ X u 11 [[(y0, jO 1 [iI th, iI n, iI gr, iI pw, .ref aT, iI po, iI pr, iI ix, iI sd, iI gn, iI tk, iI ln, .ref aX, iI zs, iI zl, iI za, iI zf, iI ze, iI zi, .ref aR, .ref aM, .ref aG, .ref aN, .ref aQ, lI ls, lI wn, .ref aO, .ref aS, .ref aH, .ref aU, lI sc, iI zc, .ref aW, lI al, lI nr, lI dr, iI bp, lI ba, lI bb, lI hh])], [(aO, cJ u 16 ro)]] [(7, lI ((ent M sc (mnA w) (mnB w)) * (((ent M sc (mnB w) (mnA w)) * (ent M sc (mnC w) (mnC w))) - ((ent M sc (mnB w) (mnC w)) * (ent M sc (mnC w) (mnA w)))))), (5, lI ((ent M sc (mnA w) (mnA w)) * (((ent M sc (mnB w) (mnB w)) * (ent M sc (mnC w) (mnC w))) - ((ent M sc (mnB w) (mnC w)) * (ent M sc (mnC w) (mnB w)))))), (0, .ref y0), (1, iI w), (2, iI (mnA w)), (3, iI (mnB w)), (4, iI (mnC w))] 0 0 198 [lI (ent M sc (mnC w) (mnA w)), lI (ent M sc (mnB w) (mnB w)), lI ((ent M sc (mnB w) (mnA w)) * (ent M sc (mnC w) (mnB w))), lI (ent M sc (mnA w) (mnC w))]
            refine j_lmul G dX2_minor_198 ?_
            refine j_lsub G dX2_minor_199 ?_
            refine j_lmul G dX2_minor_200 ?_
            refine j_lstore G [(9, lI ((ent M sc (mnA w) (mnC w)) * (((ent M sc (mnB w) (mnA w)) * (ent M sc (mnC w) (mnB w))) - ((ent M sc (mnB w) (mnB w)) * (ent M sc (mnC w) (mnA w)))))), (7, lI ((ent M sc (mnA w) (mnB w)) * (((ent M sc (mnB w) (mnA w)) * (ent M sc (mnC w) (mnC w))) - ((ent M sc (mnB w) (mnC w)) * (ent M sc (mnC w) (mnA w)))))), (5, lI ((ent M sc (mnA w) (mnA w)) * (((ent M sc (mnB w) (mnB w)) * (ent M sc (mnC w) (mnC w))) - ((ent M sc (mnB w) (mnC w)) * (ent M sc (mnC w) (mnB w)))))), (0, .ref y0), (1, iI w), (2, iI (mnA w)), (3, iI (mnB w)), (4, iI (mnC w))] rfl (by decide) dX2_minor_201 ?_
            refine j_lload G 2 rfl dX2_minor_203 ?_
            refine j_lload G 1 rfl dX2_minor_205 ?_
            refine j_lsub G dX2_minor_207 ?_
            refine j_lload G 0 rfl dX2_minor_208 ?_
            refine j_ladd G dX2_minor_210 ?_
            exact j_lret G E ⟨(by unfold mnr; rw [if_neg c_38, if_neg c_53]), rfl⟩ ⟨by omega, by omega⟩ dX2_minor_211
          · skip
            have hB := hB (by omega)
            refine j_aload_n G 0 rfl dX2_minor_56 ?_
            refine j_iload_n G 2 rfl dX2_minor_57 ?_
            refine j_iload_n G 2 rfl dX2_minor_58 ?_
            refine j_callV (wr := []) (k' := 0) (n' := 0) G FX2 (c_X2_entry l u y0 aT aX aR aM aG aN aQ aO aS aH aU aW th n gr pw po pr ix sd gn tk ln zs zl za zf ze zi zc bp ls wn sc al nr dr ba bb hh ro M (mnA w) (mnA w) hn hM (by omega) (by omega)) (jAt_1 0 rfl) ⟨rfl, hY_X2_entry⟩ q2173 q2175 qs74 q90 q2176 (jcut 2 [0, 1] (by decide) rfl rfl) ⟨by omega, by omega, by omega, by omega, by omega, by omega⟩ (Nat.le_of_ble_eq_true rfl) dX2_minor_59 rfl (fun v_ w_ hp => ?_)
            obtain ⟨rfl, rfl⟩ := hp
            show jJ X u 11 [[(y0, jO 1 [iI th, iI n, iI gr, iI pw, .ref aT, iI po, iI pr, iI ix, iI sd, iI gn, iI tk, iI ln, .ref aX, iI zs, iI zl, iI za, iI zf, iI ze, iI zi, .ref aR, .ref aM, .ref aG, .ref aN, .ref aQ, lI ls, lI wn, .ref aO, .ref aS, .ref aH, .ref aU, lI sc, iI zc, .ref aW, lI al, lI nr, lI dr, iI bp, lI ba, lI bb, lI hh])], [(aO, cJ u 16 ro)]] [(0, .ref y0), (1, iI w), (2, iI (mnA w)), (3, iI (mnB w)), (4, iI (mnC w))] 0 0 62 [lI (ent M sc (mnA w) (mnA w))]
            refine j_aload_n G 0 rfl dX2_minor_62 ?_
            refine j_iload_n G 3 rfl dX2_minor_63 ?_
            refine j_iload_n G 3 rfl dX2_minor_64 ?_
            refine j_callV (wr := []) (k' := 0) (n' := 0) G FX2 (c_X2_entry l u y0 aT aX aR aM aG aN aQ aO aS aH aU aW th n gr pw po pr ix sd gn tk ln zs zl za zf ze zi zc bp ls wn sc al nr dr ba bb hh ro M (mnB w) (mnB w) hn hM (by omega) (by omega)) (jAt_1 0 rfl) ⟨rfl, hY_X2_entry⟩ q2173 q2175 qs74 q90 q2176 (jcut 2 [0, 1] (by decide) rfl rfl) ⟨by omega, by omega, by omega, by omega, by omega, by omega⟩ (Nat.le_of_ble_eq_true rfl) dX2_minor_65 rfl (fun v_ w_ hp => ?_)
            obtain ⟨rfl, rfl⟩ := hp
            show jJ X u 11 [[(y0, jO 1 [iI th, iI n, iI gr, iI pw, .ref aT, iI po, iI pr, iI ix, iI sd, iI gn, iI tk, iI ln, .ref aX, iI zs, iI zl, iI za, iI zf, iI ze, iI zi, .ref aR, .ref aM, .ref aG, .ref aN, .ref aQ, lI ls, lI wn, .ref aO, .ref aS, .ref aH, .ref aU, lI sc, iI zc, .ref aW, lI al, lI nr, lI dr, iI bp, lI ba, lI bb, lI hh])], [(aO, cJ u 16 ro)]] [(0, .ref y0), (1, iI w), (2, iI (mnA w)), (3, iI (mnB w)), (4, iI (mnC w))] 0 0 68 [lI (ent M sc (mnB w) (mnB w)), lI (ent M sc (mnA w) (mnA w))]
            refine j_lmul G dX2_minor_68 ?_
            refine j_aload_n G 0 rfl dX2_minor_69 ?_
            refine j_iload_n G 2 rfl dX2_minor_70 ?_
            refine j_iload_n G 3 rfl dX2_minor_71 ?_
            refine j_callV (wr := []) (k' := 0) (n' := 0) G FX2 (c_X2_entry l u y0 aT aX aR aM aG aN aQ aO aS aH aU aW th n gr pw po pr ix sd gn tk ln zs zl za zf ze zi zc bp ls wn sc al nr dr ba bb hh ro M (mnA w) (mnB w) hn hM (by omega) (by omega)) (jAt_1 0 rfl) ⟨rfl, hY_X2_entry⟩ q2173 q2175 qs74 q90 q2176 (jcut 2 [0, 1] (by decide) rfl rfl) ⟨by omega, by omega, by omega, by omega, by omega, by omega⟩ (Nat.le_of_ble_eq_true rfl) dX2_minor_72 rfl (fun v_ w_ hp => ?_)
            obtain ⟨rfl, rfl⟩ := hp
            show jJ X u 11 [[(y0, jO 1 [iI th, iI n, iI gr, iI pw, .ref aT, iI po, iI pr, iI ix, iI sd, iI gn, iI tk, iI ln, .ref aX, iI zs, iI zl, iI za, iI zf, iI ze, iI zi, .ref aR, .ref aM, .ref aG, .ref aN, .ref aQ, lI ls, lI wn, .ref aO, .ref aS, .ref aH, .ref aU, lI sc, iI zc, .ref aW, lI al, lI nr, lI dr, iI bp, lI ba, lI bb, lI hh])], [(aO, cJ u 16 ro)]] [(0, .ref y0), (1, iI w), (2, iI (mnA w)), (3, iI (mnB w)), (4, iI (mnC w))] 0 0 75 [lI (ent M sc (mnA w) (mnB w)), lI ((ent M sc (mnA w) (mnA w)) * (ent M sc (mnB w) (mnB w)))]
            refine j_aload_n G 0 rfl dX2_minor_75 ?_
            refine j_iload_n G 3 rfl dX2_minor_76 ?_
            refine j_iload_n G 2 rfl dX2_minor_77 ?_
            refine j_callV (wr := []) (k' := 0) (n' := 0) G FX2 (c_X2_entry l u y0 aT aX aR aM aG aN aQ aO aS aH aU aW th n gr pw po pr ix sd gn tk ln zs zl za zf ze zi zc bp ls wn sc al nr dr ba bb hh ro M (mnB w) (mnA w) hn hM (by omega) (by omega)) (jAt_1 0 rfl) ⟨rfl, hY_X2_entry⟩ q2173 q2175 qs74 q90 q2176 (jcut 2 [0, 1] (by decide) rfl rfl) ⟨by omega, by omega, by omega, by omega, by omega, by omega⟩ (Nat.le_of_ble_eq_true rfl) dX2_minor_78 rfl (fun v_ w_ hp => ?_)
            obtain ⟨rfl, rfl⟩ := hp
            show jJ X u 11 [[(y0, jO 1 [iI th, iI n, iI gr, iI pw, .ref aT, iI po, iI pr, iI ix, iI sd, iI gn, iI tk, iI ln, .ref aX, iI zs, iI zl, iI za, iI zf, iI ze, iI zi, .ref aR, .ref aM, .ref aG, .ref aN, .ref aQ, lI ls, lI wn, .ref aO, .ref aS, .ref aH, .ref aU, lI sc, iI zc, .ref aW, lI al, lI nr, lI dr, iI bp, lI ba, lI bb, lI hh])], [(aO, cJ u 16 ro)]] [(0, .ref y0), (1, iI w), (2, iI (mnA w)), (3, iI (mnB w)), (4, iI (mnC w))] 0 0 81 [lI (ent M sc (mnB w) (mnA w)), lI (ent M sc (mnA w) (mnB w)), lI ((ent M sc (mnA w) (mnA w)) * (ent M sc (mnB w) (mnB w)))]
            refine j_lmul G dX2_minor_81 ?_
            refine j_lsub G dX2_minor_82 ?_
            exact j_lret G E ⟨(by unfold mnr; rw [if_neg c_38, if_pos c_53]), rfl⟩ ⟨by omega, by omega⟩ dX2_minor_83
        · skip
          refine j_aload_n G 0 rfl dX2_minor_41 ?_
          refine j_iload_n G 2 rfl dX2_minor_42 ?_
          refine j_iload_n G 2 rfl dX2_minor_43 ?_
          refine j_callV (wr := []) (k' := 0) (n' := 0) G FX2 (c_X2_entry l u y0 aT aX aR aM aG aN aQ aO aS aH aU aW th n gr pw po pr ix sd gn tk ln zs zl za zf ze zi zc bp ls wn sc al nr dr ba bb hh ro M (mnA w) (mnA w) hn hM (by omega) (by omega)) (jAt_1 0 rfl) ⟨rfl, hY_X2_entry⟩ q2173 q2175 qs74 q90 q2176 (jcut 2 [0, 1] (by decide) rfl rfl) ⟨by omega, by omega, by omega, by omega, by omega, by omega⟩ (Nat.le_of_ble_eq_true rfl) dX2_minor_44 rfl (fun v_ w_ hp => ?_)
          obtain ⟨rfl, rfl⟩ := hp
          show jJ X u 11 [[(y0, jO 1 [iI th, iI n, iI gr, iI pw, .ref aT, iI po, iI pr, iI ix, iI sd, iI gn, iI tk, iI ln, .ref aX, iI zs, iI zl, iI za, iI zf, iI ze, iI zi, .ref aR, .ref aM, .ref aG, .ref aN, .ref aQ, lI ls, lI wn, .ref aO, .ref aS, .ref aH, .ref aU, lI sc, iI zc, .ref aW, lI al, lI nr, lI dr, iI bp, lI ba, lI bb, lI hh])], [(aO, cJ u 16 ro)]] [(0, .ref y0), (1, iI w), (2, iI (mnA w)), (3, iI (mnB w)), (4, iI (mnC w))] 0 0 47 [lI (ent M sc (mnA w) (mnA w))]
          exact j_lret G E ⟨(by unfold mnr; rw [if_pos c_38]), rfl⟩ ⟨by omega, by omega⟩ dX2_minor_47
      refine j_iload_n G 1 rfl dX2_minor_21 ?_
      refine j_iconst G dX2_minor_22 ?_
      refine j_icmp_ge 30 G (by unfold iR at *; omega) (by unfold iR; omega) dX2_minor_23 (by decide) (fun c_23 => ?_) (fun c_23 => ?_)
      · skip
        refine j_iconst G dX2_minor_30 ?_
        refine j_eq (st' := [iI (mnC w)]) (by unfold mnC; first | rw [if_pos (by omega)] | rw [if_neg (by omega)]) ?_
        refine j_istore G [(4, iI (mnC w)), (0, .ref y0), (1, iI w), (2, iI (mnA w)), (3, iI (mnB w))] rfl (by decide) dX2_minor_31 ?_
        refine j_lv [1, 2, 3, 4, 0] rfl ?_
        exact L33 
      · skip
        refine j_iconst G dX2_minor_26 ?_
        refine j_goto 31 G dX2_minor_27 (by decide) ?_
        refine j_eq (st' := [iI (mnC w)]) (by unfold mnC; first | rw [if_pos (by omega)] | rw [if_neg (by omega)]) ?_
        refine j_istore G [(4, iI (mnC w)), (0, .ref y0), (1, iI w), (2, iI (mnA w)), (3, iI (mnB w))] rfl (by decide) dX2_minor_31 ?_
        refine j_lv [1, 2, 3, 4, 0] rfl ?_
        exact L33 
    refine j_iload_n G 1 rfl dX2_minor_10 ?_
    refine j_iconst G dX2_minor_11 ?_
    refine j_icmp_ge 19 G (by unfold iR at *; omega) (by unfold iR; omega) dX2_minor_12 (by decide) (fun c_12 => ?_) (fun c_12 => ?_)
    · skip
      refine j_iconst G dX2_minor_19 ?_
      refine j_eq (st' := [iI (mnB w)]) (by unfold mnB; first | rw [if_pos (by omega)] | rw [if_neg (by omega)]) ?_
      refine j_istore_n G [(3, iI (mnB w)), (0, .ref y0), (1, iI w), (2, iI (mnA w))] rfl (by decide) dX2_minor_20 ?_
      refine j_lv [1, 2, 3, 0] rfl ?_
      exact L21 
    · skip
      refine j_iconst G dX2_minor_15 ?_
      refine j_goto 20 G dX2_minor_16 (by decide) ?_
      refine j_eq (st' := [iI (mnB w)]) (by unfold mnB; first | rw [if_pos (by omega)] | rw [if_neg (by omega)]) ?_
      refine j_istore_n G [(3, iI (mnB w)), (0, .ref y0), (1, iI w), (2, iI (mnA w))] rfl (by decide) dX2_minor_20 ?_
      refine j_lv [1, 2, 3, 0] rfl ?_
      exact L21 
  refine j_iload_n G 1 rfl dX2_minor_0 ?_
  refine j_if_ne 8 G (by unfold iR at *; omega) dX2_minor_1 (by decide) (fun c_1 => ?_) (fun c_1 => ?_)
  · skip
    refine j_iconst G dX2_minor_8 ?_
    refine j_eq (st' := [iI (mnA w)]) (by unfold mnA; first | rw [if_pos c_1] | rw [if_neg c_1]) ?_
    refine j_istore_n G [(2, iI (mnA w)), (0, .ref y0), (1, iI w)] rfl (by decide) dX2_minor_9 ?_
    refine j_lv [1, 2, 0] rfl ?_
    exact L10 
  · skip
    refine j_iconst G dX2_minor_4 ?_
    refine j_goto 9 G dX2_minor_5 (by decide) ?_
    refine j_eq (st' := [iI (mnA w)]) (by unfold mnA; first | rw [if_pos c_1] | rw [if_neg c_1]) ?_
    refine j_istore_n G [(2, iI (mnA w)), (0, .ref y0), (1, iI w)] rfl (by decide) dX2_minor_9 ?_
    refine j_lv [1, 2, 0] rfl ?_
    exact L10 
theorem hY_X2_common : jY yX2_common 2 := ⟨by decide +kernel, by decide +kernel, by decide +kernel⟩
set_option maxHeartbeats 4000000 in
set_option maxRecDepth 100000 in
theorem c_X2_common (l : Launch) (u : jU) (a b : Int) (hRa : lR a ∧ lR (-a)) (hRb : lR b) (hb : 0 ≤ b) : jC l u yX2_common cX2_common 10 (some .long) 0 0 0 0 [lI a, lI b] [] (fun v_ w_ => v_ = some (lI (gcI a b)) ∧ w_ = []) := by
  refine jC.of "FlashRatchetModel" (by decide +kernel) rfl (Nat.le_of_ble_eq_true rfl) [(0, lI a), (2, lI b)] rfl (fun X G E I => ?_)
  have L17 : ∀ (m : Nat) (x : Nat) (y : Nat) (xi : Int) (yi : Int), y < m → xi = x → yi = y → Nat.gcd x y = Int.gcd a b → (lR xi ∧ lR yi) → jJ X u 10 [] [(0, lI a), (2, lI b), (4, lI xi), (6, lI yi)] 0 0 17 [] := by
    intro m
    induction m with
    | zero =>
      intro x y xi yi g1 g2 g3 g4 g5
      exfalso
      omega
    | succ m ih_L17 =>
      intro x y xi yi g1 g2 g3 g4 g5
      refine j_lload G 3 rfl dX2_common_17 ?_
      refine j_lconst 0 G rfl dX2_common_19 ?_
      refine j_lcmp G g5.2 (by unfold lR; omega) dX2_common_20 ?_
      have k_21 := jCmp_c yi 0
      refine j_if_le 42 G (by unfold iR at *; omega) dX2_common_21 (by decide) (fun c_21 => ?_) (fun c_21 => ?_)
      · skip
        have hy : y = 0 := by omega
        subst hy
        refine j_lload G 2 rfl dX2_common_42 ?_
        exact j_lret G E ⟨(by rw [g2]; unfold gcI; rw [← g4, Nat.gcd_zero_right]), rfl⟩ ⟨by omega, by omega⟩ dX2_common_44
      · skip
        refine j_lload G 2 rfl dX2_common_24 ?_
        refine j_lload G 3 rfl dX2_common_26 ?_
        refine j_lrem G g5.1 g5.2 (by (try unfold iR at *); omega) dX2_common_28 ?_
        refine j_lstore G [(8, lI (xi.tmod yi)), (0, lI a), (2, lI b), (4, lI xi), (6, lI yi)] rfl (by decide) dX2_common_29 ?_
        refine j_lload G 4 rfl dX2_common_31 ?_
        refine j_lstore G [(4, lI yi), (8, lI (xi.tmod yi)), (0, lI a), (2, lI b), (6, lI yi)] rfl (by decide) dX2_common_33 ?_
        refine j_lload G 1 rfl dX2_common_35 ?_
        refine j_lstore G [(6, lI (xi.tmod yi)), (4, lI yi), (8, lI (xi.tmod yi)), (0, lI a), (2, lI b)] rfl (by decide) dX2_common_37 ?_
        refine j_goto 17 G dX2_common_39 (by decide) ?_
        refine j_lv [3, 4, 1, 0] rfl ?_
        exact ih_L17 y (x % y) yi (xi.tmod yi) (by have := Nat.mod_lt x (y := y) (by omega); omega) g3 (by rw [g2, g3]; exact (Int.ofNat_tmod x y).symm) (by rw [gcd_step (by omega)]; exact g4) (by have := Nat.mod_lt x (y := y) (by omega); rw [g2, g3]; refine ⟨g3 ▸ g5.2, ?_⟩; rw [show (x : Int).tmod (y : Int) = ((x % y : Nat) : Int) from (Int.ofNat_tmod x y).symm]; have e := g5.2; rw [g3] at e; unfold lR at *; omega)
  refine j_lload_n G 0 rfl dX2_common_0 ?_
  refine j_lconst 0 G rfl dX2_common_1 ?_
  refine j_lcmp G hRa.1 (by unfold lR; omega) dX2_common_2 ?_
  have k_3 := jCmp_c a 0
  refine j_if_ge 11 G (by unfold iR at *; omega) dX2_common_3 (by decide) (fun c_3 => ?_) (fun c_3 => ?_)
  · skip
    refine j_lload_n G 0 rfl dX2_common_11 ?_
    refine j_lstore G [(4, lI a), (0, lI a), (2, lI b)] rfl (by decide) dX2_common_12 ?_
    refine j_lload_n G 2 rfl dX2_common_14 ?_
    refine j_lstore G [(6, lI b), (4, lI a), (0, lI a), (2, lI b)] rfl (by decide) dX2_common_15 ?_
    refine j_lv [2, 3, 1, 0] rfl ?_
    exact L17 (b.toNat + 1) a.natAbs b.natAbs a b (by omega) (by omega) (by omega) rfl (by first | exact ⟨hRa.1, hRb⟩ | exact ⟨hRa.2, hRb⟩)
  · skip
    refine j_lload_n G 0 rfl dX2_common_6 ?_
    refine j_lneg G dX2_common_7 ?_
    refine j_goto 12 G dX2_common_8 (by decide) ?_
    refine j_lstore G [(4, lI (-a)), (0, lI a), (2, lI b)] rfl (by decide) dX2_common_12 ?_
    refine j_lload_n G 2 rfl dX2_common_14 ?_
    refine j_lstore G [(6, lI b), (4, lI (-a)), (0, lI a), (2, lI b)] rfl (by decide) dX2_common_15 ?_
    refine j_lv [2, 3, 1, 0] rfl ?_
    exact L17 (b.toNat + 1) a.natAbs b.natAbs (-a) b (by omega) (by omega) (by omega) rfl (by first | exact ⟨hRa.1, hRb⟩ | exact ⟨hRa.2, hRb⟩)
