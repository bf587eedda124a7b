theorem hY_X2_cycleNow : jY yX2_cycleNow 1 := ⟨by decide +kernel, by decide +kernel, by decide +kernel⟩
set_option maxHeartbeats 4000000 in
set_option maxRecDepth 100000 in
theorem c_X2_cycleNow (l : Launch) (u : jU) (mu la : Nat) (y0 aT aX aR aM aG aN aQ aO aS aH aU aW : Nat) (th n gr pw po pr ix sd gn tk ln zs zl za zf ze zi zc bp ls wn sc al nr dr ba bb hh : Int) (tb : Int → Int) (mt : Int → Int) (ga : Int → Int) (w : Int) (hn : 2 ≤ n ∧ n ≤ 4) (hg : 0 ≤ gr ∧ gr ≤ 7) (hw : 0 ≤ pw ∧ pw ≤ 15) (hp : sProg pr = 1) (hT : wT (tB tb) (tF tb)) (hq : wQ (n, gr, pw, pr, tB tb, tF tb) (po, ix, sd)) (hc : isCyc (n, gr, pw, pr, tB tb, tF tb) (po, ix, sd) mu la) (hml : mu + la ≤ 16000) (hRw : iR w) : jC l u yX2_cycleNow cX2_cycleNow 8 (some .int) 3 71 0 0 [.ref y0, iI w] [[(y0, jO 1 [iI th, iI n, iI gr, iI pw, .ref aT, iI po, iI pr, iI ix, iI sd, iI gn, iI tk, iI ln, .ref aX, iI zs, iI zl, iI za, iI zf, iI ze, iI zi, .ref aR, .ref aM, .ref aG, .ref aN, .ref aQ, lI ls, lI wn, .ref aO, .ref aS, .ref aH, .ref aU, lI sc, iI zc, .ref aW, lI al, lI nr, lI dr, iI bp, lI ba, lI bb, lI hh])], [(aT, cI u 24 tb)], [(aM, cI u 16000 mt)], [(aG, cI u 16000 ga)]] (fun v_ w_ => ∃ (mt2 ga2 : Int → Int) (r : Int), r = (if w = 0 then (mu : Int) else if w = 1 then (la : Int) else tSum (n, gr, pw, pr, tB tb, tF tb) (mu + la) (po, ix, sd) - tSum (n, gr, pw, pr, tB tb, tF tb) mu (po, ix, sd)) ∧ v_ = some (iI r) ∧ w_ = [[(y0, jO 1 [iI th, iI n, iI gr, iI pw, .ref aT, iI po, iI pr, iI ix, iI sd, iI gn, iI tk, iI ln, .ref aX, iI zs, iI zl, iI za, iI zf, iI ze, iI zi, .ref aR, .ref aM, .ref aG, .ref aN, .ref aQ, lI ls, lI wn, .ref aO, .ref aS, .ref aH, .ref aU, lI sc, iI zc, .ref aW, lI al, lI nr, lI dr, iI bp, lI ba, lI bb, lI hh])], [(aT, cI u 24 tb)], [(aM, cI u 16000 mt2)], [(aG, cI u 16000 ga2)]]) := by
  refine jC.of "FlashRatchetModel" (by decide +kernel) rfl (Nat.le_of_ble_eq_true rfl) [(0, .ref y0), (1, iI w)] rfl (fun X G E I => ?_)
  refine j_iconst G dX2_cycleNow_0 ?_
  refine j_istore_n G [(2, iI 0), (0, .ref y0), (1, iI w)] rfl (by decide) dX2_cycleNow_1 ?_
  have L2 : ∀ (m : Nat) (j : Nat) (f : Int → Int) (i : Int), 16000 - j < m → i = j → (∀ q : Int, 0 ≤ q → q < i → f q = 0) → j ≤ 16000 → jJ X u 8 [[(y0, jO 1 [iI th, iI n, iI gr, iI pw, .ref aT, iI po, iI pr, iI ix, iI sd, iI gn, iI tk, iI ln, .ref aX, iI zs, iI zl, iI za, iI zf, iI ze, iI zi, .ref aR, .ref aM, .ref aG, .ref aN, .ref aQ, lI ls, lI wn, .ref aO, .ref aS, .ref aH, .ref aU, lI sc, iI zc, .ref aW, lI al, lI nr, lI dr, iI bp, lI ba, lI bb, lI hh])], [(aT, cI u 24 tb)], [(aM, cI u 16000 f)], [(aG, cI u 16000 ga)]] [(0, .ref y0), (1, iI w), (2, iI i)] 0 0 2 [] := by
    intro m
    induction m with
    | zero =>
      intro j f i g1 g2 g3 g4
      exfalso
      omega
    | succ m ih_L2 =>
      intro j f i g1 g2 g3 g4
      refine j_iload_n G 2 rfl dX2_cycleNow_2 ?_
      refine j_sipush G (by decide) dX2_cycleNow_3 ?_
      refine j_icmp_ge 22 G (by unfold iR at *; omega) (by unfold iR; omega) dX2_cycleNow_6 (by decide) (fun c_6 => ?_) (fun c_6 => ?_)
      · skip
        have L68 : ∀ (m : Nat) (j : Nat) (f : Int → Int) (g : Int → Int) (a : Int) (b : Int) (d : Int) (t : Int) (s : Int) (h : Int), 16000 - j < m → t = j → (a, b, d) = tIt (n, gr, pw, pr, tB tb, tF tb) j (po, ix, sd) → s = tSum (n, gr, pw, pr, tB tb, tF tb) j (po, ix, sd) → cMet (n, gr, pw, pr, tB tb, tF tb) (po, ix, sd) f g j → j ≤ mu + la → h = tCode (tIt (n, gr, pw, pr, tB tb, tF tb) j (po, ix, sd)) → jJ X u 8 [[(y0, jO 1 [iI th, iI n, iI gr, iI pw, .ref aT, iI a, iI pr, iI b, iI d, iI gn, iI tk, iI ln, .ref aX, iI zs, iI zl, iI za, iI zf, iI ze, iI zi, .ref aR, .ref aM, .ref aG, .ref aN, .ref aQ, lI ls, lI wn, .ref aO, .ref aS, .ref aH, .ref aU, lI sc, iI zc, .ref aW, lI al, lI nr, lI dr, iI bp, lI ba, lI bb, lI hh])], [(aT, cI u 24 tb)], [(aM, cI u 16000 f)], [(aG, cI u 16000 g)]] [(0, .ref y0), (1, iI w), (2, iI po), (3, iI ix), (4, iI sd), (5, iI t), (6, iI s), (7, iI h)] 0 0 68 [] := by
          intro m
          induction m with
          | zero =>
            intro j f g a b d t s h g1 g2 g3 g4 g5 g6 g7
            exfalso
            omega
          | succ m ih_L68 =>
            intro j f g a b d t s h g1 g2 g3 g4 g5 g6 g7
            have hq2 : wQ (n, gr, pw, pr, tB tb, tF tb) (a, b, d) := by rw [g3]; exact wQ_it ⟨hn, hg, hw, hp, hT⟩ hq j
            have hcr : 0 ≤ h ∧ h < 16000 := by rw [g7]; exact tCode_R (c := (n, gr, pw, pr, tB tb, tF tb)) ⟨hn, hg, hw, hp, hT⟩ (wQ_it ⟨hn, hg, hw, hp, hT⟩ hq j)
            refine j_aload_n G 0 rfl dX2_cycleNow_68 ?_
            refine j_get G FX2 (jAt_1 0 rfl) 20 (by decide) q1864 rfl dX2_cycleNow_69 ?_
            refine j_iload G 7 rfl dX2_cycleNow_72 ?_
            refine j_iaload G (jAt_1 2 rfl) (by (try unfold iR at *); omega) (by (try unfold iR at *); omega) (by (try unfold iR at *); omega) dX2_cycleNow_74 ?_
            have hmR : iR (f h) := by
              unfold iR
              by_cases hz : f h = 0
              · omega
              · have e := cMet_eq ⟨hn, hg, hw, hp, hT⟩ hq hc g6 g5 (by rw [← g7]; exact hz)
                have e2 := (cMet_end hc (e ▸ g5)).1
                rw [← e, ← g7] at e2
                omega
            refine j_if_ne 137 G hmR dX2_cycleNow_75 (by decide) (fun c_75 => ?_) (fun c_75 => ?_)
            · skip
              have hje := cMet_eq ⟨hn, hg, hw, hp, hT⟩ hq hc g6 g5 (by rw [← g7]; exact c_75)
              obtain ⟨e1, e2⟩ := cMet_end hc (hje ▸ g5)
              rw [← hje, ← g7] at e1 e2
              refine j_aload_n G 0 rfl dX2_cycleNow_137 ?_
              refine j_iload_n G 2 rfl dX2_cycleNow_138 ?_
              refine j_put (ws' := [[(y0, jO 1 [iI th, iI n, iI gr, iI pw, .ref aT, iI po, iI pr, iI b, iI d, iI gn, iI tk, iI ln, .ref aX, iI zs, iI zl, iI za, iI zf, iI ze, iI zi, .ref aR, .ref aM, .ref aG, .ref aN, .ref aQ, lI ls, lI wn, .ref aO, .ref aS, .ref aH, .ref aU, lI sc, iI zc, .ref aW, lI al, lI nr, lI dr, iI bp, lI ba, lI bb, lI hh])], [(aT, cI u 24 tb)], [(aM, cI u 16000 f)], [(aG, cI u 16000 g)]]) G FX2 (jAt_1 0 rfl) 5 (by decide) q1849 rfl rfl rfl (Nat.le_of_ble_eq_true rfl) dX2_cycleNow_139 rfl ?_
              refine j_aload_n G 0 rfl dX2_cycleNow_142 ?_
              refine j_iload_n G 3 rfl dX2_cycleNow_143 ?_
              refine j_put (ws' := [[(y0, jO 1 [iI th, iI n, iI gr, iI pw, .ref aT, iI po, iI pr, iI ix, iI d, iI gn, iI tk, iI ln, .ref aX, iI zs, iI zl, iI za, iI zf, iI ze, iI zi, .ref aR, .ref aM, .ref aG, .ref aN, .ref aQ, lI ls, lI wn, .ref aO, .ref aS, .ref aH, .ref aU, lI sc, iI zc, .ref aW, lI al, lI nr, lI dr, iI bp, lI ba, lI bb, lI hh])], [(aT, cI u 24 tb)], [(aM, cI u 16000 f)], [(aG, cI u 16000 g)]]) G FX2 (jAt_1 0 rfl) 7 (by decide) q1851 rfl rfl rfl (Nat.le_of_ble_eq_true rfl) dX2_cycleNow_144 rfl ?_
              refine j_aload_n G 0 rfl dX2_cycleNow_147 ?_
              refine j_iload G 4 rfl dX2_cycleNow_148 ?_
              refine j_put (ws' := [[(y0, jO 1 [iI th, iI n, iI gr, iI pw, .ref aT, iI po, iI pr, iI ix, iI sd, iI gn, iI tk, iI ln, .ref aX, iI zs, iI zl, iI za, iI zf, iI ze, iI zi, .ref aR, .ref aM, .ref aG, .ref aN, .ref aQ, lI ls, lI wn, .ref aO, .ref aS, .ref aH, .ref aU, lI sc, iI zc, .ref aW, lI al, lI nr, lI dr, iI bp, lI ba, lI bb, lI hh])], [(aT, cI u 24 tb)], [(aM, cI u 16000 f)], [(aG, cI u 16000 g)]]) G FX2 (jAt_1 0 rfl) 8 (by decide) q1852 rfl rfl rfl (Nat.le_of_ble_eq_true rfl) dX2_cycleNow_150 rfl ?_
              refine j_iload_n G 1 rfl dX2_cycleNow_153 ?_
              refine j_if_ne 169 G hRw dX2_cycleNow_154 (by decide) (fun c_154 => ?_) (fun c_154 => ?_)
              · skip
                refine j_iload_n G 1 rfl dX2_cycleNow_169 ?_
                refine j_iconst G dX2_cycleNow_170 ?_
                refine j_icmp_ne 189 G hRw (by unfold iR; omega) dX2_cycleNow_171 (by decide) (fun c_171 => ?_) (fun c_171 => ?_)
                · skip
                  refine j_iload G 6 rfl dX2_cycleNow_189 ?_
                  refine j_aload_n G 0 rfl dX2_cycleNow_191 ?_
                  refine j_get G FX2 (jAt_1 0 rfl) 21 (by decide) q1865 rfl dX2_cycleNow_192 ?_
                  refine j_iload G 7 rfl dX2_cycleNow_195 ?_
                  refine j_iaload G (jAt_1 3 rfl) (by (try unfold iR at *); omega) (by (try unfold iR at *); omega) (by (try unfold iR at *); omega) dX2_cycleNow_197 ?_
                  refine j_isub G dX2_cycleNow_198 ?_
                  exact j_iret G E ⟨f, g, (s - (g h)), (by rw [if_neg c_154, if_neg c_171, e2, g4, hje]), rfl, rfl⟩ ⟨by omega, by omega⟩ dX2_cycleNow_199
                · skip
                  refine j_iload G 5 rfl dX2_cycleNow_174 ?_
                  refine j_aload_n G 0 rfl dX2_cycleNow_176 ?_
                  refine j_get G FX2 (jAt_1 0 rfl) 20 (by decide) q1864 rfl dX2_cycleNow_177 ?_
                  refine j_iload G 7 rfl dX2_cycleNow_180 ?_
                  refine j_iaload G (jAt_1 2 rfl) (by (try unfold iR at *); omega) (by (try unfold iR at *); omega) (by (try unfold iR at *); omega) dX2_cycleNow_182 ?_
                  refine j_isub G dX2_cycleNow_183 ?_
                  refine j_iconst G dX2_cycleNow_184 ?_
                  refine j_iadd G dX2_cycleNow_185 ?_
                  refine j_goto 199 G dX2_cycleNow_186 (by decide) ?_
                  exact j_iret G E ⟨f, g, ((t - (f h)) + 1), (by rw [if_neg c_154, if_pos c_171]; omega), rfl, rfl⟩ ⟨by omega, by omega⟩ dX2_cycleNow_199
              · skip
                refine j_aload_n G 0 rfl dX2_cycleNow_157 ?_
                refine j_get G FX2 (jAt_1 0 rfl) 20 (by decide) q1864 rfl dX2_cycleNow_158 ?_
                refine j_iload G 7 rfl dX2_cycleNow_161 ?_
                refine j_iaload G (jAt_1 2 rfl) (by (try unfold iR at *); omega) (by (try unfold iR at *); omega) (by (try unfold iR at *); omega) dX2_cycleNow_163 ?_
                refine j_iconst G dX2_cycleNow_164 ?_
                refine j_isub G dX2_cycleNow_165 ?_
                refine j_goto 199 G dX2_cycleNow_166 (by decide) ?_
                exact j_iret G E ⟨f, g, ((f h) - 1), (by rw [if_pos c_154]; omega), rfl, rfl⟩ ⟨by omega, by omega⟩ dX2_cycleNow_199
            · skip
              have hjl : j < mu + la := cMet_lt hc g6 g5 (by rw [← g7]; exact c_75)
              refine j_aload_n G 0 rfl dX2_cycleNow_78 ?_
              refine j_get G FX2 (jAt_1 0 rfl) 20 (by decide) q1864 rfl dX2_cycleNow_79 ?_
              refine j_iload G 7 rfl dX2_cycleNow_82 ?_
              refine j_iload G 5 rfl dX2_cycleNow_84 ?_
              refine j_iconst G dX2_cycleNow_86 ?_
              refine j_iadd G dX2_cycleNow_87 ?_
              refine j_iastore (ws' := [[(y0, jO 1 [iI th, iI n, iI gr, iI pw, .ref aT, iI a, iI pr, iI b, iI d, iI gn, iI tk, iI ln, .ref aX, iI zs, iI zl, iI za, iI zf, iI ze, iI zi, .ref aR, .ref aM, .ref aG, .ref aN, .ref aQ, lI ls, lI wn, .ref aO, .ref aS, .ref aH, .ref aU, lI sc, iI zc, .ref aW, lI al, lI nr, lI dr, iI bp, lI ba, lI bb, lI hh])], [(aT, cI u 24 tb)], [(aM, cI u 16000 (uZ f h (t + 1)))], [(aG, cI u 16000 g)]]) G (jAt_1 2 rfl) (by (try unfold iR at *); omega) (by (try unfold iR at *); omega) (by (try unfold iR at *); omega) dX2_cycleNow_88 rfl ?_
              refine j_aload_n G 0 rfl dX2_cycleNow_89 ?_
              refine j_get G FX2 (jAt_1 0 rfl) 21 (by decide) q1865 rfl dX2_cycleNow_90 ?_
              refine j_iload G 7 rfl dX2_cycleNow_93 ?_
              refine j_iload G 6 rfl dX2_cycleNow_95 ?_
              refine j_iastore (ws' := [[(y0, jO 1 [iI th, iI n, iI gr, iI pw, .ref aT, iI a, iI pr, iI b, iI d, iI gn, iI tk, iI ln, .ref aX, iI zs, iI zl, iI za, iI zf, iI ze, iI zi, .ref aR, .ref aM, .ref aG, .ref aN, .ref aQ, lI ls, lI wn, .ref aO, .ref aS, .ref aH, .ref aU, lI sc, iI zc, .ref aW, lI al, lI nr, lI dr, iI bp, lI ba, lI bb, lI hh])], [(aT, cI u 24 tb)], [(aM, cI u 16000 (uZ f h (t + 1)))], [(aG, cI u 16000 (uZ g h s))]]) G (jAt_1 3 rfl) (by (try unfold iR at *); omega) (by (try unfold iR at *); omega) (by (try unfold iR at *); omega) dX2_cycleNow_97 rfl ?_
              refine j_iload G 6 rfl dX2_cycleNow_98 ?_
              refine j_aload_n G 0 rfl dX2_cycleNow_100 ?_
              refine j_callV (wr := [[(aM, cI u 16000 (uZ f h (t + 1)))], [(aG, cI u 16000 (uZ g h s))]]) (k' := 0) (n' := 0) G FX2 (c_X2_tick l u y0 aT aX aR aM aG aN aQ aO aS aH aU aW th n gr pw a pr b d gn tk ln zs zl za zf ze zi zc bp ls wn sc al nr dr ba bb hh tb hn hg hw hp hT hq2) (jAt_1 0 rfl) ⟨rfl, hY_X2_tick⟩ q2022 q2024 qs47 q90 q2025 (jcut 4 [0, 1, 2, 3] (by decide) rfl rfl) ⟨by omega, by omega, by omega, by omega, by omega, by omega⟩ (Nat.le_of_ble_eq_true rfl) dX2_cycleNow_101 rfl (fun v_ w_ hp => ?_)
              obtain ⟨a2_101, b2_101, d2_101, mv_101, h101_1, h101_2, h101_3, rfl, rfl⟩ := hp
              show jJ X u 8 [[(y0, jO 1 [iI th, iI n, iI gr, iI pw, .ref aT, iI a2_101, iI pr, iI b2_101, iI d2_101, iI gn, iI tk, iI ln, .ref aX, iI zs, iI zl, iI za, iI zf, iI ze, iI zi, .ref aR, .ref aM, .ref aG, .ref aN, .ref aQ, lI ls, lI wn, .ref aO, .ref aS, .ref aH, .ref aU, lI sc, iI zc, .ref aW, lI al, lI nr, lI dr, iI bp, lI ba, lI bb, lI hh])], [(aT, cI u 24 tb)], [(aM, cI u 16000 (uZ f h (t + 1)))], [(aG, cI u 16000 (uZ g h s))]] [(0, .ref y0), (1, iI w), (2, iI po), (3, iI ix), (4, iI sd), (5, iI t), (6, iI s), (7, iI h)] 0 0 104 [iI mv_101, iI s]
              refine j_iadd G dX2_cycleNow_104 ?_
              refine j_istore G [(6, iI (s + mv_101)), (0, .ref y0), (1, iI w), (2, iI po), (3, iI ix), (4, iI sd), (5, iI t), (7, iI h)] rfl (by decide) dX2_cycleNow_105 ?_
              refine j_iinc G 6 rfl [(5, iI (t + 1)), (6, iI (s + mv_101)), (0, .ref y0), (1, iI w), (2, iI po), (3, iI ix), (4, iI sd), (7, iI h)] rfl (by decide) dX2_cycleNow_107 ?_
              refine j_sipush G (by decide) dX2_cycleNow_110 ?_
              refine j_aload_n G 2 rfl dX2_cycleNow_113 ?_
              refine j_get G FX2 (jAt_1 0 rfl) 5 (by decide) q1849 rfl dX2_cycleNow_114 ?_
              refine j_imul G dX2_cycleNow_117 ?_
              refine j_sipush G (by decide) dX2_cycleNow_118 ?_
              refine j_aload_n G 2 rfl dX2_cycleNow_121 ?_
              refine j_get G FX2 (jAt_1 0 rfl) 7 (by decide) q1851 rfl dX2_cycleNow_122 ?_
              refine j_imul G dX2_cycleNow_125 ?_
              refine j_iadd G dX2_cycleNow_126 ?_
              refine j_aload_n G 2 rfl dX2_cycleNow_127 ?_
              refine j_get G FX2 (jAt_1 0 rfl) 8 (by decide) q1852 rfl dX2_cycleNow_128 ?_
              refine j_iadd G dX2_cycleNow_131 ?_
              refine j_istore G [(7, iI (((4000 * a2_101) + (1000 * b2_101)) + d2_101)), (5, iI (t + 1)), (6, iI (s + mv_101)), (0, .ref y0), (1, iI w), (2, iI po), (3, iI ix), (4, iI sd)] rfl (by decide) dX2_cycleNow_132 ?_
              refine j_goto 68 G dX2_cycleNow_134 (by decide) ?_
              refine j_lv [3, 4, 5, 6, 7, 1, 2, 0] rfl ?_
              exact ih_L68 (j + 1) (uZ f h (t + 1)) (uZ g h s) a2_101 b2_101 d2_101 (t + 1) (s + mv_101) (((4000 * a2_101) + (1000 * b2_101)) + d2_101) (by omega) (by (try unfold iR at *); omega) (by rw [h101_1, g3]; rfl) (by rw [g4, h101_2, g3]; rfl) (by rw [g7, g4, g2]; exact cMet_s ⟨hn, hg, hw, hp, hT⟩ hq hc hjl g5) hjl (by show tCode (a2_101, b2_101, d2_101) = _; rw [h101_1, g3]; rfl)
        refine j_aload_n G 0 rfl dX2_cycleNow_22 ?_
        refine j_get G FX2 (jAt_1 0 rfl) 5 (by decide) q1849 rfl dX2_cycleNow_23 ?_
        refine j_istore_n G [(2, iI po), (0, .ref y0), (1, iI w)] rfl (by decide) dX2_cycleNow_26 ?_
        refine j_aload_n G 1 rfl dX2_cycleNow_27 ?_
        refine j_get G FX2 (jAt_1 0 rfl) 7 (by decide) q1851 rfl dX2_cycleNow_28 ?_
        refine j_istore_n G [(3, iI ix), (2, iI po), (0, .ref y0), (1, iI w)] rfl (by decide) dX2_cycleNow_31 ?_
        refine j_aload_n G 2 rfl dX2_cycleNow_32 ?_
        refine j_get G FX2 (jAt_1 0 rfl) 8 (by decide) q1852 rfl dX2_cycleNow_33 ?_
        refine j_istore G [(4, iI sd), (3, iI ix), (2, iI po), (0, .ref y0), (1, iI w)] rfl (by decide) dX2_cycleNow_36 ?_
        refine j_iconst G dX2_cycleNow_38 ?_
        refine j_istore G [(5, iI 0), (4, iI sd), (3, iI ix), (2, iI po), (0, .ref y0), (1, iI w)] rfl (by decide) dX2_cycleNow_39 ?_
        refine j_iconst G dX2_cycleNow_41 ?_
        refine j_istore G [(6, iI 0), (5, iI 0), (4, iI sd), (3, iI ix), (2, iI po), (0, .ref y0), (1, iI w)] rfl (by decide) dX2_cycleNow_42 ?_
        refine j_sipush G (by decide) dX2_cycleNow_44 ?_
        refine j_aload_n G 5 rfl dX2_cycleNow_47 ?_
        refine j_get G FX2 (jAt_1 0 rfl) 5 (by decide) q1849 rfl dX2_cycleNow_48 ?_
        refine j_imul G dX2_cycleNow_51 ?_
        refine j_sipush G (by decide) dX2_cycleNow_52 ?_
        refine j_aload_n G 5 rfl dX2_cycleNow_55 ?_
        refine j_get G FX2 (jAt_1 0 rfl) 7 (by decide) q1851 rfl dX2_cycleNow_56 ?_
        refine j_imul G dX2_cycleNow_59 ?_
        refine j_iadd G dX2_cycleNow_60 ?_
        refine j_aload_n G 5 rfl dX2_cycleNow_61 ?_
        refine j_get G FX2 (jAt_1 0 rfl) 8 (by decide) q1852 rfl dX2_cycleNow_62 ?_
        refine j_iadd G dX2_cycleNow_65 ?_
        refine j_istore G [(7, iI (((4000 * po) + (1000 * ix)) + sd)), (6, iI 0), (5, iI 0), (4, iI sd), (3, iI ix), (2, iI po), (0, .ref y0), (1, iI w)] rfl (by decide) dX2_cycleNow_66 ?_
        refine j_lv [6, 7, 5, 4, 3, 2, 1, 0] rfl ?_
        exact L68 16001 0 f ga po ix sd 0 0 (((4000 * po) + (1000 * ix)) + sd) (by omega) rfl rfl rfl (cMet_0 (fun k h0 h1 => g3 k h0 (by omega))) (by omega) rfl
      · skip
        refine j_aload_n G 0 rfl dX2_cycleNow_9 ?_
        refine j_get G FX2 (jAt_1 0 rfl) 20 (by decide) q1864 rfl dX2_cycleNow_10 ?_
        refine j_iload_n G 2 rfl dX2_cycleNow_13 ?_
        refine j_iconst G dX2_cycleNow_14 ?_
        refine j_iastore (ws' := [[(y0, jO 1 [iI th, iI n, iI gr, iI pw, .ref aT, iI po, iI pr, iI ix, iI sd, iI gn, iI tk, iI ln, .ref aX, iI zs, iI zl, iI za, iI zf, iI ze, iI zi, .ref aR, .ref aM, .ref aG, .ref aN, .ref aQ, lI ls, lI wn, .ref aO, .ref aS, .ref aH, .ref aU, lI sc, iI zc, .ref aW, lI al, lI nr, lI dr, iI bp, lI ba, lI bb, lI hh])], [(aT, cI u 24 tb)], [(aM, cI u 16000 (uZ f i 0))], [(aG, cI u 16000 ga)]]) G (jAt_1 2 rfl) (by (try unfold iR at *); omega) (by (try unfold iR at *); omega) (by (try unfold iR at *); omega) dX2_cycleNow_15 rfl ?_
        refine j_iinc G 2 rfl [(2, iI (i + 1)), (0, .ref y0), (1, iI w)] rfl (by decide) dX2_cycleNow_16 ?_
        refine j_goto 2 G dX2_cycleNow_19 (by decide) ?_
        refine j_lv [1, 2, 0] rfl ?_
        exact ih_L2 (j + 1) (uZ f i 0) (i + 1) (by (try unfold iR at *); omega) (by (try unfold iR at *); omega) (fun q h0 h1 => by unfold uZ; split <;> first | rfl | exact g3 q h0 (by omega)) (by (try unfold iR at *); omega)
  refine j_lv [1, 2, 0] rfl ?_
  exact L2 16001 0 mt 0 (by (try unfold iR at *); omega) rfl (fun q h0 h1 => absurd h1 (by omega)) (by (try unfold iR at *); omega)
theorem hY_X2_cycle : jY yX2_cycle 1 := ⟨by decide +kernel, by decide +kernel, by decide +kernel⟩
set_option maxHeartbeats 4000000 in
set_option maxRecDepth 100000 in
theorem c_X2_cycle (l : Launch) (u : jU) (mu la : Nat) (y0 aT aX aR aM aG aN aQ aO aS aH aU aW : Nat) (th n gr pw po pr ix sd gn tk ln zs zl za zf ze zi zc bp ls wn sc al nr dr ba bb hh : Int) (tb : Int → Int) (mt : Int → Int) (ga : Int → Int) (w : Int) (hRw : iR w) (hn : 2 ≤ n ∧ n ≤ 4) (hg : 0 ≤ gr ∧ gr ≤ 7) (hw : 0 ≤ pw ∧ pw ≤ 15) (hp : sProg pr = 1) (hT : wT (tB tb) (tF tb)) (hq : wQ (n, gr, pw, pr, tB tb, tF tb) (po, ix, sd)) (hc : isCyc (n, gr, pw, pr, tB tb, tF tb) (po, ix, sd) mu la) (hml : mu + la ≤ 16000) : jC l u yX2_cycle cX2_cycle 2 (some .int) 4 98 0 0 [.ref y0, iI w] [[(y0, jO 1 [iI th, iI n, iI gr, iI pw, .ref aT, iI po, iI pr, iI ix, iI sd, iI gn, iI tk, iI ln, .ref aX, iI zs, iI zl, iI za, iI zf, iI ze, iI zi, .ref aR, .ref aM, .ref aG, .ref aN, .ref aQ, lI ls, lI wn, .ref aO, .ref aS, .ref aH, .ref aU, lI sc, iI zc, .ref aW, lI al, lI nr, lI dr, iI bp, lI ba, lI bb, lI hh])], [(aT, cI u 24 tb)], [(aM, cI u 16000 mt)], [(aG, cI u 16000 ga)]] (fun v_ w_ => (∃ (mt2 ga2 : Int → Int) (r : Int), r = (if w = 0 then (mu : Int) else if w = 1 then (la : Int) else tSum (n, gr, pw, pr, tB tb, tF tb) (mu + la) (po, ix, sd) - tSum (n, gr, pw, pr, tB tb, tF tb) mu (po, ix, sd)) ∧ (0 ≤ w ∧ w ≤ 2) ∧ v_ = some (iI r) ∧ w_ = [[(y0, jO 1 [iI 0, iI n, iI gr, iI pw, .ref aT, iI po, iI pr, iI ix, iI sd, iI gn, iI tk, iI ln, .ref aX, iI zs, iI zl, iI za, iI zf, iI ze, iI zi, .ref aR, .ref aM, .ref aG, .ref aN, .ref aQ, lI ls, lI wn, .ref aO, .ref aS, .ref aH, .ref aU, lI sc, iI zc, .ref aW, lI al, lI nr, lI dr, iI bp, lI ba, lI bb, lI hh])], [(aT, cI u 24 tb)], [(aM, cI u 16000 mt2)], [(aG, cI u 16000 ga2)]]) ∨ ((¬ (0 ≤ w ∧ w ≤ 2)) ∧ v_ = some (iI 0) ∧ w_ = [[(y0, jO 1 [iI 1, iI n, iI gr, iI pw, .ref aT, iI po, iI pr, iI ix, iI sd, iI gn, iI tk, iI ln, .ref aX, iI zs, iI zl, iI za, iI zf, iI ze, iI zi, .ref aR, .ref aM, .ref aG, .ref aN, .ref aQ, lI ls, lI wn, .ref aO, .ref aS, .ref aH, .ref aU, lI sc, iI zc, .ref aW, lI al, lI nr, lI dr, iI bp, lI ba, lI bb, lI hh])], [(aT, cI u 24 tb)], [(aM, cI u 16000 mt)], [(aG, cI u 16000 ga)]])) := by
  refine jC.of "FlashRatchetModel" (by decide +kernel) rfl (Nat.le_of_ble_eq_true rfl) [(0, .ref y0), (1, iI w)] rfl (fun X G E I => ?_)
  refine j_aload_n G 0 rfl dX2_cycle_0 ?_
  refine j_iload_n G 1 rfl dX2_cycle_1 ?_
  refine j_iconst G dX2_cycle_2 ?_
  refine j_iconst G dX2_cycle_3 ?_
  refine j_callS (wr := [[(y0, jO 1 [iI th, iI n, iI gr, iI pw, .ref aT, iI po, iI pr, iI ix, iI sd, iI gn, iI tk, iI ln, .ref aX, iI zs, iI zl, iI za, iI zf, iI ze, iI zi, .ref aR, .ref aM, .ref aG, .ref aN, .ref aQ, lI ls, lI wn, .ref aO, .ref aS, .ref aH, .ref aU, lI sc, iI zc, .ref aW, lI al, lI nr, lI dr, iI bp, lI ba, lI bb, lI hh])], [(aT, cI u 24 tb)], [(aM, cI u 16000 mt)], [(aG, cI u 16000 ga)]]) (k' := 0) (n' := 0) G (c_X2_within l u w 0 2 hRw (by unfold iR; omega) (by unfold iR; omega)) hY_X2_within q1973 q1974 q90 q1975 (jcut 4 [0, 1, 2, 3] (by decide) rfl rfl) ⟨by omega, by omega, by omega, by omega, by omega, by omega⟩ (Nat.le_of_ble_eq_true rfl) dX2_cycle_4 rfl (fun v_ w_ hp => ?_)
  obtain ⟨r_4, h4_1, rfl, rfl⟩ := hp
  show jJ X u 2 [[(y0, jO 1 [iI th, iI n, iI gr, iI pw, .ref aT, iI po, iI pr, iI ix, iI sd, iI gn, iI tk, iI ln, .ref aX, iI zs, iI zl, iI za, iI zf, iI ze, iI zi, .ref aR, .ref aM, .ref aG, .ref aN, .ref aQ, lI ls, lI wn, .ref aO, .ref aS, .ref aH, .ref aU, lI sc, iI zc, .ref aW, lI al, lI nr, lI dr, iI bp, lI ba, lI bb, lI hh])], [(aT, cI u 24 tb)], [(aM, cI u 16000 mt)], [(aG, cI u 16000 ga)]] [(0, .ref y0), (1, iI w)] 0 0 7 [iI r_4, .ref y0]
  refine j_if_eq 14 G (by unfold iR at *; omega) dX2_cycle_7 (by decide) (fun c_7 => ?_) (fun c_7 => ?_)
  · skip
    refine j_iconst G dX2_cycle_14 ?_
    refine j_put (ws' := [[(y0, jO 1 [iI 1, iI n, iI gr, iI pw, .ref aT, iI po, iI pr, iI ix, iI sd, iI gn, iI tk, iI ln, .ref aX, iI zs, iI zl, iI za, iI zf, iI ze, iI zi, .ref aR, .ref aM, .ref aG, .ref aN, .ref aQ, lI ls, lI wn, .ref aO, .ref aS, .ref aH, .ref aU, lI sc, iI zc, .ref aW, lI al, lI nr, lI dr, iI bp, lI ba, lI bb, lI hh])], [(aT, cI u 24 tb)], [(aM, cI u 16000 mt)], [(aG, cI u 16000 ga)]]) G FX2 (jAt_1 0 rfl) 0 (by decide) q1844 rfl rfl rfl (Nat.le_of_ble_eq_true rfl) dX2_cycle_15 rfl ?_
    refine j_aload_n G 0 rfl dX2_cycle_18 ?_
    refine j_get G FX2 (jAt_1 0 rfl) 0 (by decide) q1844 rfl dX2_cycle_19 ?_
    refine j_if_le 29 G (by unfold iR; omega) dX2_cycle_22 (by decide) (fun c_22 => ?_) (fun c_22 => ?_)
    · exact absurd c_22 (by decide)
    · skip
      refine j_iconst G dX2_cycle_25 ?_
      refine j_goto 34 G dX2_cycle_26 (by decide) ?_
      exact j_iret G E (Or.inr ⟨(by omega), rfl, rfl⟩) ⟨by omega, by omega⟩ dX2_cycle_34
  · skip
    refine j_iconst G dX2_cycle_10 ?_
    refine j_goto 15 G dX2_cycle_11 (by decide) ?_
    refine j_put (ws' := [[(y0, jO 1 [iI 0, iI n, iI gr, iI pw, .ref aT, iI po, iI pr, iI ix, iI sd, iI gn, iI tk, iI ln, .ref aX, iI zs, iI zl, iI za, iI zf, iI ze, iI zi, .ref aR, .ref aM, .ref aG, .ref aN, .ref aQ, lI ls, lI wn, .ref aO, .ref aS, .ref aH, .ref aU, lI sc, iI zc, .ref aW, lI al, lI nr, lI dr, iI bp, lI ba, lI bb, lI hh])], [(aT, cI u 24 tb)], [(aM, cI u 16000 mt)], [(aG, cI u 16000 ga)]]) G FX2 (jAt_1 0 rfl) 0 (by decide) q1844 rfl rfl rfl (Nat.le_of_ble_eq_true rfl) dX2_cycle_15 rfl ?_
    refine j_aload_n G 0 rfl dX2_cycle_18 ?_
    refine j_get G FX2 (jAt_1 0 rfl) 0 (by decide) q1844 rfl dX2_cycle_19 ?_
    refine j_if_le 29 G (by unfold iR; omega) dX2_cycle_22 (by decide) (fun c_22 => ?_) (fun c_22 => ?_)
    · skip
      refine j_aload_n G 0 rfl dX2_cycle_29 ?_
      refine j_iload_n G 1 rfl dX2_cycle_30 ?_
      refine j_callV (wr := []) (k' := 0) (n' := 0) G FX2 (c_X2_cycleNow l u mu la y0 aT aX aR aM aG aN aQ aO aS aH aU aW 0 n gr pw po pr ix sd gn tk ln zs zl za zf ze zi zc bp ls wn sc al nr dr ba bb hh tb mt ga w hn hg hw hp hT hq hc hml hRw) (jAt_1 0 rfl) ⟨rfl, hY_X2_cycleNow⟩ q2092 q2094 qs58 q90 q2095 (jcut 4 [0, 1, 2, 3] (by decide) rfl rfl) ⟨by omega, by omega, by omega, by omega, by omega, by omega⟩ (Nat.le_of_ble_eq_true rfl) dX2_cycle_31 rfl (fun v_ w_ hp => ?_)
      obtain ⟨mt2_31, ga2_31, r_31, h31_1, rfl, rfl⟩ := hp
      show jJ X u 2 [[(y0, jO 1 [iI 0, iI n, iI gr, iI pw, .ref aT, iI po, iI pr, iI ix, iI sd, iI gn, iI tk, iI ln, .ref aX, iI zs, iI zl, iI za, iI zf, iI ze, iI zi, .ref aR, .ref aM, .ref aG, .ref aN, .ref aQ, lI ls, lI wn, .ref aO, .ref aS, .ref aH, .ref aU, lI sc, iI zc, .ref aW, lI al, lI nr, lI dr, iI bp, lI ba, lI bb, lI hh])], [(aT, cI u 24 tb)], [(aM, cI u 16000 mt2_31)], [(aG, cI u 16000 ga2_31)]] [(0, .ref y0), (1, iI w)] 0 0 34 [iI r_31]
      exact j_iret G E (Or.inl ⟨mt2_31, ga2_31, r_31, h31_1, (by omega), rfl, rfl⟩) ⟨by omega, by omega⟩ dX2_cycle_34
    · exact absurd c_22 (by decide)
theorem hY_X2_append : jY yX2_append 1 := ⟨by decide +kernel, by decide +kernel, by decide +kernel⟩
set_option maxHeartbeats 4000000 in
set_option maxRecDepth 100000 in
theorem c_X2_append (l : Launch) (u : jU) (y0 aT aX aR aM aG aN aQ aO aS aH aU aW : Nat) (th n gr pw po pr ix sd gn tk ln zs zl za zf ze zi zc bp ls wn sc al nr dr ba bb hh : Int) (tx : Int → Int) (v : Int) (hRv : iR v) (hln : 0 ≤ ln ∧ ln ≤ 60) : jC l u yX2_append cX2_append 2 (some .int) 1 22 0 0 [.ref y0, iI v] [[(y0, jO 1 [iI th, iI n, iI gr, iI pw, .ref aT, iI po, iI pr, iI ix, iI sd, iI gn, iI tk, iI ln, .ref aX, iI zs, iI zl, iI za, iI zf, iI ze, iI zi, .ref aR, .ref aM, .ref aG, .ref aN, .ref aQ, lI ls, lI wn, .ref aO, .ref aS, .ref aH, .ref aU, lI sc, iI zc, .ref aW, lI al, lI nr, lI dr, iI bp, lI ba, lI bb, lI hh])], [(aX, cI u 60 tx)]] (fun v_ w_ => ((33 ≤ v ∧ v ≤ 126) ∧ ln < 60 ∧ v_ = some (iI (ln + 1)) ∧ w_ = [[(y0, jO 1 [iI 0, iI n, iI gr, iI pw, .ref aT, iI po, iI pr, iI ix, iI sd, iI gn, iI tk, iI (ln + 1), .ref aX, iI zs, iI zl, iI za, iI zf, iI ze, iI zi, .ref aR, .ref aM, .ref aG, .ref aN, .ref aQ, lI ls, lI wn, .ref aO, .ref aS, .ref aH, .ref aU, lI sc, iI zc, .ref aW, lI al, lI nr, lI dr, iI bp, lI ba, lI bb, lI hh])], [(aX, cI u 60 (uZ tx ln v))]]) ∨ ((¬ (33 ≤ v ∧ v ≤ 126)) ∧ v_ = some (iI 0) ∧ w_ = [[(y0, jO 1 [iI 1, iI n, iI gr, iI pw, .ref aT, iI po, iI pr, iI ix, iI sd, iI gn, iI tk, iI ln, .ref aX, iI zs, iI zl, iI za, iI zf, iI ze, iI zi, .ref aR, .ref aM, .ref aG, .ref aN, .ref aQ, lI ls, lI wn, .ref aO, .ref aS, .ref aH, .ref aU, lI sc, iI zc, .ref aW, lI al, lI nr, lI dr, iI bp, lI ba, lI bb, lI hh])], [(aX, cI u 60 tx)]]) ∨ ((33 ≤ v ∧ v ≤ 126) ∧ ln = 60 ∧ v_ = some (iI 0) ∧ w_ = [[(y0, jO 1 [iI 2, iI n, iI gr, iI pw, .ref aT, iI po, iI pr, iI ix, iI sd, iI gn, iI tk, iI ln, .ref aX, iI zs, iI zl, iI za, iI zf, iI ze, iI zi, .ref aR, .ref aM, .ref aG, .ref aN, .ref aQ, lI ls, lI wn, .ref aO, .ref aS, .ref aH, .ref aU, lI sc, iI zc, .ref aW, lI al, lI nr, lI dr, iI bp, lI ba, lI bb, lI hh])], [(aX, cI u 60 tx)]])) := by
  refine jC.of "FlashRatchetModel" (by decide +kernel) rfl (Nat.le_of_ble_eq_true rfl) [(0, .ref y0), (1, iI v)] rfl (fun X G E I => ?_)
  refine j_aload_n G 0 rfl dX2_append_0 ?_
  refine j_iload_n G 1 rfl dX2_append_1 ?_
  refine j_bipush G (by decide) dX2_append_2 ?_
  refine j_bipush G (by decide) dX2_append_4 ?_
  refine j_callS (wr := [[(y0, jO 1 [iI th, iI n, iI gr, iI pw, .ref aT, iI po, iI pr, iI ix, iI sd, iI gn, iI tk, iI ln, .ref aX, iI zs, iI zl, iI za, iI zf, iI ze, iI zi, .ref aR, .ref aM, .ref aG, .ref aN, .ref aQ, lI ls, lI wn, .ref aO, .ref aS, .ref aH, .ref aU, lI sc, iI zc, .ref aW, lI al, lI nr, lI dr, iI bp, lI ba, lI bb, lI hh])], [(aX, cI u 60 tx)]]) (k' := 0) (n' := 0) G (c_X2_within l u v 33 126 hRv (by unfold iR; omega) (by unfold iR; omega)) hY_X2_within q1973 q1974 q90 q1975 (jcut 2 [0, 1] (by decide) rfl rfl) ⟨by omega, by omega, by omega, by omega, by omega, by omega⟩ (Nat.le_of_ble_eq_true rfl) dX2_append_6 rfl (fun v_ w_ hp => ?_)
  obtain ⟨r_6, h6_1, rfl, rfl⟩ := hp
  show jJ X u 2 [[(y0, jO 1 [iI th, iI n, iI gr, iI pw, .ref aT, iI po, iI pr, iI ix, iI sd, iI gn, iI tk, iI ln, .ref aX, iI zs, iI zl, iI za, iI zf, iI ze, iI zi, .ref aR, .ref aM, .ref aG, .ref aN, .ref aQ, lI ls, lI wn, .ref aO, .ref aS, .ref aH, .ref aU, lI sc, iI zc, .ref aW, lI al, lI nr, lI dr, iI bp, lI ba, lI bb, lI hh])], [(aX, cI u 60 tx)]] [(0, .ref y0), (1, iI v)] 0 0 9 [iI r_6, .ref y0]
  refine j_if_ne 16 G (by unfold iR at *; omega) dX2_append_9 (by decide) (fun c_9 => ?_) (fun c_9 => ?_)
  · skip
    refine j_aload_n G 0 rfl dX2_append_16 ?_
    refine j_get G FX2 (jAt_1 0 rfl) 11 (by decide) q1855 rfl dX2_append_17 ?_
    refine j_bipush G (by decide) dX2_append_20 ?_
    refine j_icmp_ne 29 G (by unfold iR at *; omega) (by unfold iR; omega) dX2_append_22 (by decide) (fun c_22 => ?_) (fun c_22 => ?_)
    · skip
      refine j_iconst G dX2_append_29 ?_
      refine j_put (ws' := [[(y0, jO 1 [iI 0, iI n, iI gr, iI pw, .ref aT, iI po, iI pr, iI ix, iI sd, iI gn, iI tk, iI ln, .ref aX, iI zs, iI zl, iI za, iI zf, iI ze, iI zi, .ref aR, .ref aM, .ref aG, .ref aN, .ref aQ, lI ls, lI wn, .ref aO, .ref aS, .ref aH, .ref aU, lI sc, iI zc, .ref aW, lI al, lI nr, lI dr, iI bp, lI ba, lI bb, lI hh])], [(aX, cI u 60 tx)]]) G FX2 (jAt_1 0 rfl) 0 (by decide) q1844 rfl rfl rfl (Nat.le_of_ble_eq_true rfl) dX2_append_30 rfl ?_
      refine j_aload_n G 0 rfl dX2_append_33 ?_
      refine j_get G FX2 (jAt_1 0 rfl) 0 (by decide) q1844 rfl dX2_append_34 ?_
      refine j_if_le 42 G (by unfold iR; omega) dX2_append_37 (by decide) (fun c_37 => ?_) (fun c_37 => ?_)
      · skip
        refine j_aload_n G 0 rfl dX2_append_42 ?_
        refine j_get G FX2 (jAt_1 0 rfl) 12 (by decide) q1856 rfl dX2_append_43 ?_
        refine j_aload_n G 0 rfl dX2_append_46 ?_
        refine j_get G FX2 (jAt_1 0 rfl) 11 (by decide) q1855 rfl dX2_append_47 ?_
        refine j_iload_n G 1 rfl dX2_append_50 ?_
        refine j_iastore (ws' := [[(y0, jO 1 [iI 0, iI n, iI gr, iI pw, .ref aT, iI po, iI pr, iI ix, iI sd, iI gn, iI tk, iI ln, .ref aX, iI zs, iI zl, iI za, iI zf, iI ze, iI zi, .ref aR, .ref aM, .ref aG, .ref aN, .ref aQ, lI ls, lI wn, .ref aO, .ref aS, .ref aH, .ref aU, lI sc, iI zc, .ref aW, lI al, lI nr, lI dr, iI bp, lI ba, lI bb, lI hh])], [(aX, cI u 60 (uZ tx ln v))]]) G (jAt_1 1 rfl) (by (try unfold iR at *); omega) (by (try unfold iR at *); omega) (by (try unfold iR at *); omega) dX2_append_51 rfl ?_
        refine j_aload_n G 0 rfl dX2_append_52 ?_
        refine j_dup G rfl dX2_append_53 ?_
        refine j_get G FX2 (jAt_1 0 rfl) 11 (by decide) q1855 rfl dX2_append_54 ?_
        refine j_iconst G dX2_append_57 ?_
        refine j_iadd G dX2_append_58 ?_
        refine j_put (ws' := [[(y0, jO 1 [iI 0, iI n, iI gr, iI pw, .ref aT, iI po, iI pr, iI ix, iI sd, iI gn, iI tk, iI (ln + 1), .ref aX, iI zs, iI zl, iI za, iI zf, iI ze, iI zi, .ref aR, .ref aM, .ref aG, .ref aN, .ref aQ, lI ls, lI wn, .ref aO, .ref aS, .ref aH, .ref aU, lI sc, iI zc, .ref aW, lI al, lI nr, lI dr, iI bp, lI ba, lI bb, lI hh])], [(aX, cI u 60 (uZ tx ln v))]]) G FX2 (jAt_1 0 rfl) 11 (by decide) q1855 rfl rfl rfl (Nat.le_of_ble_eq_true rfl) dX2_append_59 rfl ?_
        refine j_aload_n G 0 rfl dX2_append_62 ?_
        refine j_get G FX2 (jAt_1 0 rfl) 11 (by decide) q1855 rfl dX2_append_63 ?_
        exact j_iret G E (Or.inl ⟨(by omega), (by omega), rfl, rfl⟩) ⟨by omega, by omega⟩ dX2_append_66
      · exact absurd c_37 (by decide)
    · skip
      refine j_iconst G dX2_append_25 ?_
      refine j_goto 30 G dX2_append_26 (by decide) ?_
      refine j_put (ws' := [[(y0, jO 1 [iI 2, iI n, iI gr, iI pw, .ref aT, iI po, iI pr, iI ix, iI sd, iI gn, iI tk, iI ln, .ref aX, iI zs, iI zl, iI za, iI zf, iI ze, iI zi, .ref aR, .ref aM, .ref aG, .ref aN, .ref aQ, lI ls, lI wn, .ref aO, .ref aS, .ref aH, .ref aU, lI sc, iI zc, .ref aW, lI al, lI nr, lI dr, iI bp, lI ba, lI bb, lI hh])], [(aX, cI u 60 tx)]]) G FX2 (jAt_1 0 rfl) 0 (by decide) q1844 rfl rfl rfl (Nat.le_of_ble_eq_true rfl) dX2_append_30 rfl ?_
      refine j_aload_n G 0 rfl dX2_append_33 ?_
      refine j_get G FX2 (jAt_1 0 rfl) 0 (by decide) q1844 rfl dX2_append_34 ?_
      refine j_if_le 42 G (by unfold iR; omega) dX2_append_37 (by decide) (fun c_37 => ?_) (fun c_37 => ?_)
      · exact absurd c_37 (by decide)
      · skip
        refine j_iconst G dX2_append_40 ?_
        exact j_iret G E (Or.inr (Or.inr ⟨(by omega), (by omega), rfl, rfl⟩)) ⟨by omega, by omega⟩ dX2_append_41
  · skip
    refine j_iconst G dX2_append_12 ?_
    refine j_goto 30 G dX2_append_13 (by decide) ?_
    refine j_put (ws' := [[(y0, jO 1 [iI 1, iI n, iI gr, iI pw, .ref aT, iI po, iI pr, iI ix, iI sd, iI gn, iI tk, iI ln, .ref aX, iI zs, iI zl, iI za, iI zf, iI ze, iI zi, .ref aR, .ref aM, .ref aG, .ref aN, .ref aQ, lI ls, lI wn, .ref aO, .ref aS, .ref aH, .ref aU, lI sc, iI zc, .ref aW, lI al, lI nr, lI dr, iI bp, lI ba, lI bb, lI hh])], [(aX, cI u 60 tx)]]) G FX2 (jAt_1 0 rfl) 0 (by decide) q1844 rfl rfl rfl (Nat.le_of_ble_eq_true rfl) dX2_append_30 rfl ?_
    refine j_aload_n G 0 rfl dX2_append_33 ?_
    refine j_get G FX2 (jAt_1 0 rfl) 0 (by decide) q1844 rfl dX2_append_34 ?_
    refine j_if_le 42 G (by unfold iR; omega) dX2_append_37 (by decide) (fun c_37 => ?_) (fun c_37 => ?_)
    · exact absurd c_37 (by decide)
    · skip
      refine j_iconst G dX2_append_40 ?_
      exact j_iret G E (Or.inr (Or.inl ⟨(by omega), rfl, rfl⟩)) ⟨by omega, by omega⟩ dX2_append_41
theorem hY_X2_clearBuffer : jY yX2_clearBuffer 0 := ⟨by decide +kernel, by decide +kernel, by decide +kernel⟩
set_option maxHeartbeats 4000000 in
set_option maxRecDepth 100000 in
theorem c_X2_clearBuffer (l : Launch) (u : jU) (y0 aT aX aR aM aG aN aQ aO aS aH aU aW : Nat) (th n gr pw po pr ix sd gn tk ln zs zl za zf ze zi zc bp ls wn sc al nr dr ba bb hh : Int)  : jC l u yX2_clearBuffer cX2_clearBuffer 2 (some .int) 0 0 0 0 [.ref y0] [[(y0, jO 1 [iI th, iI n, iI gr, iI pw, .ref aT, iI po, iI pr, iI ix, iI sd, iI gn, iI tk, iI ln, .ref aX, iI zs, iI zl, iI za, iI zf, iI ze, iI zi, .ref aR, .ref aM, .ref aG, .ref aN, .ref aQ, lI ls, lI wn, .ref aO, .ref aS, .ref aH, .ref aU, lI sc, iI zc, .ref aW, lI al, lI nr, lI dr, iI bp, lI ba, lI bb, lI hh])]] (fun v_ w_ => v_ = some (iI ln) ∧ w_ = [[(y0, jO 1 [iI 0, iI n, iI gr, iI pw, .ref aT, iI po, iI pr, iI ix, iI sd, iI gn, iI tk, iI 0, .ref aX, iI zs, iI zl, iI za, iI zf, iI ze, iI zi, .ref aR, .ref aM, .ref aG, .ref aN, .ref aQ, lI ls, lI wn, .ref aO, .ref aS, .ref aH, .ref aU, lI sc, iI zc, .ref aW, lI al, lI nr, lI dr, iI bp, lI ba, lI bb, lI hh])]]) := by
  refine jC.of "FlashRatchetModel" (by decide +kernel) rfl (Nat.le_of_ble_eq_true rfl) [(0, .ref y0)] rfl (fun X G E I => ?_)
  refine j_aload_n G 0 rfl dX2_clearBuffer_0 ?_
  refine j_iconst G dX2_clearBuffer_1 ?_
  refine j_put (ws' := [[(y0, jO 1 [iI 0, iI n, iI gr, iI pw, .ref aT, iI po, iI pr, iI ix, iI sd, iI gn, iI tk, iI ln, .ref aX, iI zs, iI zl, iI za, iI zf, iI ze, iI zi, .ref aR, .ref aM, .ref aG, .ref aN, .ref aQ, lI ls, lI wn, .ref aO, .ref aS, .ref aH, .ref aU, lI sc, iI zc, .ref aW, lI al, lI nr, lI dr, iI bp, lI ba, lI bb, lI hh])]]) G FX2 (jAt_1 0 rfl) 0 (by decide) q1844 rfl rfl rfl (Nat.le_of_ble_eq_true rfl) dX2_clearBuffer_2 rfl ?_
  refine j_aload_n G 0 rfl dX2_clearBuffer_5 ?_
  refine j_get G FX2 (jAt_1 0 rfl) 11 (by decide) q1855 rfl dX2_clearBuffer_6 ?_
  refine j_istore_n G [(1, iI ln), (0, .ref y0)] rfl (by decide) dX2_clearBuffer_9 ?_
  refine j_aload_n G 1 rfl dX2_clearBuffer_10 ?_
  refine j_iconst G dX2_clearBuffer_11 ?_
  refine j_put (ws' := [[(y0, jO 1 [iI 0, iI n, iI gr, iI pw, .ref aT, iI po, iI pr, iI ix, iI sd, iI gn, iI tk, iI 0, .ref aX, iI zs, iI zl, iI za, iI zf, iI ze, iI zi, .ref aR, .ref aM, .ref aG, .ref aN, .ref aQ, lI ls, lI wn, .ref aO, .ref aS, .ref aH, .ref aU, lI sc, iI zc, .ref aW, lI al, lI nr, lI dr, iI bp, lI ba, lI bb, lI hh])]]) G FX2 (jAt_1 0 rfl) 11 (by decide) q1855 rfl rfl rfl (Nat.le_of_ble_eq_true rfl) dX2_clearBuffer_12 rfl ?_
  refine j_iload_n G 0 rfl dX2_clearBuffer_15 ?_
  exact j_iret G E ⟨rfl, rfl⟩ ⟨by omega, by omega⟩ dX2_clearBuffer_16
theorem hY_X2_init : jY yX2_init 0 := ⟨by decide +kernel, by decide +kernel, by decide +kernel⟩
set_option maxHeartbeats 4000000 in
set_option maxRecDepth 100000 in
theorem c_X2_init (l : Launch) (u : jU) (y0 : Nat)  : jC l u yX2_init cX2_init 1 none 1 22 12 33000 [.ref y0] [[(y0, jO 1 [iI 0, iI 0, iI 0, iI 0, .null, iI 0, iI 0, iI 0, iI 0, iI 0, iI 0, iI 0, .null, iI 0, iI 0, iI 0, iI 0, iI 0, iI 0, .null, .null, .null, .null, .null, lI 0, lI 0, .null, .null, .null, .null, lI 0, iI 0, .null, lI 0, lI 0, lI 0, iI 0, lI 0, lI 0, lI 0])]] (fun v_ w_ => ∃ (aT aX aR aM aG aN aQ aO aS aH aU aW : Nat) (tb2 : Int → Int), (∀ k : Int, 0 ≤ k → k < 24 → tb2 k = 0) ∧ v_ = none ∧ w_ = [[(y0, jO 1 [iI 0, iI 3, iI 7, iI 0, .ref aT, iI 0, iI 1, iI 0, iI 0, iI 0, iI 0, iI 0, .ref aX, iI 0, iI 0, iI 0, iI 0, iI 0, iI 0, .ref aR, .ref aM, .ref aG, .ref aN, .ref aQ, lI 0, lI 0, .ref aO, .ref aS, .ref aH, .ref aU, lI 0, iI 0, .ref aW, lI 0, lI 0, lI 0, iI 0, lI 0, lI 0, lI 0])], [(aT, cI u 24 tb2)], [(aX, cI u 60 (fun _ => 0))], [(aR, cI u 300 (fun _ => 0))], [(aM, cI u 16000 (fun _ => 0))], [(aG, cI u 16000 (fun _ => 0))], [(aN, cJ u 124 (fun _ => 0))], [(aQ, cJ u 124 (fun _ => 0))], [(aO, cJ u 16 (fun _ => 0))], [(aS, cJ u 4 (fun _ => 0))], [(aH, cJ u 4 (fun _ => 0))], [(aU, cJ u 4 (fun _ => 0))], [(aW, cJ u 4 (fun _ => 0))]]) := by
  refine jC.of "FlashRatchetModel" (by decide +kernel) rfl (Nat.le_of_ble_eq_true rfl) [(0, .ref y0)] rfl (fun X G E I => ?_)
  have I := I rfl
  refine j_aload_n G 0 rfl dX2_init_0 ?_
  refine j_objInit G q1839 q136 q137 ⟨by omega, by omega⟩ (Nat.le_of_ble_eq_true rfl) dX2_init_1 ?_
  refine j_aload_n G 0 rfl dX2_init_4 ?_
  refine j_bipush G (by decide) dX2_init_5 ?_
  refine j_newarr_i (k' := 1) (n' := 24) 24 G q170 rfl (by (try unfold iR at *); omega) ⟨by omega, by omega, by omega, by omega⟩ dX2_init_7 (fun o7 => ?_)
  refine j_putF (ws' := [[(o7, cI u 24 (fun _ => 0))], [(y0, jO 1 [iI 0, iI 0, iI 0, iI 0, .ref o7, iI 0, iI 0, iI 0, iI 0, iI 0, iI 0, iI 0, .null, iI 0, iI 0, iI 0, iI 0, iI 0, iI 0, .null, .null, .null, .null, .null, lI 0, lI 0, .null, .null, .null, .null, lI 0, iI 0, .null, lI 0, lI 0, lI 0, iI 0, lI 0, lI 0, lI 0])]]) G I FX2 (jAt_1 1 rfl) 4 (by decide) q1848 rfl rfl rfl rfl (Nat.le_of_ble_eq_true rfl) dX2_init_9 rfl ?_
  refine j_aload_n G 0 rfl dX2_init_12 ?_
  refine j_bipush G (by decide) dX2_init_13 ?_
  refine j_newarr_i (k' := 2) (n' := 84) 60 G q170 rfl (by (try unfold iR at *); omega) ⟨by omega, by omega, by omega, by omega⟩ dX2_init_15 (fun o15 => ?_)
  refine j_putF (ws' := [[(o15, cI u 60 (fun _ => 0))], [(o7, cI u 24 (fun _ => 0))], [(y0, jO 1 [iI 0, iI 0, iI 0, iI 0, .ref o7, iI 0, iI 0, iI 0, iI 0, iI 0, iI 0, iI 0, .ref o15, iI 0, iI 0, iI 0, iI 0, iI 0, iI 0, .null, .null, .null, .null, .null, lI 0, lI 0, .null, .null, .null, .null, lI 0, iI 0, .null, lI 0, lI 0, lI 0, iI 0, lI 0, lI 0, lI 0])]]) G I FX2 (jAt_1 2 rfl) 12 (by decide) q1856 rfl rfl rfl rfl (Nat.le_of_ble_eq_true rfl) dX2_init_17 rfl ?_
  refine j_aload_n G 0 rfl dX2_init_20 ?_
  refine j_sipush G (by decide) dX2_init_21 ?_
  refine j_newarr_i (k' := 3) (n' := 384) 300 G q170 rfl (by (try unfold iR at *); omega) ⟨by omega, by omega, by omega, by omega⟩ dX2_init_24 (fun o24 => ?_)
  refine j_putF (ws' := [[(o24, cI u 300 (fun _ => 0))], [(o15, cI u 60 (fun _ => 0))], [(o7, cI u 24 (fun _ => 0))], [(y0, jO 1 [iI 0, iI 0, iI 0, iI 0, .ref o7, iI 0, iI 0, iI 0, iI 0, iI 0, iI 0, iI 0, .ref o15, iI 0, iI 0, iI 0, iI 0, iI 0, iI 0, .ref o24, .null, .null, .null, .null, lI 0, lI 0, .null, .null, .null, .null, lI 0, iI 0, .null, lI 0, lI 0, lI 0, iI 0, lI 0, lI 0, lI 0])]]) G I FX2 (jAt_1 3 rfl) 19 (by decide) q1863 rfl rfl rfl rfl (Nat.le_of_ble_eq_true rfl) dX2_init_26 rfl ?_
  refine j_aload_n G 0 rfl dX2_init_29 ?_
  refine j_sipush G (by decide) dX2_init_30 ?_
  refine j_newarr_i (k' := 4) (n' := 16384) 16000 G q170 rfl (by (try unfold iR at *); omega) ⟨by omega, by omega, by omega, by omega⟩ dX2_init_33 (fun o33 => ?_)
  refine j_putF (ws' := [[(o33, cI u 16000 (fun _ => 0))], [(o24, cI u 300 (fun _ => 0))], [(o15, cI u 60 (fun _ => 0))], [(o7, cI u 24 (fun _ => 0))], [(y0, jO 1 [iI 0, iI 0, iI 0, iI 0, .ref o7, iI 0, iI 0, iI 0, iI 0, iI 0, iI 0, iI 0, .ref o15, iI 0, iI 0, iI 0, iI 0, iI 0, iI 0, .ref o24, .ref o33, .null, .null, .null, lI 0, lI 0, .null, .null, .null, .null, lI 0, iI 0, .null, lI 0, lI 0, lI 0, iI 0, lI 0, lI 0, lI 0])]]) G I FX2 (jAt_1 4 rfl) 20 (by decide) q1864 rfl rfl rfl rfl (Nat.le_of_ble_eq_true rfl) dX2_init_35 rfl ?_
  refine j_aload_n G 0 rfl dX2_init_38 ?_
  refine j_sipush G (by decide) dX2_init_39 ?_
  refine j_newarr_i (k' := 5) (n' := 32384) 16000 G q170 rfl (by (try unfold iR at *); omega) ⟨by omega, by omega, by omega, by omega⟩ dX2_init_42 (fun o42 => ?_)
  refine j_putF (ws' := [[(o42, cI u 16000 (fun _ => 0))], [(o33, cI u 16000 (fun _ => 0))], [(o24, cI u 300 (fun _ => 0))], [(o15, cI u 60 (fun _ => 0))], [(o7, cI u 24 (fun _ => 0))], [(y0, jO 1 [iI 0, iI 0, iI 0, iI 0, .ref o7, iI 0, iI 0, iI 0, iI 0, iI 0, iI 0, iI 0, .ref o15, iI 0, iI 0, iI 0, iI 0, iI 0, iI 0, .ref o24, .ref o33, .ref o42, .null, .null, lI 0, lI 0, .null, .null, .null, .null, lI 0, iI 0, .null, lI 0, lI 0, lI 0, iI 0, lI 0, lI 0, lI 0])]]) G I FX2 (jAt_1 5 rfl) 21 (by decide) q1865 rfl rfl rfl rfl (Nat.le_of_ble_eq_true rfl) dX2_init_44 rfl ?_
  refine j_aload_n G 0 rfl dX2_init_47 ?_
  refine j_bipush G (by decide) dX2_init_48 ?_
  refine j_newarr_l (k' := 6) (n' := 32508) 124 G q751 rfl (by (try unfold iR at *); omega) ⟨by omega, by omega, by omega, by omega⟩ dX2_init_50 (fun o50 => ?_)
  refine j_putF (ws' := [[(o50, cJ u 124 (fun _ => 0))], [(o42, cI u 16000 (fun _ => 0))], [(o33, cI u 16000 (fun _ => 0))], [(o24, cI u 300 (fun _ => 0))], [(o15, cI u 60 (fun _ => 0))], [(o7, cI u 24 (fun _ => 0))], [(y0, jO 1 [iI 0, iI 0, iI 0, iI 0, .ref o7, iI 0, iI 0, iI 0, iI 0, iI 0, iI 0, iI 0, .ref o15, iI 0, iI 0, iI 0, iI 0, iI 0, iI 0, .ref o24, .ref o33, .ref o42, .ref o50, .null, lI 0, lI 0, .null, .null, .null, .null, lI 0, iI 0, .null, lI 0, lI 0, lI 0, iI 0, lI 0, lI 0, lI 0])]]) G I FX2 (jAt_1 6 rfl) 22 (by decide) q1866 rfl rfl rfl rfl (Nat.le_of_ble_eq_true rfl) dX2_init_52 rfl ?_
  refine j_aload_n G 0 rfl dX2_init_55 ?_
  refine j_bipush G (by decide) dX2_init_56 ?_
  refine j_newarr_l (k' := 7) (n' := 32632) 124 G q751 rfl (by (try unfold iR at *); omega) ⟨by omega, by omega, by omega, by omega⟩ dX2_init_58 (fun o58 => ?_)
  refine j_putF (ws' := [[(o58, cJ u 124 (fun _ => 0))], [(o50, cJ u 124 (fun _ => 0))], [(o42, cI u 16000 (fun _ => 0))], [(o33, cI u 16000 (fun _ => 0))], [(o24, cI u 300 (fun _ => 0))], [(o15, cI u 60 (fun _ => 0))], [(o7, cI u 24 (fun _ => 0))], [(y0, jO 1 [iI 0, iI 0, iI 0, iI 0, .ref o7, iI 0, iI 0, iI 0, iI 0, iI 0, iI 0, iI 0, .ref o15, iI 0, iI 0, iI 0, iI 0, iI 0, iI 0, .ref o24, .ref o33, .ref o42, .ref o50, .ref o58, lI 0, lI 0, .null, .null, .null, .null, lI 0, iI 0, .null, lI 0, lI 0, lI 0, iI 0, lI 0, lI 0, lI 0])]]) G I FX2 (jAt_1 7 rfl) 23 (by decide) q1867 rfl rfl rfl rfl (Nat.le_of_ble_eq_true rfl) dX2_init_60 rfl ?_
  refine j_aload_n G 0 rfl dX2_init_63 ?_
  refine j_bipush G (by decide) dX2_init_64 ?_
  refine j_newarr_l (k' := 8) (n' := 32648) 16 G q751 rfl (by (try unfold iR at *); omega) ⟨by omega, by omega, by omega, by omega⟩ dX2_init_66 (fun o66 => ?_)
  refine j_putF (ws' := [[(o66, cJ u 16 (fun _ => 0))], [(o58, cJ u 124 (fun _ => 0))], [(o50, cJ u 124 (fun _ => 0))], [(o42, cI u 16000 (fun _ => 0))], [(o33, cI u 16000 (fun _ => 0))], [(o24, cI u 300 (fun _ => 0))], [(o15, cI u 60 (fun _ => 0))], [(o7, cI u 24 (fun _ => 0))], [(y0, jO 1 [iI 0, iI 0, iI 0, iI 0, .ref o7, iI 0, iI 0, iI 0, iI 0, iI 0, iI 0, iI 0, .ref o15, iI 0, iI 0, iI 0, iI 0, iI 0, iI 0, .ref o24, .ref o33, .ref o42, .ref o50, .ref o58, lI 0, lI 0, .ref o66, .null, .null, .null, lI 0, iI 0, .null, lI 0, lI 0, lI 0, iI 0, lI 0, lI 0, lI 0])]]) G I FX2 (jAt_1 8 rfl) 26 (by decide) q1870 rfl rfl rfl rfl (Nat.le_of_ble_eq_true rfl) dX2_init_68 rfl ?_
  refine j_aload_n G 0 rfl dX2_init_71 ?_
  refine j_iconst G dX2_init_72 ?_
  refine j_newarr_l (k' := 9) (n' := 32652) 4 G q751 rfl (by (try unfold iR at *); omega) ⟨by omega, by omega, by omega, by omega⟩ dX2_init_73 (fun o73 => ?_)
  refine j_putF (ws' := [[(o73, cJ u 4 (fun _ => 0))], [(o66, cJ u 16 (fun _ => 0))], [(o58, cJ u 124 (fun _ => 0))], [(o50, cJ u 124 (fun _ => 0))], [(o42, cI u 16000 (fun _ => 0))], [(o33, cI u 16000 (fun _ => 0))], [(o24, cI u 300 (fun _ => 0))], [(o15, cI u 60 (fun _ => 0))], [(o7, cI u 24 (fun _ => 0))], [(y0, jO 1 [iI 0, iI 0, iI 0, iI 0, .ref o7, iI 0, iI 0, iI 0, iI 0, iI 0, iI 0, iI 0, .ref o15, iI 0, iI 0, iI 0, iI 0, iI 0, iI 0, .ref o24, .ref o33, .ref o42, .ref o50, .ref o58, lI 0, lI 0, .ref o66, .ref o73, .null, .null, lI 0, iI 0, .null, lI 0, lI 0, lI 0, iI 0, lI 0, lI 0, lI 0])]]) G I FX2 (jAt_1 9 rfl) 27 (by decide) q1871 rfl rfl rfl rfl (Nat.le_of_ble_eq_true rfl) dX2_init_75 rfl ?_
  refine j_aload_n G 0 rfl dX2_init_78 ?_
  refine j_iconst G dX2_init_79 ?_
  refine j_newarr_l (k' := 10) (n' := 32656) 4 G q751 rfl (by (try unfold iR at *); omega) ⟨by omega, by omega, by omega, by omega⟩ dX2_init_80 (fun o80 => ?_)
  refine j_putF (ws' := [[(o80, cJ u 4 (fun _ => 0))], [(o73, cJ u 4 (fun _ => 0))], [(o66, cJ u 16 (fun _ => 0))], [(o58, cJ u 124 (fun _ => 0))], [(o50, cJ u 124 (fun _ => 0))], [(o42, cI u 16000 (fun _ => 0))], [(o33, cI u 16000 (fun _ => 0))], [(o24, cI u 300 (fun _ => 0))], [(o15, cI u 60 (fun _ => 0))], [(o7, cI u 24 (fun _ => 0))], [(y0, jO 1 [iI 0, iI 0, iI 0, iI 0, .ref o7, iI 0, iI 0, iI 0, iI 0, iI 0, iI 0, iI 0, .ref o15, iI 0, iI 0, iI 0, iI 0, iI 0, iI 0, .ref o24, .ref o33, .ref o42, .ref o50, .ref o58, lI 0, lI 0, .ref o66, .ref o73, .ref o80, .null, lI 0, iI 0, .null, lI 0, lI 0, lI 0, iI 0, lI 0, lI 0, lI 0])]]) G I FX2 (jAt_1 10 rfl) 28 (by decide) q1872 rfl rfl rfl rfl (Nat.le_of_ble_eq_true rfl) dX2_init_82 rfl ?_
  refine j_aload_n G 0 rfl dX2_init_85 ?_
  refine j_iconst G dX2_init_86 ?_
  refine j_newarr_l (k' := 11) (n' := 32660) 4 G q751 rfl (by (try unfold iR at *); omega) ⟨by omega, by omega, by omega, by omega⟩ dX2_init_87 (fun o87 => ?_)
  refine j_putF (ws' := [[(o87, cJ u 4 (fun _ => 0))], [(o80, cJ u 4 (fun _ => 0))], [(o73, cJ u 4 (fun _ => 0))], [(o66, cJ u 16 (fun _ => 0))], [(o58, cJ u 124 (fun _ => 0))], [(o50, cJ u 124 (fun _ => 0))], [(o42, cI u 16000 (fun _ => 0))], [(o33, cI u 16000 (fun _ => 0))], [(o24, cI u 300 (fun _ => 0))], [(o15, cI u 60 (fun _ => 0))], [(o7, cI u 24 (fun _ => 0))], [(y0, jO 1 [iI 0, iI 0, iI 0, iI 0, .ref o7, iI 0, iI 0, iI 0, iI 0, iI 0, iI 0, iI 0, .ref o15, iI 0, iI 0, iI 0, iI 0, iI 0, iI 0, .ref o24, .ref o33, .ref o42, .ref o50, .ref o58, lI 0, lI 0, .ref o66, .ref o73, .ref o80, .ref o87, lI 0, iI 0, .null, lI 0, lI 0, lI 0, iI 0, lI 0, lI 0, lI 0])]]) G I FX2 (jAt_1 11 rfl) 29 (by decide) q1873 rfl rfl rfl rfl (Nat.le_of_ble_eq_true rfl) dX2_init_89 rfl ?_
  refine j_aload_n G 0 rfl dX2_init_92 ?_
  refine j_iconst G dX2_init_93 ?_
  refine j_newarr_l (k' := 12) (n' := 32664) 4 G q751 rfl (by (try unfold iR at *); omega) ⟨by omega, by omega, by omega, by omega⟩ dX2_init_94 (fun o94 => ?_)
  refine j_putF (ws' := [[(o94, cJ u 4 (fun _ => 0))], [(o87, cJ u 4 (fun _ => 0))], [(o80, cJ u 4 (fun _ => 0))], [(o73, cJ u 4 (fun _ => 0))], [(o66, cJ u 16 (fun _ => 0))], [(o58, cJ u 124 (fun _ => 0))], [(o50, cJ u 124 (fun _ => 0))], [(o42, cI u 16000 (fun _ => 0))], [(o33, cI u 16000 (fun _ => 0))], [(o24, cI u 300 (fun _ => 0))], [(o15, cI u 60 (fun _ => 0))], [(o7, cI u 24 (fun _ => 0))], [(y0, jO 1 [iI 0, iI 0, iI 0, iI 0, .ref o7, iI 0, iI 0, iI 0, iI 0, iI 0, iI 0, iI 0, .ref o15, iI 0, iI 0, iI 0, iI 0, iI 0, iI 0, .ref o24, .ref o33, .ref o42, .ref o50, .ref o58, lI 0, lI 0, .ref o66, .ref o73, .ref o80, .ref o87, lI 0, iI 0, .ref o94, lI 0, lI 0, lI 0, iI 0, lI 0, lI 0, lI 0])]]) G I FX2 (jAt_1 12 rfl) 32 (by decide) q1876 rfl rfl rfl rfl (Nat.le_of_ble_eq_true rfl) dX2_init_96 rfl ?_
  refine j_aload_n G 0 rfl dX2_init_99 ?_
  refine j_iconst G dX2_init_100 ?_
  refine j_callV (wr := [[(o94, cJ u 4 (fun _ => 0))], [(o87, cJ u 4 (fun _ => 0))], [(o80, cJ u 4 (fun _ => 0))], [(o73, cJ u 4 (fun _ => 0))], [(o66, cJ u 16 (fun _ => 0))], [(o58, cJ u 124 (fun _ => 0))], [(o50, cJ u 124 (fun _ => 0))], [(o42, cI u 16000 (fun _ => 0))], [(o33, cI u 16000 (fun _ => 0))], [(o24, cI u 300 (fun _ => 0))], [(o15, cI u 60 (fun _ => 0))]]) (k' := 12) (n' := 32664) G FX2 (c_X2_fresh l u y0 o7 o15 o24 o33 o42 o50 o58 o66 o73 o80 o87 o94 0 0 0 0 0 0 0 0 0 0 0 0 0 0 0 0 0 0 0 0 0 0 0 0 0 0 0 0 (fun _ => 0) 3 ) (jAt_1 12 rfl) ⟨rfl, hY_X2_fresh⟩ q1840 q1842 qs43 q90 q1843 (jcut 13 [12, 11, 0, 1, 2, 3, 4, 5, 6, 7, 8, 9, 10] (by decide) rfl rfl) ⟨by omega, by omega, by omega, by omega, by omega, by omega⟩ (Nat.le_of_ble_eq_true rfl) dX2_init_101 rfl (fun v_ w_ hp => ?_)
  obtain ⟨tb2_101, h101_1, rfl, rfl⟩ := hp
  show jJ X u 1 [[(y0, jO 1 [iI 0, iI 3, iI 7, iI 0, .ref o7, iI 0, iI 1, iI 0, iI 0, iI 0, iI 0, iI 0, .ref o15, iI 0, iI 0, iI 0, iI 0, iI 0, iI 0, .ref o24, .ref o33, .ref o42, .ref o50, .ref o58, lI 0, lI 0, .ref o66, .ref o73, .ref o80, .ref o87, lI 0, iI 0, .ref o94, lI 0, lI 0, lI 0, iI 0, lI 0, lI 0, lI 0])], [(o7, cI u 24 tb2_101)], [(o94, cJ u 4 (fun _ => 0))], [(o87, cJ u 4 (fun _ => 0))], [(o80, cJ u 4 (fun _ => 0))], [(o73, cJ u 4 (fun _ => 0))], [(o66, cJ u 16 (fun _ => 0))], [(o58, cJ u 124 (fun _ => 0))], [(o50, cJ u 124 (fun _ => 0))], [(o42, cI u 16000 (fun _ => 0))], [(o33, cI u 16000 (fun _ => 0))], [(o24, cI u 300 (fun _ => 0))], [(o15, cI u 60 (fun _ => 0))]] [(0, .ref y0)] 12 32664 104 []
  refine j_ws (ws' := [[(y0, jO 1 [iI 0, iI 3, iI 7, iI 0, .ref o7, iI 0, iI 1, iI 0, iI 0, iI 0, iI 0, iI 0, .ref o15, iI 0, iI 0, iI 0, iI 0, iI 0, iI 0, .ref o24, .ref o33, .ref o42, .ref o50, .ref o58, lI 0, lI 0, .ref o66, .ref o73, .ref o80, .ref o87, lI 0, iI 0, .ref o94, lI 0, lI 0, lI 0, iI 0, lI 0, lI 0, lI 0])], [(o7, cI u 24 tb2_101)], [(o15, cI u 60 (fun _ => 0))], [(o24, cI u 300 (fun _ => 0))], [(o33, cI u 16000 (fun _ => 0))], [(o42, cI u 16000 (fun _ => 0))], [(o50, cJ u 124 (fun _ => 0))], [(o58, cJ u 124 (fun _ => 0))], [(o66, cJ u 16 (fun _ => 0))], [(o73, cJ u 4 (fun _ => 0))], [(o80, cJ u 4 (fun _ => 0))], [(o87, cJ u 4 (fun _ => 0))], [(o94, cJ u 4 (fun _ => 0))]]) (jperm 13 [0, 1, 12, 11, 10, 9, 8, 7, 6, 5, 4, 3, 2] (by decide) rfl rfl) ?_
  exact j_vret G E ⟨o7, o15, o24, o33, o42, o50, o58, o66, o73, o80, o87, o94, tb2_101, h101_1, rfl, rfl⟩ ⟨by omega, by omega⟩ dX2_init_104
