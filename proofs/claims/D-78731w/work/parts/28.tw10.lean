theorem hY_X2_reached : jY yX2_reached 1 := ⟨by decide +kernel, by decide +kernel, by decide +kernel⟩
set_option maxHeartbeats 4000000 in
set_option maxRecDepth 100000 in
theorem c_X2_reached (l : Launch) (u : jU) (y0 aT aX aR aM aG aN aQ aO aS aH aU aW : Nat) (th n gr pw po pr ix sd gn tk ln zs zl za zf ze zi zc bp ls wn sc al nr dr ba bb hh : Int) (ro : Int → Int) (M : Int → Int → Int) (b : Int) (hn : 2 ≤ n ∧ n ≤ 4) (hM : ∀ a b : Int, 0 ≤ a → a < n → 0 ≤ b → b < 4 → ro (4 * a + b) = M a b) (hMR : ∀ a b : Int, 0 ≤ a → a < n → 0 ≤ M a b ∧ M a b ≤ 10000) (hb : 0 ≤ b ∧ b < n) : jC l u yX2_reached cX2_reached 7 (some .int) 0 0 0 0 [.ref y0, iI b] [[(y0, jO 1 [iI th, iI n, iI gr, iI pw, .ref aT, iI po, iI pr, iI ix, iI sd, iI gn, iI tk, iI ln, .ref aX, iI zs, iI zl, iI za, iI zf, iI ze, iI zi, .ref aR, .ref aM, .ref aG, .ref aN, .ref aQ, lI ls, lI wn, .ref aO, .ref aS, .ref aH, .ref aU, lI sc, iI zc, .ref aW, lI al, lI nr, lI dr, iI bp, lI ba, lI bb, lI hh])], [(aO, cJ u 16 ro)]] (fun v_ w_ => v_ = some (iI (rcH n M b)) ∧ w_ = [[(y0, jO 1 [iI th, iI n, iI gr, iI pw, .ref aT, iI po, iI pr, iI ix, iI sd, iI gn, iI tk, iI ln, .ref aX, iI zs, iI zl, iI za, iI zf, iI ze, iI zi, .ref aR, .ref aM, .ref aG, .ref aN, .ref aQ, lI ls, lI wn, .ref aO, .ref aS, .ref aH, .ref aU, lI sc, iI zc, .ref aW, lI al, lI nr, lI dr, iI bp, lI ba, lI bb, lI hh])], [(aO, cJ u 16 ro)]]) := by
  refine jC.of "FlashRatchetModel" (by decide +kernel) rfl (Nat.le_of_ble_eq_true rfl) [(0, .ref y0), (1, iI b)] rfl (fun X G E I => ?_)
  refine j_iconst G dX2_reached_0 ?_
  refine j_iload_n G 1 rfl dX2_reached_1 ?_
  refine j_ishl G dX2_reached_2 ?_
  refine j_istore_n G [(2, iI (jShl 1 b)), (0, .ref y0), (1, iI b)] rfl (by decide) dX2_reached_3 ?_
  refine j_iconst G dX2_reached_4 ?_
  refine j_istore_n G [(3, iI 0), (2, iI (jShl 1 b)), (0, .ref y0), (1, iI b)] rfl (by decide) dX2_reached_5 ?_
  have L6 : ∀ (m : Nat) (j : Nat) (k : Int) (s : Int), 64 - j < m → k = j → s = rcF n M b j → j ≤ 64 → jJ X u 7 [[(y0, jO 1 [iI th, iI n, iI gr, iI pw, .ref aT, iI po, iI pr, iI ix, iI sd, iI gn, iI tk, iI ln, .ref aX, iI zs, iI zl, iI za, iI zf, iI ze, iI zi, .ref aR, .ref aM, .ref aG, .ref aN, .ref aQ, lI ls, lI wn, .ref aO, .ref aS, .ref aH, .ref aU, lI sc, iI zc, .ref aW, lI al, lI nr, lI dr, iI bp, lI ba, lI bb, lI hh])], [(aO, cJ u 16 ro)]] [(0, .ref y0), (1, iI b), (2, iI s), (3, iI k)] 0 0 6 [] := by
    intro m
    induction m with
    | zero =>
      intro j k s g1 g2 g3 g4
      exfalso
      omega
    | succ m ih_L6 =>
      intro j k s g1 g2 g3 g4
      have hs4 : 0 ≤ s ∧ s < 16 := by rw [g3]; exact rcF_R j
      refine j_iload_n G 3 rfl dX2_reached_6 ?_
      refine j_bipush G (by decide) dX2_reached_7 ?_
      refine j_icmp_ge 98 G (by unfold iR at *; omega) (by unfold iR; omega) dX2_reached_9 (by decide) (fun c_9 => ?_) (fun c_9 => ?_)
      · skip
        have hj : j = 64 := by omega
        subst hj
        refine j_iload_n G 2 rfl dX2_reached_98 ?_
        exact j_iret G E ⟨(by rw [g3]; rfl), rfl⟩ ⟨by omega, by omega⟩ dX2_reached_99
      · skip
        refine j_iload_n G 3 rfl dX2_reached_12 ?_
        refine j_iconst G dX2_reached_13 ?_
        refine j_idivN G (by (try unfold iR at *); omega) (by (try unfold iR at *); omega) dX2_reached_14 ?_
        refine j_iconst G dX2_reached_15 ?_
        refine j_iremN G (by (try unfold iR at *); omega) (by (try unfold iR at *); omega) dX2_reached_16 ?_
        refine j_istore G [(4, iI ((k / 4) % 4)), (0, .ref y0), (1, iI b), (2, iI s), (3, iI k)] rfl (by decide) dX2_reached_17 ?_
        refine j_iload_n G 4 rfl dX2_reached_19 ?_
        refine j_iconst G dX2_reached_20 ?_
        refine j_iremN G (by (try unfold iR at *); omega) (by (try unfold iR at *); omega) dX2_reached_21 ?_
        refine j_istore G [(5, iI (k % 4)), (4, iI ((k / 4) % 4)), (0, .ref y0), (1, iI b), (2, iI s), (3, iI k)] rfl (by decide) dX2_reached_22 ?_
        have L76 : ∀ (z : Int), ((z = 1 ∧ (k / 4 % 4) < n ∧ (k % 4) < n ∧ sBit s (k / 4 % 4) = 1 ∧ 0 < M (k / 4 % 4) (k % 4)) ∨ (z = 0 ∧ ¬ ((k / 4 % 4) < n ∧ (k % 4) < n ∧ sBit s (k / 4 % 4) = 1 ∧ 0 < M (k / 4 % 4) (k % 4)))) → jJ X u 7 [[(y0, jO 1 [iI th, iI n, iI gr, iI pw, .ref aT, iI po, iI pr, iI ix, iI sd, iI gn, iI tk, iI ln, .ref aX, iI zs, iI zl, iI za, iI zf, iI ze, iI zi, .ref aR, .ref aM, .ref aG, .ref aN, .ref aQ, lI ls, lI wn, .ref aO, .ref aS, .ref aH, .ref aU, lI sc, iI zc, .ref aW, lI al, lI nr, lI dr, iI bp, lI ba, lI bb, lI hh])], [(aO, cJ u 16 ro)]] [(0, .ref y0), (1, iI b), (2, iI s), (3, iI k), (5, iI (k % 4)), (6, iI z)] 0 0 76 [] := by
          intro z g5
          refine j_iload_n G 2 rfl dX2_reached_76 ?_
          refine j_iload G 5 rfl dX2_reached_77 ?_
          refine j_if_eq 89 G (by unfold iR at *; omega) dX2_reached_79 (by decide) (fun c_79 => ?_) (fun c_79 => ?_)
          · skip
            refine j_iconst G dX2_reached_89 ?_
            refine j_ior G dX2_reached_90 ?_
            refine j_eq (st' := [iI (rcS n M k s)]) (by unfold rcS; first | (rw [if_pos (by omega), (sWith_eq hs4 (i := k % 4) (by omega)).1]) | (rw [if_neg (by omega), jOr_0 hs4])) ?_
            refine j_istore_n G [(2, iI (rcS n M k s)), (0, .ref y0), (1, iI b), (3, iI k), (5, iI (k % 4)), (6, iI z)] rfl (by decide) dX2_reached_91 ?_
            refine j_iinc G 3 rfl [(3, iI (k + 1)), (2, iI (rcS n M k s)), (0, .ref y0), (1, iI b), (5, iI (k % 4)), (6, iI z)] rfl (by decide) dX2_reached_92 ?_
            refine j_goto 6 G dX2_reached_95 (by decide) ?_
            refine j_lv [2, 3, 1, 0] rfl ?_
            exact ih_L6 (j + 1) (k + 1) (rcS n M k s) (by (try unfold iR at *); omega) (by (try unfold iR at *); omega) (by rw [g2, g3]; rfl) (by (try unfold iR at *); omega)
          · skip
            refine j_iconst G dX2_reached_82 ?_
            refine j_iload G 4 rfl dX2_reached_83 ?_
            refine j_ishl G dX2_reached_85 ?_
            refine j_goto 90 G dX2_reached_86 (by decide) ?_
            refine j_ior G dX2_reached_90 ?_
            refine j_eq (st' := [iI (rcS n M k s)]) (by unfold rcS; first | (rw [if_pos (by omega), (sWith_eq hs4 (i := k % 4) (by omega)).1]) | (rw [if_neg (by omega), jOr_0 hs4])) ?_
            refine j_istore_n G [(2, iI (rcS n M k s)), (0, .ref y0), (1, iI b), (3, iI k), (5, iI (k % 4)), (6, iI z)] rfl (by decide) dX2_reached_91 ?_
            refine j_iinc G 3 rfl [(3, iI (k + 1)), (2, iI (rcS n M k s)), (0, .ref y0), (1, iI b), (5, iI (k % 4)), (6, iI z)] rfl (by decide) dX2_reached_92 ?_
            refine j_goto 6 G dX2_reached_95 (by decide) ?_
            refine j_lv [2, 3, 1, 0] rfl ?_
            exact ih_L6 (j + 1) (k + 1) (rcS n M k s) (by (try unfold iR at *); omega) (by (try unfold iR at *); omega) (by rw [g2, g3]; rfl) (by (try unfold iR at *); omega)
        refine j_iload G 1 rfl dX2_reached_24 ?_
        refine j_aload_n G 2 rfl dX2_reached_26 ?_
        refine j_get G FX2 (jAt_1 0 rfl) 1 (by decide) q1845 rfl dX2_reached_27 ?_
        refine j_icmp_ge 73 G (by unfold iR at *; omega) (by unfold iR at *; omega) dX2_reached_30 (by decide) (fun c_30 => ?_) (fun c_30 => ?_)
        · skip
          refine j_iconst G dX2_reached_73 ?_
          refine j_istore G [(6, iI 0), (5, iI (k % 4)), (4, iI ((k / 4) % 4)), (0, .ref y0), (1, iI b), (2, iI s), (3, iI k)] rfl (by decide) dX2_reached_74 ?_
          refine j_lv [3, 4, 5, 6, 1, 0] rfl ?_
          exact L76 0 (by (try unfold iR at *); omega)
        · skip
          refine j_iload G 0 rfl dX2_reached_33 ?_
          refine j_aload_n G 2 rfl dX2_reached_35 ?_
          refine j_get G FX2 (jAt_1 0 rfl) 1 (by decide) q1845 rfl dX2_reached_36 ?_
          refine j_icmp_ge 73 G (by unfold iR at *; omega) (by unfold iR at *; omega) dX2_reached_39 (by decide) (fun c_39 => ?_) (fun c_39 => ?_)
          · skip
            refine j_iconst G dX2_reached_73 ?_
            refine j_istore G [(6, iI 0), (5, iI (k % 4)), (4, iI ((k / 4) % 4)), (0, .ref y0), (1, iI b), (2, iI s), (3, iI k)] rfl (by decide) dX2_reached_74 ?_
            refine j_lv [3, 4, 5, 6, 1, 0] rfl ?_
            exact L76 0 (by (try unfold iR at *); omega)
          · skip
            refine j_iload_n G 4 rfl dX2_reached_42 ?_
            refine j_iload G 1 rfl dX2_reached_43 ?_
            refine j_ishr G dX2_reached_45 ?_
            refine j_iconst G dX2_reached_46 ?_
            refine j_iand G dX2_reached_47 ?_
            have hb2 := sBit_01 s (k / 4 % 4)
            refine j_eq (st' := [iI (sBit s (k / 4 % 4))]) (by rw [sBit_eq hs4 (by omega)]) ?_
            refine j_iconst G dX2_reached_48 ?_
            refine j_icmp_ne 73 G (by unfold iR at *; omega) (by unfold iR; omega) dX2_reached_49 (by decide) (fun c_49 => ?_) (fun c_49 => ?_)
            · skip
              refine j_iconst G dX2_reached_73 ?_
              refine j_istore G [(6, iI 0), (5, iI (k % 4)), (4, iI ((k / 4) % 4)), (0, .ref y0), (1, iI b), (2, iI s), (3, iI k)] rfl (by decide) dX2_reached_74 ?_
              refine j_lv [3, 4, 5, 6, 1, 0] rfl ?_
              exact L76 0 (by (try unfold iR at *); omega)
            · skip
              have hro := hM (k / 4 % 4) (k % 4) (by omega) (by omega) (by omega) (by omega)
              have hrr := hMR (k / 4 % 4) (k % 4) (by omega) (by omega)
              refine j_aload_n G 2 rfl dX2_reached_52 ?_
              refine j_get G FX2 (jAt_1 0 rfl) 26 (by decide) q1870 rfl dX2_reached_53 ?_
              refine j_iconst G dX2_reached_56 ?_
              refine j_iload G 1 rfl dX2_reached_57 ?_
              refine j_imul G dX2_reached_59 ?_
              refine j_iload G 0 rfl dX2_reached_60 ?_
              refine j_iadd G dX2_reached_62 ?_
              refine j_laload G (jAt_1 1 rfl) (by (try unfold iR at *); omega) (by (try unfold iR at *); omega) (by (try unfold iR at *); omega) dX2_reached_63 ?_
              refine j_lconst 0 G rfl dX2_reached_64 ?_
              refine j_lcmp G (by unfold lR at *; omega) (by unfold lR; omega) dX2_reached_65 ?_
              have k_66 := jCmp_c (ro ((4 * ((k / 4) % 4)) + (k % 4))) 0
              refine j_if_le 73 G (by unfold iR at *; omega) dX2_reached_66 (by decide) (fun c_66 => ?_) (fun c_66 => ?_)
              · skip
                refine j_iconst G dX2_reached_73 ?_
                refine j_istore G [(6, iI 0), (5, iI (k % 4)), (4, iI ((k / 4) % 4)), (0, .ref y0), (1, iI b), (2, iI s), (3, iI k)] rfl (by decide) dX2_reached_74 ?_
                refine j_lv [3, 4, 5, 6, 1, 0] rfl ?_
                exact L76 0 (by (try unfold iR at *); omega)
              · skip
                refine j_iconst G dX2_reached_69 ?_
                refine j_goto 74 G dX2_reached_70 (by decide) ?_
                refine j_istore G [(6, iI 1), (5, iI (k % 4)), (4, iI ((k / 4) % 4)), (0, .ref y0), (1, iI b), (2, iI s), (3, iI k)] rfl (by decide) dX2_reached_74 ?_
                refine j_lv [3, 4, 5, 6, 1, 0] rfl ?_
                exact L76 1 (by (try unfold iR at *); omega)
  refine j_lv [2, 3, 1, 0] rfl ?_
  exact L6 65 0 0 (jShl 1 b) (by (try unfold iR at *); omega) rfl (p2_eq (by omega)) (by (try unfold iR at *); omega)
theorem hY_X2_layClasses : jY yX2_layClasses 0 := ⟨by decide +kernel, by decide +kernel, by decide +kernel⟩
set_option maxHeartbeats 4000000 in
set_option maxRecDepth 100000 in
theorem c_X2_layClasses (l : Launch) (u : jU) (y0 aT aX aR aM aG aN aQ aO aS aH aU aW : Nat) (th n gr pw po pr ix sd gn tk ln zs zl za zf ze zi zc bp ls wn sc al nr dr ba bb hh : Int) (ro : Int → Int) (M : Int → Int → Int) (hn : 2 ≤ n ∧ n ≤ 4) (hM : ∀ a b : Int, 0 ≤ a → a < n → 0 ≤ b → b < 4 → ro (4 * a + b) = M a b) (hMR : ∀ a b : Int, 0 ≤ a → a < n → 0 ≤ M a b ∧ M a b ≤ 10000) : jC l u yX2_layClasses cX2_layClasses 5 none 1 26 0 0 [.ref y0] [[(y0, jO 1 [iI th, iI n, iI gr, iI pw, .ref aT, iI po, iI pr, iI ix, iI sd, iI gn, iI tk, iI ln, .ref aX, iI zs, iI zl, iI za, iI zf, iI ze, iI zi, .ref aR, .ref aM, .ref aG, .ref aN, .ref aQ, lI ls, lI wn, .ref aO, .ref aS, .ref aH, .ref aU, lI sc, iI zc, .ref aW, lI al, lI nr, lI dr, iI bp, lI ba, lI bb, lI hh])], [(aO, cJ u 16 ro)]] (fun v_ w_ => v_ = none ∧ w_ = [[(y0, jO 1 [iI th, iI n, iI gr, iI pw, .ref aT, iI po, iI pr, iI ix, iI sd, iI gn, iI tk, iI ln, .ref aX, iI zs, iI zl, iI za, iI zf, iI ze, iI zi, .ref aR, .ref aM, .ref aG, .ref aN, .ref aQ, lI ls, lI wn, .ref aO, .ref aS, .ref aH, .ref aU, lI sc, iI (clN n M), .ref aW, lI al, lI nr, lI dr, iI bp, lI ba, lI bb, lI hh])], [(aO, cJ u 16 ro)]]) := by
  refine jC.of "FlashRatchetModel" (by decide +kernel) rfl (Nat.le_of_ble_eq_true rfl) [(0, .ref y0)] rfl (fun X G E I => ?_)
  refine j_aload_n G 0 rfl dX2_layClasses_0 ?_
  refine j_iconst G dX2_layClasses_1 ?_
  refine j_put (ws' := [[(y0, jO 1 [iI th, iI n, iI gr, iI pw, .ref aT, iI po, iI pr, iI ix, iI sd, iI gn, iI tk, iI ln, .ref aX, iI zs, iI zl, iI za, iI zf, iI ze, iI zi, .ref aR, .ref aM, .ref aG, .ref aN, .ref aQ, lI ls, lI wn, .ref aO, .ref aS, .ref aH, .ref aU, lI sc, iI 0, .ref aW, lI al, lI nr, lI dr, iI bp, lI ba, lI bb, lI hh])], [(aO, cJ u 16 ro)]]) G FX2 (jAt_1 0 rfl) 31 (by decide) q1875 rfl rfl rfl (Nat.le_of_ble_eq_true rfl) dX2_layClasses_2 rfl ?_
  refine j_iconst G dX2_layClasses_5 ?_
  refine j_istore_n G [(1, iI 0), (0, .ref y0)] rfl (by decide) dX2_layClasses_6 ?_
  have L7 : ∀ (m : Nat) (j : Nat) (p : Int) (c : Int), 4 - j < m → p = j → c = clF n (rcH n M) j → (j : Int) ≤ n → jJ X u 5 [[(y0, jO 1 [iI th, iI n, iI gr, iI pw, .ref aT, iI po, iI pr, iI ix, iI sd, iI gn, iI tk, iI ln, .ref aX, iI zs, iI zl, iI za, iI zf, iI ze, iI zi, .ref aR, .ref aM, .ref aG, .ref aN, .ref aQ, lI ls, lI wn, .ref aO, .ref aS, .ref aH, .ref aU, lI sc, iI c, .ref aW, lI al, lI nr, lI dr, iI bp, lI ba, lI bb, lI hh])], [(aO, cJ u 16 ro)]] [(0, .ref y0), (1, iI p)] 0 0 7 [] := by
    intro m
    induction m with
    | zero =>
      intro j p c g1 g2 g3 g4
      exfalso
      omega
    | succ m ih_L7 =>
      intro j p c g1 g2 g3 g4
      have hcR := clF_R (n := n) (R := (rcH n M)) j
      refine j_iload_n G 1 rfl dX2_layClasses_7 ?_
      refine j_aload_n G 0 rfl dX2_layClasses_8 ?_
      refine j_get G FX2 (jAt_1 0 rfl) 1 (by decide) q1845 rfl dX2_layClasses_9 ?_
      refine j_icmp_ge 104 G (by unfold iR at *; omega) (by unfold iR at *; omega) dX2_layClasses_12 (by decide) (fun c_12 => ?_) (fun c_12 => ?_)
      · skip
        have hj : j = n.toNat := by omega
        subst hj
        exact j_vret G E ⟨rfl, (by rw [g3]; rfl)⟩ ⟨by omega, by omega⟩ dX2_layClasses_104
      · skip
        refine j_aload_n G 0 rfl dX2_layClasses_15 ?_
        refine j_iload_n G 1 rfl dX2_layClasses_16 ?_
        refine j_callV (wr := []) (k' := 0) (n' := 0) G FX2 (c_X2_reached l u y0 aT aX aR aM aG aN aQ aO aS aH aU aW th n gr pw po pr ix sd gn tk ln zs zl za zf ze zi c bp ls wn sc al nr dr ba bb hh ro M p hn hM hMR (by (try unfold iR at *); omega)) (jAt_1 0 rfl) ⟨rfl, hY_X2_reached⟩ q2165 q2167 qs72 q90 q2168 (jcut 2 [0, 1] (by decide) rfl rfl) ⟨by omega, by omega, by omega, by omega, by omega, by omega⟩ (Nat.le_of_ble_eq_true rfl) dX2_layClasses_17 rfl (fun v_ w_ hp => ?_)
        obtain ⟨rfl, rfl⟩ := hp
        show jJ X u 5 [[(y0, jO 1 [iI th, iI n, iI gr, iI pw, .ref aT, iI po, iI pr, iI ix, iI sd, iI gn, iI tk, iI ln, .ref aX, iI zs, iI zl, iI za, iI zf, iI ze, iI zi, .ref aR, .ref aM, .ref aG, .ref aN, .ref aQ, lI ls, lI wn, .ref aO, .ref aS, .ref aH, .ref aU, lI sc, iI c, .ref aW, lI al, lI nr, lI dr, iI bp, lI ba, lI bb, lI hh])], [(aO, cJ u 16 ro)]] [(0, .ref y0), (1, iI p)] 0 0 20 [iI (rcH n M p)]
        have hs4 : 0 ≤ rcH n M p ∧ rcH n M p < 16 := rcF_R 64
        refine j_istore_n G [(2, iI (rcH n M p)), (0, .ref y0), (1, iI p)] rfl (by decide) dX2_layClasses_20 ?_
        refine j_iconst G dX2_layClasses_21 ?_
        refine j_istore_n G [(3, iI 1), (2, iI (rcH n M p)), (0, .ref y0), (1, iI p)] rfl (by decide) dX2_layClasses_22 ?_
        refine j_iconst G dX2_layClasses_23 ?_
        refine j_istore G [(4, iI 0), (3, iI 1), (2, iI (rcH n M p)), (0, .ref y0), (1, iI p)] rfl (by decide) dX2_layClasses_24 ?_
        have L26 : ∀ (m : Nat) (i : Nat) (q : Int) (b : Int), 4 - i < m → q = i → b = clB (rcH n M) p i → (i : Int) ≤ n → (b = 0 ∨ b = 1) → jJ X u 5 [[(y0, jO 1 [iI th, iI n, iI gr, iI pw, .ref aT, iI po, iI pr, iI ix, iI sd, iI gn, iI tk, iI ln, .ref aX, iI zs, iI zl, iI za, iI zf, iI ze, iI zi, .ref aR, .ref aM, .ref aG, .ref aN, .ref aQ, lI ls, lI wn, .ref aO, .ref aS, .ref aH, .ref aU, lI sc, iI c, .ref aW, lI al, lI nr, lI dr, iI bp, lI ba, lI bb, lI hh])], [(aO, cJ u 16 ro)]] [(0, .ref y0), (1, iI p), (2, iI (rcH n M p)), (3, iI b), (4, iI q)] 0 0 26 [] := by
          intro m
          induction m with
          | zero =>
            intro i q b g5 g6 g7 g8 g9
            exfalso
            omega
          | succ m ih_L26 =>
            intro i q b g5 g6 g7 g8 g9
            refine j_iload G 4 rfl dX2_layClasses_26 ?_
            refine j_aload_n G 0 rfl dX2_layClasses_28 ?_
            refine j_get G FX2 (jAt_1 0 rfl) 1 (by decide) q1845 rfl dX2_layClasses_29 ?_
            refine j_icmp_ge 70 G (by unfold iR at *; omega) (by unfold iR at *; omega) dX2_layClasses_32 (by decide) (fun c_32 => ?_) (fun c_32 => ?_)
            · skip
              have hi : i = n.toNat := by omega
              refine j_aload_n G 0 rfl dX2_layClasses_70 ?_
              refine j_dup G rfl dX2_layClasses_71 ?_
              refine j_get G FX2 (jAt_1 0 rfl) 31 (by decide) q1875 rfl dX2_layClasses_72 ?_
              refine j_iload_n G 3 rfl dX2_layClasses_75 ?_
              refine j_if_eq 93 G (by unfold iR at *; omega) dX2_layClasses_76 (by decide) (fun c_76 => ?_) (fun c_76 => ?_)
              · skip
                refine j_iconst G dX2_layClasses_93 ?_
                refine j_iadd G dX2_layClasses_94 ?_
                refine j_put (ws' := [[(y0, jO 1 [iI th, iI n, iI gr, iI pw, .ref aT, iI po, iI pr, iI ix, iI sd, iI gn, iI tk, iI ln, .ref aX, iI zs, iI zl, iI za, iI zf, iI ze, iI zi, .ref aR, .ref aM, .ref aG, .ref aN, .ref aQ, lI ls, lI wn, .ref aO, .ref aS, .ref aH, .ref aU, lI sc, iI (c + 0), .ref aW, lI al, lI nr, lI dr, iI bp, lI ba, lI bb, lI hh])], [(aO, cJ u 16 ro)]]) G FX2 (jAt_1 0 rfl) 31 (by decide) q1875 rfl rfl rfl (Nat.le_of_ble_eq_true rfl) dX2_layClasses_95 rfl ?_
                refine j_iinc G 1 rfl [(1, iI (p + 1)), (0, .ref y0), (2, iI (rcH n M p)), (3, iI b), (4, iI q)] rfl (by decide) dX2_layClasses_98 ?_
                refine j_goto 7 G dX2_layClasses_101 (by decide) ?_
                refine j_lv [1, 0] rfl ?_
                exact ih_L7 (j + 1) (p + 1) (c + 0) (by (try unfold iR at *); omega) (by (try unfold iR at *); omega) (by
                  have e7 : b = clB (rcH n M) (j : Int) n.toNat := by rw [g7, hi, g2]
                  unfold clF
                  rw [← e7, ← g2, g3]
                  split <;> omega) (by (try unfold iR at *); omega)
              · skip
                refine j_iload_n G 2 rfl dX2_layClasses_79 ?_
                refine j_iconst G dX2_layClasses_80 ?_
                refine j_iload_n G 1 rfl dX2_layClasses_81 ?_
                refine j_ishl G dX2_layClasses_82 ?_
                refine j_iconst G dX2_layClasses_83 ?_
                refine j_isub G dX2_layClasses_84 ?_
                refine j_iand G dX2_layClasses_85 ?_
                have hp2 := p2_R p
                have hpm := Int.emod_nonneg (rcH n M p) (b := p2 p) (by omega)
                have hpl := Int.emod_lt_of_pos (rcH n M p) (b := p2 p) (by omega)
                refine j_eq (st' := [iI (rcH n M p % p2 p), iI c, .ref y0]) (by rw [low_eq hs4 (by omega)]) ?_
                refine j_if_ne 93 G (by unfold iR at *; omega) dX2_layClasses_86 (by decide) (fun c_86 => ?_) (fun c_86 => ?_)
                · skip
                  refine j_iconst G dX2_layClasses_93 ?_
                  refine j_iadd G dX2_layClasses_94 ?_
                  refine j_put (ws' := [[(y0, jO 1 [iI th, iI n, iI gr, iI pw, .ref aT, iI po, iI pr, iI ix, iI sd, iI gn, iI tk, iI ln, .ref aX, iI zs, iI zl, iI za, iI zf, iI ze, iI zi, .ref aR, .ref aM, .ref aG, .ref aN, .ref aQ, lI ls, lI wn, .ref aO, .ref aS, .ref aH, .ref aU, lI sc, iI (c + 0), .ref aW, lI al, lI nr, lI dr, iI bp, lI ba, lI bb, lI hh])], [(aO, cJ u 16 ro)]]) G FX2 (jAt_1 0 rfl) 31 (by decide) q1875 rfl rfl rfl (Nat.le_of_ble_eq_true rfl) dX2_layClasses_95 rfl ?_
                  refine j_iinc G 1 rfl [(1, iI (p + 1)), (0, .ref y0), (2, iI (rcH n M p)), (3, iI b), (4, iI q)] rfl (by decide) dX2_layClasses_98 ?_
                  refine j_goto 7 G dX2_layClasses_101 (by decide) ?_
                  refine j_lv [1, 0] rfl ?_
                  exact ih_L7 (j + 1) (p + 1) (c + 0) (by (try unfold iR at *); omega) (by (try unfold iR at *); omega) (by
                    have e7 : b = clB (rcH n M) (j : Int) n.toNat := by rw [g7, hi, g2]
                    unfold clF
                    rw [← e7, ← g2, g3]
                    split <;> omega) (by (try unfold iR at *); omega)
                · skip
                  refine j_iconst G dX2_layClasses_89 ?_
                  refine j_goto 94 G dX2_layClasses_90 (by decide) ?_
                  refine j_iadd G dX2_layClasses_94 ?_
                  refine j_put (ws' := [[(y0, jO 1 [iI th, iI n, iI gr, iI pw, .ref aT, iI po, iI pr, iI ix, iI sd, iI gn, iI tk, iI ln, .ref aX, iI zs, iI zl, iI za, iI zf, iI ze, iI zi, .ref aR, .ref aM, .ref aG, .ref aN, .ref aQ, lI ls, lI wn, .ref aO, .ref aS, .ref aH, .ref aU, lI sc, iI (c + 1), .ref aW, lI al, lI nr, lI dr, iI bp, lI ba, lI bb, lI hh])], [(aO, cJ u 16 ro)]]) G FX2 (jAt_1 0 rfl) 31 (by decide) q1875 rfl rfl rfl (Nat.le_of_ble_eq_true rfl) dX2_layClasses_95 rfl ?_
                  refine j_iinc G 1 rfl [(1, iI (p + 1)), (0, .ref y0), (2, iI (rcH n M p)), (3, iI b), (4, iI q)] rfl (by decide) dX2_layClasses_98 ?_
                  refine j_goto 7 G dX2_layClasses_101 (by decide) ?_
                  refine j_lv [1, 0] rfl ?_
                  exact ih_L7 (j + 1) (p + 1) (c + 1) (by (try unfold iR at *); omega) (by (try unfold iR at *); omega) (by
                    have e7 : b = clB (rcH n M) (j : Int) n.toNat := by rw [g7, hi, g2]
                    unfold clF
                    rw [← e7, ← g2, g3]
                    split <;> omega) (by (try unfold iR at *); omega)
            · skip
              refine j_iload_n G 3 rfl dX2_layClasses_35 ?_
              refine j_if_eq 62 G (by unfold iR at *; omega) dX2_layClasses_36 (by decide) (fun c_36 => ?_) (fun c_36 => ?_)
              · skip
                refine j_iconst G dX2_layClasses_62 ?_
                refine j_istore_n G [(3, iI 0), (0, .ref y0), (1, iI p), (2, iI (rcH n M p)), (4, iI q)] rfl (by decide) dX2_layClasses_63 ?_
                refine j_iinc G 4 rfl [(4, iI (q + 1)), (3, iI 0), (0, .ref y0), (1, iI p), (2, iI (rcH n M p))] rfl (by decide) dX2_layClasses_64 ?_
                refine j_goto 26 G dX2_layClasses_67 (by decide) ?_
                refine j_lv [2, 3, 4, 1, 0] rfl ?_
                exact ih_L26 (i + 1) (q + 1) 0 (by (try unfold iR at *); omega) (by (try unfold iR at *); omega) (by unfold clB; rw [← g6, ← g7]; first | rw [if_pos (by omega)] | rw [if_neg (by omega)]) (by (try unfold iR at *); omega) (by (try unfold iR at *); omega)
              · skip
                refine j_iload_n G 2 rfl dX2_layClasses_39 ?_
                refine j_iload G 4 rfl dX2_layClasses_40 ?_
                refine j_ishr G dX2_layClasses_42 ?_
                refine j_iconst G dX2_layClasses_43 ?_
                refine j_iand G dX2_layClasses_44 ?_
                have hb2 := sBit_01 (rcH n M p) q
                refine j_eq (st' := [iI (sBit (rcH n M p) q)]) (by rw [sBit_eq hs4 (by omega)]) ?_
                refine j_if_eq 58 G (by unfold iR at *; omega) dX2_layClasses_45 (by decide) (fun c_45 => ?_) (fun c_45 => ?_)
                · skip
                  refine j_iconst G dX2_layClasses_58 ?_
                  refine j_goto 63 G dX2_layClasses_59 (by decide) ?_
                  refine j_istore_n G [(3, iI 1), (0, .ref y0), (1, iI p), (2, iI (rcH n M p)), (4, iI q)] rfl (by decide) dX2_layClasses_63 ?_
                  refine j_iinc G 4 rfl [(4, iI (q + 1)), (3, iI 1), (0, .ref y0), (1, iI p), (2, iI (rcH n M p))] rfl (by decide) dX2_layClasses_64 ?_
                  refine j_goto 26 G dX2_layClasses_67 (by decide) ?_
                  refine j_lv [2, 3, 4, 1, 0] rfl ?_
                  exact ih_L26 (i + 1) (q + 1) 1 (by (try unfold iR at *); omega) (by (try unfold iR at *); omega) (by unfold clB; rw [← g6, ← g7]; first | rw [if_pos (by omega)] | rw [if_neg (by omega)]) (by (try unfold iR at *); omega) (by (try unfold iR at *); omega)
                · skip
                  refine j_aload_n G 0 rfl dX2_layClasses_48 ?_
                  refine j_iload G 4 rfl dX2_layClasses_49 ?_
                  have hs5 : 0 ≤ rcH n M q ∧ rcH n M q < 16 := rcF_R 64
                  refine j_callV (wr := []) (k' := 0) (n' := 0) G FX2 (c_X2_reached l u y0 aT aX aR aM aG aN aQ aO aS aH aU aW th n gr pw po pr ix sd gn tk ln zs zl za zf ze zi c bp ls wn sc al nr dr ba bb hh ro M q hn hM hMR (by (try unfold iR at *); omega)) (jAt_1 0 rfl) ⟨rfl, hY_X2_reached⟩ q2165 q2167 qs72 q90 q2168 (jcut 2 [0, 1] (by decide) rfl rfl) ⟨by omega, by omega, by omega, by omega, by omega, by omega⟩ (Nat.le_of_ble_eq_true rfl) dX2_layClasses_51 rfl (fun v_ w_ hp => ?_)
                  obtain ⟨rfl, rfl⟩ := hp
                  show jJ X u 5 [[(y0, jO 1 [iI th, iI n, iI gr, iI pw, .ref aT, iI po, iI pr, iI ix, iI sd, iI gn, iI tk, iI ln, .ref aX, iI zs, iI zl, iI za, iI zf, iI ze, iI zi, .ref aR, .ref aM, .ref aG, .ref aN, .ref aQ, lI ls, lI wn, .ref aO, .ref aS, .ref aH, .ref aU, lI sc, iI c, .ref aW, lI al, lI nr, lI dr, iI bp, lI ba, lI bb, lI hh])], [(aO, cJ u 16 ro)]] [(0, .ref y0), (1, iI p), (2, iI (rcH n M p)), (3, iI b), (4, iI q)] 0 0 54 [iI (rcH n M q)]
                  refine j_iload_n G 2 rfl dX2_layClasses_54 ?_
                  refine j_icmp_ne 62 G (by unfold iR at *; omega) (by unfold iR at *; omega) dX2_layClasses_55 (by decide) (fun c_55 => ?_) (fun c_55 => ?_)
                  · skip
                    refine j_iconst G dX2_layClasses_62 ?_
                    refine j_istore_n G [(3, iI 0), (0, .ref y0), (1, iI p), (2, iI (rcH n M p)), (4, iI q)] rfl (by decide) dX2_layClasses_63 ?_
                    refine j_iinc G 4 rfl [(4, iI (q + 1)), (3, iI 0), (0, .ref y0), (1, iI p), (2, iI (rcH n M p))] rfl (by decide) dX2_layClasses_64 ?_
                    refine j_goto 26 G dX2_layClasses_67 (by decide) ?_
                    refine j_lv [2, 3, 4, 1, 0] rfl ?_
                    exact ih_L26 (i + 1) (q + 1) 0 (by (try unfold iR at *); omega) (by (try unfold iR at *); omega) (by unfold clB; rw [← g6, ← g7]; first | rw [if_pos (by omega)] | rw [if_neg (by omega)]) (by (try unfold iR at *); omega) (by (try unfold iR at *); omega)
                  · skip
                    refine j_iconst G dX2_layClasses_58 ?_
                    refine j_goto 63 G dX2_layClasses_59 (by decide) ?_
                    refine j_istore_n G [(3, iI 1), (0, .ref y0), (1, iI p), (2, iI (rcH n M p)), (4, iI q)] rfl (by decide) dX2_layClasses_63 ?_
                    refine j_iinc G 4 rfl [(4, iI (q + 1)), (3, iI 1), (0, .ref y0), (1, iI p), (2, iI (rcH n M p))] rfl (by decide) dX2_layClasses_64 ?_
                    refine j_goto 26 G dX2_layClasses_67 (by decide) ?_
                    refine j_lv [2, 3, 4, 1, 0] rfl ?_
                    exact ih_L26 (i + 1) (q + 1) 1 (by (try unfold iR at *); omega) (by (try unfold iR at *); omega) (by unfold clB; rw [← g6, ← g7]; first | rw [if_pos (by omega)] | rw [if_neg (by omega)]) (by (try unfold iR at *); omega) (by (try unfold iR at *); omega)
        refine j_lv [3, 4, 2, 1, 0] rfl ?_
        exact L26 5 0 0 1 (by omega) rfl rfl (by omega) (by (try unfold iR at *); omega)
  refine j_lv [1, 0] rfl ?_
  exact L7 5 0 0 0 (by (try unfold iR at *); omega) rfl rfl (by omega)
theorem hY_X2_reduce : jY yX2_reduce 2 := ⟨by decide +kernel, by decide +kernel, by decide +kernel⟩
set_option maxHeartbeats 4000000 in
set_option maxRecDepth 100000 in
theorem c_X2_reduce (l : Launch) (u : jU) (y0 aT aX aR aM aG aN aQ aO aS aH aU aW : Nat) (th n gr pw po pr ix sd gn tk ln zs zl za zf ze zi zc bp ls wn sc al nr dr ba bb hh : Int) (a b : Int) (hRa : lR a ∧ lR (-a)) (hRb : lR b) (hb : 0 < b) : jC l u yX2_reduce cX2_reduce 7 none 1 29 0 0 [.ref y0, lI a, lI b] [[(y0, jO 1 [iI th, iI n, iI gr, iI pw, .ref aT, iI po, iI pr, iI ix, iI sd, iI gn, iI tk, iI ln, .ref aX, iI zs, iI zl, iI za, iI zf, iI ze, iI zi, .ref aR, .ref aM, .ref aG, .ref aN, .ref aQ, lI ls, lI wn, .ref aO, .ref aS, .ref aH, .ref aU, lI sc, iI zc, .ref aW, lI al, lI nr, lI dr, iI bp, lI ba, lI bb, lI hh])]] (fun v_ w_ => v_ = none ∧ w_ = [[(y0, jO 1 [iI th, iI n, iI gr, iI pw, .ref aT, iI po, iI pr, iI ix, iI sd, iI gn, iI tk, iI ln, .ref aX, iI zs, iI zl, iI za, iI zf, iI ze, iI zi, .ref aR, .ref aM, .ref aG, .ref aN, .ref aQ, lI ls, lI wn, .ref aO, .ref aS, .ref aH, .ref aU, lI sc, iI zc, .ref aW, lI al, lI ((fr a b).1), lI ((fr a b).2), iI bp, lI ba, lI bb, lI hh])]]) := by
  refine jC.of "FlashRatchetModel" (by decide +kernel) rfl (Nat.le_of_ble_eq_true rfl) [(0, .ref y0), (1, lI a), (3, lI b)] rfl (fun X G E I => ?_)
  refine j_lload_n G 1 rfl dX2_reduce_0 ?_
  refine j_lload_n G 2 rfl dX2_reduce_1 ?_
  refine j_callS (wr := [[(y0, jO 1 [iI th, iI n, iI gr, iI pw, .ref aT, iI po, iI pr, iI ix, iI sd, iI gn, iI tk, iI ln, .ref aX, iI zs, iI zl, iI za, iI zf, iI ze, iI zi, .ref aR, .ref aM, .ref aG, .ref aN, .ref aQ, lI ls, lI wn, .ref aO, .ref aS, .ref aH, .ref aU, lI sc, iI zc, .ref aW, lI al, lI nr, lI dr, iI bp, lI ba, lI bb, lI hh])]]) (k' := 0) (n' := 0) G (c_X2_common l u a b hRa hRb (by omega)) hY_X2_common q2177 q2178 q90 q2179 (jcut 1 [0] (by decide) rfl rfl) ⟨by omega, by omega, by omega, by omega, by omega, by omega⟩ (Nat.le_of_ble_eq_true rfl) dX2_reduce_2 rfl (fun v_ w_ hp => ?_)
  obtain ⟨rfl, rfl⟩ := hp
  show jJ X u 7 [[(y0, jO 1 [iI th, iI n, iI gr, iI pw, .ref aT, iI po, iI pr, iI ix, iI sd, iI gn, iI tk, iI ln, .ref aX, iI zs, iI zl, iI za, iI zf, iI ze, iI zi, .ref aR, .ref aM, .ref aG, .ref aN, .ref aQ, lI ls, lI wn, .ref aO, .ref aS, .ref aH, .ref aU, lI sc, iI zc, .ref aW, lI al, lI nr, lI dr, iI bp, lI ba, lI bb, lI hh])]] [(0, .ref y0), (1, lI a), (3, lI b)] 0 0 5 [lI (gcI a b)]
  have hg1 := gcI_pos (a := a) hb
  have hg2 := gcI_le (a := a) hb
  have hg3 : lR (gcI a b) := by unfold lR at *; omega
  refine j_lstore G [(5, lI (gcI a b)), (0, .ref y0), (1, lI a), (3, lI b)] rfl (by decide) dX2_reduce_5 ?_
  refine j_aload_n G 1 rfl dX2_reduce_7 ?_
  refine j_lload_n G 2 rfl dX2_reduce_8 ?_
  refine j_lload G 0 rfl dX2_reduce_9 ?_
  refine j_ldiv G hRa.1 hg3 (by (try unfold iR at *); omega) dX2_reduce_11 ?_
  refine j_put (ws' := [[(y0, jO 1 [iI th, iI n, iI gr, iI pw, .ref aT, iI po, iI pr, iI ix, iI sd, iI gn, iI tk, iI ln, .ref aX, iI zs, iI zl, iI za, iI zf, iI ze, iI zi, .ref aR, .ref aM, .ref aG, .ref aN, .ref aQ, lI ls, lI wn, .ref aO, .ref aS, .ref aH, .ref aU, lI sc, iI zc, .ref aW, lI al, lI (a.tdiv (gcI a b)), lI dr, iI bp, lI ba, lI bb, lI hh])]]) G FX2 (jAt_1 0 rfl) 34 (by decide) q1878 rfl rfl rfl (Nat.le_of_ble_eq_true rfl) dX2_reduce_12 rfl ?_
  refine j_aload_n G 1 rfl dX2_reduce_15 ?_
  refine j_lload_n G 3 rfl dX2_reduce_16 ?_
  refine j_lload G 0 rfl dX2_reduce_17 ?_
  refine j_ldiv G hRb hg3 (by (try unfold iR at *); omega) dX2_reduce_19 ?_
  refine j_put (ws' := [[(y0, jO 1 [iI th, iI n, iI gr, iI pw, .ref aT, iI po, iI pr, iI ix, iI sd, iI gn, iI tk, iI ln, .ref aX, iI zs, iI zl, iI za, iI zf, iI ze, iI zi, .ref aR, .ref aM, .ref aG, .ref aN, .ref aQ, lI ls, lI wn, .ref aO, .ref aS, .ref aH, .ref aU, lI sc, iI zc, .ref aW, lI al, lI (a.tdiv (gcI a b)), lI (b.tdiv (gcI a b)), iI bp, lI ba, lI bb, lI hh])]]) G FX2 (jAt_1 0 rfl) 35 (by decide) q1879 rfl rfl rfl (Nat.le_of_ble_eq_true rfl) dX2_reduce_20 rfl ?_
  exact j_vret G E ⟨rfl, rfl⟩ ⟨by omega, by omega⟩ dX2_reduce_23
