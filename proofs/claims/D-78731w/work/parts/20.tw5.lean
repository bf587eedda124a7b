theorem hY_X2_readText : jY yX2_readText 0 := ⟨by decide +kernel, by decide +kernel, by decide +kernel⟩
set_option maxHeartbeats 4000000 in
set_option maxRecDepth 100000 in
theorem c_X2_readText (l : Launch) (u : jU) (y0 aT aX aR aM aG aN aQ aO aS aH aU aW : Nat) (th n gr pw po pr ix sd gn tk ln zs zl za zf ze zi zc bp ls wn sc al nr dr ba bb hh : Int) (rd : Int → Int) (tx : Int → Int) (hn : 2 ≤ n ∧ n ≤ 4) (hln : 0 ≤ ln ∧ ln ≤ 60) (htx : ∀ k : Int, 0 ≤ k → k < ln → 33 ≤ tx k ∧ tx k ≤ 126) : jC l u yX2_readText cX2_readText 2 (some .int) 3 65 0 0 [.ref y0] [[(y0, jO 1 [iI th, iI n, iI gr, iI pw, .ref aT, iI po, iI pr, iI ix, iI sd, iI gn, iI tk, iI ln, .ref aX, iI zs, iI zl, iI za, iI zf, iI ze, iI zi, .ref aR, .ref aM, .ref aG, .ref aN, .ref aQ, lI ls, lI wn, .ref aO, .ref aS, .ref aH, .ref aU, lI sc, iI zc, .ref aW, lI al, lI nr, lI dr, iI bp, lI ba, lI bb, lI hh])], [(aX, cI u 60 tx)], [(aR, cI u 300 rd)]] (fun v_ w_ => (∃ (zs2 zl2 za2 zf2 ze2 zi2 : Int) (rd2 : Int → Int) (lq2 num2 : Int) (cur2 : List (Int × Int)) (done2 : List rI), rSt n tx ln.toNat = some (zs2, lq2, cur2, num2, done2) ∧ rTw rd2 zl2 za2 zf2 ze2 zi2 (zs2, lq2, cur2, num2, done2) ∧ v_ = some (iI ln) ∧ w_ = [[(y0, jO 1 [iI th, iI n, iI gr, iI pw, .ref aT, iI po, iI pr, iI ix, iI sd, iI gn, iI tk, iI ln, .ref aX, iI zs2, iI zl2, iI za2, iI zf2, iI ze2, iI zi2, .ref aR, .ref aM, .ref aG, .ref aN, .ref aQ, lI ls, lI wn, .ref aO, .ref aS, .ref aH, .ref aU, lI sc, iI zc, .ref aW, lI al, lI nr, lI dr, iI bp, lI ba, lI bb, lI hh])], [(aX, cI u 60 tx)], [(aR, cI u 300 rd2)]]) ∨ (∃ (zs2 zl2 za2 zf2 ze2 zi2 : Int) (rd2 : Int → Int) (K : Nat) (p : rS), rStop n tx ln.toNat K p ∧ (K : Int) < ln ∧ v_ = some (iI K) ∧ w_ = [[(y0, jO 1 [iI th, iI n, iI gr, iI pw, .ref aT, iI po, iI pr, iI ix, iI sd, iI gn, iI tk, iI ln, .ref aX, iI zs2, iI zl2, iI za2, iI zf2, iI ze2, iI zi2, .ref aR, .ref aM, .ref aG, .ref aN, .ref aQ, lI ls, lI wn, .ref aO, .ref aS, .ref aH, .ref aU, lI sc, iI zc, .ref aW, lI al, lI nr, lI dr, iI bp, lI ba, lI bb, lI hh])], [(aX, cI u 60 tx)], [(aR, cI u 300 rd2)]])) := by
  refine jC.of "FlashRatchetModel" (by decide +kernel) rfl (Nat.le_of_ble_eq_true rfl) [(0, .ref y0)] rfl (fun X G E I => ?_)
  refine j_aload_n G 0 rfl dX2_readText_0 ?_
  refine j_iconst G dX2_readText_1 ?_
  refine j_put (ws' := [[(y0, jO 1 [iI th, iI n, iI gr, iI pw, .ref aT, iI po, iI pr, iI ix, iI sd, iI gn, iI tk, iI ln, .ref aX, iI 0, iI zl, iI za, iI zf, iI ze, iI zi, .ref aR, .ref aM, .ref aG, .ref aN, .ref aQ, lI ls, lI wn, .ref aO, .ref aS, .ref aH, .ref aU, lI sc, iI zc, .ref aW, lI al, lI nr, lI dr, iI bp, lI ba, lI bb, lI hh])], [(aX, cI u 60 tx)], [(aR, cI u 300 rd)]]) G FX2 (jAt_1 0 rfl) 13 (by decide) q1857 rfl rfl rfl (Nat.le_of_ble_eq_true rfl) dX2_readText_2 rfl ?_
  refine j_aload_n G 0 rfl dX2_readText_5 ?_
  refine j_iconst G dX2_readText_6 ?_
  refine j_put (ws' := [[(y0, jO 1 [iI th, iI n, iI gr, iI pw, .ref aT, iI po, iI pr, iI ix, iI sd, iI gn, iI tk, iI ln, .ref aX, iI 0, iI zl, iI za, iI zf, iI ze, iI 0, .ref aR, .ref aM, .ref aG, .ref aN, .ref aQ, lI ls, lI wn, .ref aO, .ref aS, .ref aH, .ref aU, lI sc, iI zc, .ref aW, lI al, lI nr, lI dr, iI bp, lI ba, lI bb, lI hh])], [(aX, cI u 60 tx)], [(aR, cI u 300 rd)]]) G FX2 (jAt_1 0 rfl) 18 (by decide) q1862 rfl rfl rfl (Nat.le_of_ble_eq_true rfl) dX2_readText_7 rfl ?_
  refine j_iconst G dX2_readText_10 ?_
  refine j_istore_n G [(1, iI 0), (0, .ref y0)] rfl (by decide) dX2_readText_11 ?_
  have L12 : ∀ (m : Nat) (j : Nat) (zsb : Int) (zlb : Int) (zab : Int) (zfb : Int) (zeb : Int) (zib : Int) (lqb : Int) (numb : Int) (kk : Int) (curb : List (Int × Int)) (doneb : List rI) (rdb : Int → Int), 60 - j < m → kk = j → rSt n tx j = some (zsb, lqb, curb, numb, doneb) → rTw rdb zlb zab zfb zeb zib (zsb, lqb, curb, numb, doneb) → (j : Int) ≤ ln → jJ X u 2 [[(y0, jO 1 [iI th, iI n, iI gr, iI pw, .ref aT, iI po, iI pr, iI ix, iI sd, iI gn, iI tk, iI ln, .ref aX, iI zsb, iI zlb, iI zab, iI zfb, iI zeb, iI zib, .ref aR, .ref aM, .ref aG, .ref aN, .ref aQ, lI ls, lI wn, .ref aO, .ref aS, .ref aH, .ref aU, lI sc, iI zc, .ref aW, lI al, lI nr, lI dr, iI bp, lI ba, lI bb, lI hh])], [(aX, cI u 60 tx)], [(aR, cI u 300 rdb)]] [(0, .ref y0), (1, iI kk)] 0 0 12 [] := by
    intro m
    induction m with
    | zero =>
      intro j zsb zlb zab zfb zeb zib lqb numb kk curb doneb rdb g1 g2 g3 g4 g5
      exfalso
      omega
    | succ m ih_L12 =>
      intro j zsb zlb zab zfb zeb zib lqb numb kk curb doneb rdb g1 g2 g3 g4 g5
      have hI : rInv n kk (zsb, lqb, curb, numb, doneb) := by rw [g2]; exact rInv_st hn g3
      refine j_iload_n G 1 rfl dX2_readText_12 ?_
      refine j_aload_n G 0 rfl dX2_readText_13 ?_
      refine j_get G FX2 (jAt_1 0 rfl) 11 (by decide) q1855 rfl dX2_readText_14 ?_
      refine j_icmp_ge 39 G (by unfold iR at *; omega) (by unfold iR at *; omega) dX2_readText_17 (by decide) (fun c_17 => ?_) (fun c_17 => ?_)
      · skip
        have hj : ln.toNat = j := by omega
        refine j_iload_n G 1 rfl dX2_readText_39 ?_
        exact j_iret G E (Or.inl ⟨zsb, zlb, zab, zfb, zeb, zib, rdb, lqb, numb, curb, doneb, (by rw [hj]; exact g3), g4, (by first | (rw [g2]; done) | (rw [show kk = ln by omega])), rfl⟩) ⟨by omega, by omega⟩ dX2_readText_40
      · skip
        refine j_aload_n G 0 rfl dX2_readText_20 ?_
        refine j_aload_n G 0 rfl dX2_readText_21 ?_
        refine j_get G FX2 (jAt_1 0 rfl) 12 (by decide) q1856 rfl dX2_readText_22 ?_
        refine j_iload_n G 1 rfl dX2_readText_25 ?_
        refine j_iaload G (jAt_1 1 rfl) (by (try unfold iR at *); omega) (by (try unfold iR at *); omega) (by (try unfold iR at *); omega) dX2_readText_26 ?_
        refine j_callV (wr := [[(aX, cI u 60 tx)]]) (k' := 0) (n' := 0) G FX2 (c_X2_takes l u y0 aT aX aR aM aG aN aQ aO aS aH aU aW th n gr pw po pr ix sd gn tk ln zsb zlb zab zfb zeb zib zc bp ls wn sc al nr dr ba bb hh rdb kk lqb numb curb doneb (tx kk) (by have := htx kk (by omega) (by omega); unfold iR; omega) hn (by (try unfold iR at *); omega) hI g4) (jAt_1 0 rfl) ⟨rfl, hY_X2_takes⟩ q2056 q2058 qs51 q90 q2059 (jcut 3 [0, 2, 1] (by decide) rfl rfl) ⟨by omega, by omega, by omega, by omega, by omega, by omega⟩ (Nat.le_of_ble_eq_true rfl) dX2_readText_27 rfl (fun v_ w_ hp => ?_)
        rcases hp with ⟨zs2_27, zl2_27, za2_27, zf2_27, ze2_27, zi2_27, lq2_27, num2_27, cur2_27, done2_27, rd2_27, h27_1, h27_2, rfl, rfl⟩ | ⟨zs2_27, zl2_27, za2_27, zf2_27, ze2_27, zi2_27, h27_1, rfl, rfl⟩
        · skip
          show jJ X u 2 [[(y0, jO 1 [iI th, iI n, iI gr, iI pw, .ref aT, iI po, iI pr, iI ix, iI sd, iI gn, iI tk, iI ln, .ref aX, iI zs2_27, iI zl2_27, iI za2_27, iI zf2_27, iI ze2_27, iI zi2_27, .ref aR, .ref aM, .ref aG, .ref aN, .ref aQ, lI ls, lI wn, .ref aO, .ref aS, .ref aH, .ref aU, lI sc, iI zc, .ref aW, lI al, lI nr, lI dr, iI bp, lI ba, lI bb, lI hh])], [(aR, cI u 300 rd2_27)], [(aX, cI u 60 tx)]] [(0, .ref y0), (1, iI kk)] 0 0 30 [iI 1]
          refine j_if_eq 39 G (by unfold iR; omega) dX2_readText_30 (by decide) (fun c_30 => ?_) (fun c_30 => ?_)
          · exact absurd c_30 (by decide)
          · skip
            refine j_iinc G 1 rfl [(1, iI (kk + 1)), (0, .ref y0)] rfl (by decide) dX2_readText_33 ?_
            refine j_goto 12 G dX2_readText_36 (by decide) ?_
            refine j_lv [1, 0] rfl ?_
            refine j_ws (ws' := [[(y0, jO 1 [iI th, iI n, iI gr, iI pw, .ref aT, iI po, iI pr, iI ix, iI sd, iI gn, iI tk, iI ln, .ref aX, iI zs2_27, iI zl2_27, iI za2_27, iI zf2_27, iI ze2_27, iI zi2_27, .ref aR, .ref aM, .ref aG, .ref aN, .ref aQ, lI ls, lI wn, .ref aO, .ref aS, .ref aH, .ref aU, lI sc, iI zc, .ref aW, lI al, lI nr, lI dr, iI bp, lI ba, lI bb, lI hh])], [(aX, cI u 60 tx)], [(aR, cI u 300 rd2_27)]]) (jperm 3 [0, 2, 1] (by decide) rfl rfl) ?_
            exact ih_L12 (j + 1) zs2_27 zl2_27 za2_27 zf2_27 ze2_27 zi2_27 lq2_27 num2_27 (kk + 1) cur2_27 done2_27 rd2_27 (by (try unfold iR at *); omega) (by (try unfold iR at *); omega) (by show (rSt n tx j).bind _ = _; rw [g3, ← g2]; exact h27_1) h27_2 (by (try unfold iR at *); omega)
        · skip
          show jJ X u 2 [[(y0, jO 1 [iI th, iI n, iI gr, iI pw, .ref aT, iI po, iI pr, iI ix, iI sd, iI gn, iI tk, iI ln, .ref aX, iI zs2_27, iI zl2_27, iI za2_27, iI zf2_27, iI ze2_27, iI zi2_27, .ref aR, .ref aM, .ref aG, .ref aN, .ref aQ, lI ls, lI wn, .ref aO, .ref aS, .ref aH, .ref aU, lI sc, iI zc, .ref aW, lI al, lI nr, lI dr, iI bp, lI ba, lI bb, lI hh])], [(aR, cI u 300 rdb)], [(aX, cI u 60 tx)]] [(0, .ref y0), (1, iI kk)] 0 0 30 [iI 0]
          refine j_if_eq 39 G (by unfold iR; omega) dX2_readText_30 (by decide) (fun c_30 => ?_) (fun c_30 => ?_)
          · skip
            have hu : 0 ≤ ln := hln.1
            refine j_iload_n G 1 rfl dX2_readText_39 ?_
            refine j_ws (ws' := [[(y0, jO 1 [iI th, iI n, iI gr, iI pw, .ref aT, iI po, iI pr, iI ix, iI sd, iI gn, iI tk, iI ln, .ref aX, iI zs2_27, iI zl2_27, iI za2_27, iI zf2_27, iI ze2_27, iI zi2_27, .ref aR, .ref aM, .ref aG, .ref aN, .ref aQ, lI ls, lI wn, .ref aO, .ref aS, .ref aH, .ref aU, lI sc, iI zc, .ref aW, lI al, lI nr, lI dr, iI bp, lI ba, lI bb, lI hh])], [(aX, cI u 60 tx)], [(aR, cI u 300 rdb)]]) (jperm 3 [0, 2, 1] (by decide) rfl rfl) ?_
            exact j_iret G E (Or.inr ⟨zs2_27, zl2_27, za2_27, zf2_27, ze2_27, zi2_27, rdb, j, (zsb, lqb, curb, numb, doneb), ⟨g3, by omega, Or.inr (by rw [← g2]; exact h27_1)⟩, (by omega), (by first | (rw [g2]; done) | (rw [show kk = ln by omega])), rfl⟩) ⟨by omega, by omega⟩ dX2_readText_40
          · exact absurd c_30 (by decide)
  refine j_lv [1, 0] rfl ?_
  exact L12 61 0 0 zl za zf ze 0 0 0 0 ([]) ([]) rd (by (try unfold iR at *); omega) rfl rfl ⟨rfl, fun h => absurd rfl h, fun h => absurd h (by omega), fun h => absurd h (by omega), fun i it h => by cases h⟩ (by (try unfold iR at *); omega)
theorem hY_X2_firstError : jY yX2_firstError 0 := ⟨by decide +kernel, by decide +kernel, by decide +kernel⟩
set_option maxHeartbeats 4000000 in
set_option maxRecDepth 100000 in
theorem c_X2_firstError (l : Launch) (u : jU) (y0 aT aX aR aM aG aN aQ aO aS aH aU aW : Nat) (th n gr pw po pr ix sd gn tk ln zs zl za zf ze zi zc bp ls wn sc al nr dr ba bb hh : Int) (rd : Int → Int) (tx : Int → Int) (hn : 2 ≤ n ∧ n ≤ 4) (hln : 0 ≤ ln ∧ ln ≤ 60) (htx : ∀ k : Int, 0 ≤ k → k < ln → 33 ≤ tx k ∧ tx k ≤ 126) : jC l u yX2_firstError cX2_firstError 1 (some .int) 4 86 0 0 [.ref y0] [[(y0, jO 1 [iI th, iI n, iI gr, iI pw, .ref aT, iI po, iI pr, iI ix, iI sd, iI gn, iI tk, iI ln, .ref aX, iI zs, iI zl, iI za, iI zf, iI ze, iI zi, .ref aR, .ref aM, .ref aG, .ref aN, .ref aQ, lI ls, lI wn, .ref aO, .ref aS, .ref aH, .ref aU, lI sc, iI zc, .ref aW, lI al, lI nr, lI dr, iI bp, lI ba, lI bb, lI hh])], [(aX, cI u 60 tx)], [(aR, cI u 300 rd)]] (fun v_ w_ => ∃ (zs2 zl2 za2 zf2 ze2 zi2 : Int) (rd2 : Int → Int) (K : Nat) (p : rS), rStop n tx ln.toNat K p ∧ v_ = some (iI (K : Int)) ∧ w_ = [[(y0, jO 1 [iI 0, iI n, iI gr, iI pw, .ref aT, iI po, iI pr, iI ix, iI sd, iI gn, iI tk, iI ln, .ref aX, iI zs2, iI zl2, iI za2, iI zf2, iI ze2, iI zi2, .ref aR, .ref aM, .ref aG, .ref aN, .ref aQ, lI ls, lI wn, .ref aO, .ref aS, .ref aH, .ref aU, lI sc, iI zc, .ref aW, lI al, lI nr, lI dr, iI bp, lI ba, lI bb, lI hh])], [(aX, cI u 60 tx)], [(aR, cI u 300 rd2)]]) := by
  refine jC.of "FlashRatchetModel" (by decide +kernel) rfl (Nat.le_of_ble_eq_true rfl) [(0, .ref y0)] rfl (fun X G E I => ?_)
  refine j_aload_n G 0 rfl dX2_firstError_0 ?_
  refine j_iconst G dX2_firstError_1 ?_
  refine j_put (ws' := [[(y0, jO 1 [iI 0, iI n, iI gr, iI pw, .ref aT, iI po, iI pr, iI ix, iI sd, iI gn, iI tk, iI ln, .ref aX, iI zs, iI zl, iI za, iI zf, iI ze, iI zi, .ref aR, .ref aM, .ref aG, .ref aN, .ref aQ, lI ls, lI wn, .ref aO, .ref aS, .ref aH, .ref aU, lI sc, iI zc, .ref aW, lI al, lI nr, lI dr, iI bp, lI ba, lI bb, lI hh])], [(aX, cI u 60 tx)], [(aR, cI u 300 rd)]]) G FX2 (jAt_1 0 rfl) 0 (by decide) q1844 rfl rfl rfl (Nat.le_of_ble_eq_true rfl) dX2_firstError_2 rfl ?_
  refine j_aload_n G 0 rfl dX2_firstError_5 ?_
  refine j_callV (wr := []) (k' := 0) (n' := 0) G FX2 (c_X2_readText l u y0 aT aX aR aM aG aN aQ aO aS aH aU aW 0 n gr pw po pr ix sd gn tk ln zs zl za zf ze zi zc bp ls wn sc al nr dr ba bb hh rd tx hn hln htx) (jAt_1 0 rfl) ⟨rfl, hY_X2_readText⟩ q2052 q2054 qs50 q90 q2055 (jcut 3 [0, 1, 2] (by decide) rfl rfl) ⟨by omega, by omega, by omega, by omega, by omega, by omega⟩ (Nat.le_of_ble_eq_true rfl) dX2_firstError_6 rfl (fun v_ w_ hp => ?_)
  rcases hp with ⟨zs2_6, zl2_6, za2_6, zf2_6, ze2_6, zi2_6, rd2_6, lq2_6, num2_6, cur2_6, done2_6, h6_1, h6_2, rfl, rfl⟩ | ⟨zs2_6, zl2_6, za2_6, zf2_6, ze2_6, zi2_6, rd2_6, K_6, p_6, h6_1, h6_2, rfl, rfl⟩
  · skip
    show jJ X u 1 [[(y0, jO 1 [iI 0, iI n, iI gr, iI pw, .ref aT, iI po, iI pr, iI ix, iI sd, iI gn, iI tk, iI ln, .ref aX, iI zs2_6, iI zl2_6, iI za2_6, iI zf2_6, iI ze2_6, iI zi2_6, .ref aR, .ref aM, .ref aG, .ref aN, .ref aQ, lI ls, lI wn, .ref aO, .ref aS, .ref aH, .ref aU, lI sc, iI zc, .ref aW, lI al, lI nr, lI dr, iI bp, lI ba, lI bb, lI hh])], [(aX, cI u 60 tx)], [(aR, cI u 300 rd2_6)]] [(0, .ref y0)] 0 0 9 [iI ln]
    exact j_iret G E ⟨zs2_6, zl2_6, za2_6, zf2_6, ze2_6, zi2_6, rd2_6, ln.toNat, (zs2_6, lq2_6, cur2_6, num2_6, done2_6), ⟨h6_1, Nat.le_refl _, Or.inl rfl⟩, (by first | rfl | rw [show ((ln.toNat : Nat) : Int) = ln by omega]), rfl⟩ ⟨by omega, by omega⟩ dX2_firstError_9
  · skip
    show jJ X u 1 [[(y0, jO 1 [iI 0, iI n, iI gr, iI pw, .ref aT, iI po, iI pr, iI ix, iI sd, iI gn, iI tk, iI ln, .ref aX, iI zs2_6, iI zl2_6, iI za2_6, iI zf2_6, iI ze2_6, iI zi2_6, .ref aR, .ref aM, .ref aG, .ref aN, .ref aQ, lI ls, lI wn, .ref aO, .ref aS, .ref aH, .ref aU, lI sc, iI zc, .ref aW, lI al, lI nr, lI dr, iI bp, lI ba, lI bb, lI hh])], [(aX, cI u 60 tx)], [(aR, cI u 300 rd2_6)]] [(0, .ref y0)] 0 0 9 [iI K_6]
    exact j_iret G E ⟨zs2_6, zl2_6, za2_6, zf2_6, ze2_6, zi2_6, rd2_6, K_6, p_6, h6_1, (by first | rfl | rw [show ((ln.toNat : Nat) : Int) = ln by omega]), rfl⟩ ⟨by omega, by omega⟩ dX2_firstError_9
theorem hY_X2_load : jY yX2_load 0 := ⟨by decide +kernel, by decide +kernel, by decide +kernel⟩
set_option maxHeartbeats 4000000 in
set_option maxRecDepth 100000 in
theorem c_X2_load (l : Launch) (u : jU) (y0 aT aX aR aM aG aN aQ aO aS aH aU aW : Nat) (th n gr pw po pr ix sd gn tk ln zs zl za zf ze zi zc bp ls wn sc al nr dr ba bb hh : Int) (rd : Int → Int) (tx : Int → Int) (tb : Int → Int) (hn : 2 ≤ n ∧ n ≤ 4) (hln : 0 ≤ ln ∧ ln ≤ 60) (htx : ∀ k : Int, 0 ≤ k → k < ln → 33 ≤ tx k ∧ tx k ≤ 126) : jC l u yX2_load cX2_load 3 (some .int) 4 86 0 0 [.ref y0] [[(y0, jO 1 [iI th, iI n, iI gr, iI pw, .ref aT, iI po, iI pr, iI ix, iI sd, iI gn, iI tk, iI ln, .ref aX, iI zs, iI zl, iI za, iI zf, iI ze, iI zi, .ref aR, .ref aM, .ref aG, .ref aN, .ref aQ, lI ls, lI wn, .ref aO, .ref aS, .ref aH, .ref aU, lI sc, iI zc, .ref aW, lI al, lI nr, lI dr, iI bp, lI ba, lI bb, lI hh])], [(aX, cI u 60 tx)], [(aR, cI u 300 rd)], [(aT, cI u 24 tb)]] (fun v_ w_ => (∃ (zs2 zl2 za2 zf2 ze2 zi2 : Int) (rd2 : Int → Int) (pr2 ix2 : Int) (tb2 : Int → Int) (p : rS), rSt n tx ln.toNat = some p ∧ rEnd n p ∧ (pr2, ix2, tB tb2, tF tb2) = rApp (rDone p) (pr, ix, tB tb, tF tb) ∧ v_ = some (iI ((rDone p).length : Int)) ∧ w_ = [[(y0, jO 1 [iI 0, iI n, iI gr, iI pw, .ref aT, iI po, iI pr2, iI ix2, iI sd, iI gn, iI tk, iI 0, .ref aX, iI zs2, iI zl2, iI za2, iI zf2, iI ze2, iI zi2, .ref aR, .ref aM, .ref aG, .ref aN, .ref aQ, lI ls, lI wn, .ref aO, .ref aS, .ref aH, .ref aU, lI sc, iI zc, .ref aW, lI al, lI nr, lI dr, iI bp, lI ba, lI bb, lI hh])], [(aX, cI u 60 tx)], [(aR, cI u 300 rd2)], [(aT, cI u 24 tb2)]]) ∨ (∃ (zs2 zl2 za2 zf2 ze2 zi2 : Int) (rd2 : Int → Int), (∀ p, rSt n tx ln.toNat = some p → ¬ rEnd n p) ∧ v_ = some (iI 0) ∧ w_ = [[(y0, jO 1 [iI 1, iI n, iI gr, iI pw, .ref aT, iI po, iI pr, iI ix, iI sd, iI gn, iI tk, iI ln, .ref aX, iI zs2, iI zl2, iI za2, iI zf2, iI ze2, iI zi2, .ref aR, .ref aM, .ref aG, .ref aN, .ref aQ, lI ls, lI wn, .ref aO, .ref aS, .ref aH, .ref aU, lI sc, iI zc, .ref aW, lI al, lI nr, lI dr, iI bp, lI ba, lI bb, lI hh])], [(aX, cI u 60 tx)], [(aR, cI u 300 rd2)], [(aT, cI u 24 tb)]])) := by
  refine jC.of "FlashRatchetModel" (by decide +kernel) rfl (Nat.le_of_ble_eq_true rfl) [(0, .ref y0)] rfl (fun X G E I => ?_)
  refine j_aload_n G 0 rfl dX2_load_0 ?_
  refine j_aload_n G 0 rfl dX2_load_1 ?_
  refine j_callV (wr := [[(aT, cI u 24 tb)]]) (k' := 0) (n' := 0) G FX2 (c_X2_readText l u y0 aT aX aR aM aG aN aQ aO aS aH aU aW th n gr pw po pr ix sd gn tk ln zs zl za zf ze zi zc bp ls wn sc al nr dr ba bb hh rd tx hn hln htx) (jAt_1 0 rfl) ⟨rfl, hY_X2_readText⟩ q2052 q2054 qs50 q90 q2055 (jcut 4 [0, 1, 2, 3] (by decide) rfl rfl) ⟨by omega, by omega, by omega, by omega, by omega, by omega⟩ (Nat.le_of_ble_eq_true rfl) dX2_load_2 rfl (fun v_ w_ hp => ?_)
  rcases hp with ⟨zs2_2, zl2_2, za2_2, zf2_2, ze2_2, zi2_2, rd2_2, lq2_2, num2_2, cur2_2, done2_2, h2_1, h2_2, rfl, rfl⟩ | ⟨zs2_2, zl2_2, za2_2, zf2_2, ze2_2, zi2_2, rd2_2, K_2, p_2, h2_1, h2_2, rfl, rfl⟩
  · skip
    show jJ X u 3 [[(y0, jO 1 [iI th, iI n, iI gr, iI pw, .ref aT, iI po, iI pr, iI ix, iI sd, iI gn, iI tk, iI ln, .ref aX, iI zs2_2, iI zl2_2, iI za2_2, iI zf2_2, iI ze2_2, iI zi2_2, .ref aR, .ref aM, .ref aG, .ref aN, .ref aQ, lI ls, lI wn, .ref aO, .ref aS, .ref aH, .ref aU, lI sc, iI zc, .ref aW, lI al, lI nr, lI dr, iI bp, lI ba, lI bb, lI hh])], [(aX, cI u 60 tx)], [(aR, cI u 300 rd2_2)], [(aT, cI u 24 tb)]] [(0, .ref y0)] 0 0 5 [iI ln, .ref y0]
    have hI : rInv n ((ln.toNat : Nat) : Int) (zs2_2, lq2_2, cur2_2, num2_2, done2_2) := rInv_st hn h2_1
    have hR := tw_R hn (by omega) hI h2_2
    have hQ := tw_e (n := n) h2_2
    refine j_aload_n G 0 rfl dX2_load_5 ?_
    refine j_get G FX2 (jAt_1 0 rfl) 11 (by decide) q1855 rfl dX2_load_6 ?_
    refine j_icmp_ne 23 G (by unfold iR at *; omega) (by unfold iR at *; omega) dX2_load_9 (by decide) (fun c_9 => ?_) (fun c_9 => ?_)
    · skip
      exact absurd rfl c_9
    · skip
      refine j_aload_n G 0 rfl dX2_load_12 ?_
      refine j_callV (wr := [[(aX, cI u 60 tx)], [(aR, cI u 300 rd2_2)], [(aT, cI u 24 tb)]]) (k' := 0) (n' := 0) G FX2 (c_X2_canEnd l u y0 aT aX aR aM aG aN aQ aO aS aH aU aW th n gr pw po pr ix sd gn tk ln zs2_2 zl2_2 za2_2 zf2_2 ze2_2 zi2_2 zc bp ls wn sc al nr dr ba bb hh hn (by (try unfold iR at *); omega) (fun h => by have := hR.2.2.2.2.1 h; unfold iR; omega) (by omega)) (jAt_1 0 rfl) ⟨rfl, hY_X2_canEnd⟩ q2060 q2062 qs52 q90 q2063 (jcut 4 [0, 1, 2, 3] (by decide) rfl rfl) ⟨by omega, by omega, by omega, by omega, by omega, by omega⟩ (Nat.le_of_ble_eq_true rfl) dX2_load_13 rfl (fun v_ w_ hp => ?_)
      obtain ⟨r_13, h13_1, rfl, rfl⟩ := hp
      show jJ X u 3 [[(y0, jO 1 [iI th, iI n, iI gr, iI pw, .ref aT, iI po, iI pr, iI ix, iI sd, iI gn, iI tk, iI ln, .ref aX, iI zs2_2, iI zl2_2, iI za2_2, iI zf2_2, iI ze2_2, iI zi2_2, .ref aR, .ref aM, .ref aG, .ref aN, .ref aQ, lI ls, lI wn, .ref aO, .ref aS, .ref aH, .ref aU, lI sc, iI zc, .ref aW, lI al, lI nr, lI dr, iI bp, lI ba, lI bb, lI hh])], [(aX, cI u 60 tx)], [(aR, cI u 300 rd2_2)], [(aT, cI u 24 tb)]] [(0, .ref y0)] 0 0 16 [iI r_13, .ref y0]
      refine j_if_eq 23 G (by unfold iR at *; omega) dX2_load_16 (by decide) (fun c_16 => ?_) (fun c_16 => ?_)
      · skip
        refine j_iconst G dX2_load_23 ?_
        refine j_put (ws' := [[(y0, jO 1 [iI 1, iI n, iI gr, iI pw, .ref aT, iI po, iI pr, iI ix, iI sd, iI gn, iI tk, iI ln, .ref aX, iI zs2_2, iI zl2_2, iI za2_2, iI zf2_2, iI ze2_2, iI zi2_2, .ref aR, .ref aM, .ref aG, .ref aN, .ref aQ, lI ls, lI wn, .ref aO, .ref aS, .ref aH, .ref aU, lI sc, iI zc, .ref aW, lI al, lI nr, lI dr, iI bp, lI ba, lI bb, lI hh])], [(aX, cI u 60 tx)], [(aR, cI u 300 rd2_2)], [(aT, cI u 24 tb)]]) G FX2 (jAt_1 0 rfl) 0 (by decide) q1844 rfl rfl rfl (Nat.le_of_ble_eq_true rfl) dX2_load_24 rfl ?_
        refine j_aload_n G 0 rfl dX2_load_27 ?_
        refine j_get G FX2 (jAt_1 0 rfl) 0 (by decide) q1844 rfl dX2_load_28 ?_
        refine j_if_le 36 G (by unfold iR; omega) dX2_load_31 (by decide) (fun c_31 => ?_) (fun c_31 => ?_)
        · exact absurd c_31 (by decide)
        · skip
          refine j_iconst G dX2_load_34 ?_
          exact j_iret G E (Or.inr ⟨zs2_2, zl2_2, za2_2, zf2_2, ze2_2, zi2_2, rd2_2, (fun p hp => by first | (rw [hu] at hp; cases hp) | (rw [h2_1] at hp; cases hp; intro hh; have := hQ.mpr hh; omega)), rfl, rfl⟩) ⟨by omega, by omega⟩ dX2_load_35
      · skip
        refine j_iconst G dX2_load_19 ?_
        refine j_goto 24 G dX2_load_20 (by decide) ?_
        refine j_put (ws' := [[(y0, jO 1 [iI 0, iI n, iI gr, iI pw, .ref aT, iI po, iI pr, iI ix, iI sd, iI gn, iI tk, iI ln, .ref aX, iI zs2_2, iI zl2_2, iI za2_2, iI zf2_2, iI ze2_2, iI zi2_2, .ref aR, .ref aM, .ref aG, .ref aN, .ref aQ, lI ls, lI wn, .ref aO, .ref aS, .ref aH, .ref aU, lI sc, iI zc, .ref aW, lI al, lI nr, lI dr, iI bp, lI ba, lI bb, lI hh])], [(aX, cI u 60 tx)], [(aR, cI u 300 rd2_2)], [(aT, cI u 24 tb)]]) G FX2 (jAt_1 0 rfl) 0 (by decide) q1844 rfl rfl rfl (Nat.le_of_ble_eq_true rfl) dX2_load_24 rfl ?_
        refine j_aload_n G 0 rfl dX2_load_27 ?_
        refine j_get G FX2 (jAt_1 0 rfl) 0 (by decide) q1844 rfl dX2_load_28 ?_
        refine j_if_le 36 G (by unfold iR; omega) dX2_load_31 (by decide) (fun c_31 => ?_) (fun c_31 => ?_)
        · skip
          refine j_aload_n G 0 rfl dX2_load_36 ?_
          refine j_callV (wr := [[(aX, cI u 60 tx)], [(aT, cI u 24 tb)]]) (k' := 0) (n' := 0) G FX2 (c_X2_endItem l u y0 aT aX aR aM aG aN aQ aO aS aH aU aW 0 n gr pw po pr ix sd gn tk ln zs2_2 zl2_2 za2_2 zf2_2 ze2_2 zi2_2 zc bp ls wn sc al nr dr ba bb hh rd2_2 (by omega) (by omega)) (jAt_1 0 rfl) ⟨rfl, hY_X2_endItem⟩ q2064 q2066 qs53 q90 q2067 (jcut 4 [0, 2, 1, 3] (by decide) rfl rfl) ⟨by omega, by omega, by omega, by omega, by omega, by omega⟩ (Nat.le_of_ble_eq_true rfl) dX2_load_37 rfl (fun v_ w_ hp => ?_)
          obtain ⟨rfl, rfl⟩ := hp
          show jJ X u 3 [[(y0, jO 1 [iI 0, iI n, iI gr, iI pw, .ref aT, iI po, iI pr, iI ix, iI sd, iI gn, iI tk, iI ln, .ref aX, iI 0, iI zl2_2, iI za2_2, iI zf2_2, iI ze2_2, iI (zi2_2 + 1), .ref aR, .ref aM, .ref aG, .ref aN, .ref aQ, lI ls, lI wn, .ref aO, .ref aS, .ref aH, .ref aU, lI sc, iI zc, .ref aW, lI al, lI nr, lI dr, iI bp, lI ba, lI bb, lI hh])], [(aR, cI u 300 (if zl2_2 = 3 then uZ (uZ rd2_2 (10 * zi2_2) zl2_2) (10 * zi2_2 + 1) ze2_2 else uZ rd2_2 (10 * zi2_2) zl2_2))], [(aX, cI u 60 tx)], [(aT, cI u 24 tb)]] [(0, .ref y0)] 0 0 40 []
          have hE : rEnd n (zs2_2, lq2_2, cur2_2, num2_2, done2_2) := hQ.mp (by omega)
          have hok := rOk_done hn.1 hI hE
          have hT2 := tw_end hn hI h2_2 hE
          have hA : rdAll (if zl2_2 = 3 then uZ (uZ rd2_2 (10 * zi2_2) zl2_2) (10 * zi2_2 + 1) ze2_2 else uZ rd2_2 (10 * zi2_2) zl2_2) (rDone (zs2_2, lq2_2, cur2_2, num2_2, done2_2)) := hT2.2.2.2.2
          have hzl : zi2_2 + 1 = ((rDone (zs2_2, lq2_2, cur2_2, num2_2, done2_2)).length : Int) := hT2.1
          refine j_iconst G dX2_load_40 ?_
          refine j_istore_n G [(1, iI 0), (0, .ref y0)] rfl (by decide) dX2_load_41 ?_
          have L42 : ∀ (m : Nat) (j : Nat) (pr3 : Int) (ix3 : Int) (k : Int) (tb3 : Int → Int), (rDone (zs2_2, lq2_2, cur2_2, num2_2, done2_2)).length - j < m → k = j → (pr3, ix3, tB tb3, tF tb3) = rApp ((rDone (zs2_2, lq2_2, cur2_2, num2_2, done2_2)).take j) (pr, ix, tB tb, tF tb) → j ≤ (rDone (zs2_2, lq2_2, cur2_2, num2_2, done2_2)).length → jJ X u 3 [[(aX, cI u 60 tx)], [(y0, jO 1 [iI 0, iI n, iI gr, iI pw, .ref aT, iI po, iI pr3, iI ix3, iI sd, iI gn, iI tk, iI ln, .ref aX, iI 0, iI zl2_2, iI za2_2, iI zf2_2, iI ze2_2, iI (zi2_2 + 1), .ref aR, .ref aM, .ref aG, .ref aN, .ref aQ, lI ls, lI wn, .ref aO, .ref aS, .ref aH, .ref aU, lI sc, iI zc, .ref aW, lI al, lI nr, lI dr, iI bp, lI ba, lI bb, lI hh])], [(aR, cI u 300 (if zl2_2 = 3 then uZ (uZ rd2_2 (10 * zi2_2) zl2_2) (10 * zi2_2 + 1) ze2_2 else uZ rd2_2 (10 * zi2_2) zl2_2))], [(aT, cI u 24 tb3)]] [(0, .ref y0), (1, iI k)] 0 0 42 [] := by
            intro m
            induction m with
            | zero =>
              intro j pr3 ix3 k tb3 g1 g2 g3 g4
              exfalso
              omega
            | succ m ih_L42 =>
              intro j pr3 ix3 k tb3 g1 g2 g3 g4
              refine j_iload_n G 1 rfl dX2_load_42 ?_
              refine j_aload_n G 0 rfl dX2_load_43 ?_
              refine j_get G FX2 (jAt_1 1 rfl) 18 (by decide) q1862 rfl dX2_load_44 ?_
              refine j_icmp_ge 152 G (by unfold iR at *; omega) (by unfold iR at *; omega) dX2_load_47 (by decide) (fun c_47 => ?_) (fun c_47 => ?_)
              · skip
                have hj : j = (rDone (zs2_2, lq2_2, cur2_2, num2_2, done2_2)).length := by omega
                subst hj
                rw [List.take_length] at g3
                refine j_aload_n G 0 rfl dX2_load_152 ?_
                refine j_iconst G dX2_load_153 ?_
                refine j_put (ws' := [[(aX, cI u 60 tx)], [(y0, jO 1 [iI 0, iI n, iI gr, iI pw, .ref aT, iI po, iI pr3, iI ix3, iI sd, iI gn, iI tk, iI 0, .ref aX, iI 0, iI zl2_2, iI za2_2, iI zf2_2, iI ze2_2, iI (zi2_2 + 1), .ref aR, .ref aM, .ref aG, .ref aN, .ref aQ, lI ls, lI wn, .ref aO, .ref aS, .ref aH, .ref aU, lI sc, iI zc, .ref aW, lI al, lI nr, lI dr, iI bp, lI ba, lI bb, lI hh])], [(aR, cI u 300 (if zl2_2 = 3 then uZ (uZ rd2_2 (10 * zi2_2) zl2_2) (10 * zi2_2 + 1) ze2_2 else uZ rd2_2 (10 * zi2_2) zl2_2))], [(aT, cI u 24 tb3)]]) G FX2 (jAt_1 1 rfl) 11 (by decide) q1855 rfl rfl rfl (Nat.le_of_ble_eq_true rfl) dX2_load_154 rfl ?_
                refine j_aload_n G 0 rfl dX2_load_157 ?_
                refine j_get G FX2 (jAt_1 1 rfl) 18 (by decide) q1862 rfl dX2_load_158 ?_
                refine j_ws (ws' := [[(y0, jO 1 [iI 0, iI n, iI gr, iI pw, .ref aT, iI po, iI pr3, iI ix3, iI sd, iI gn, iI tk, iI 0, .ref aX, iI 0, iI zl2_2, iI za2_2, iI zf2_2, iI ze2_2, iI (zi2_2 + 1), .ref aR, .ref aM, .ref aG, .ref aN, .ref aQ, lI ls, lI wn, .ref aO, .ref aS, .ref aH, .ref aU, lI sc, iI zc, .ref aW, lI al, lI nr, lI dr, iI bp, lI ba, lI bb, lI hh])], [(aX, cI u 60 tx)], [(aR, cI u 300 (if zl2_2 = 3 then uZ (uZ rd2_2 (10 * zi2_2) zl2_2) (10 * zi2_2 + 1) ze2_2 else uZ rd2_2 (10 * zi2_2) zl2_2))], [(aT, cI u 24 tb3)]]) (jperm 4 [1, 0, 2, 3] (by decide) rfl rfl) ?_
                exact j_iret G E (Or.inl ⟨0, zl2_2, za2_2, zf2_2, ze2_2, (zi2_2 + 1), (if zl2_2 = 3 then uZ (uZ rd2_2 (10 * zi2_2) zl2_2) (10 * zi2_2 + 1) ze2_2 else uZ rd2_2 (10 * zi2_2) zl2_2), pr3, ix3, tb3, (zs2_2, lq2_2, cur2_2, num2_2, done2_2), h2_1, hE, g3, (by rw [hzl]), rfl⟩) ⟨by omega, by omega⟩ dX2_load_161
              · skip
                have hjl : j < (rDone (zs2_2, lq2_2, cur2_2, num2_2, done2_2)).length := by omega
                obtain ⟨it, hit, hi1, hok2, hi3, hi4⟩ := rd_at hok hA hjl
                rw [← g2] at hi1 hi3
                have hit1 : 0 ≤ it.1 ∧ it.1 ≤ 3 := by rcases hok2 with ⟨a, b, -⟩ | ⟨w, rfl, -⟩ <;> first | omega | exact ⟨by decide, by decide⟩
                refine j_aload_n G 0 rfl dX2_load_50 ?_
                refine j_get G FX2 (jAt_1 1 rfl) 19 (by decide) q1863 rfl dX2_load_51 ?_
                refine j_bipush G (by decide) dX2_load_54 ?_
                refine j_iload_n G 1 rfl dX2_load_56 ?_
                refine j_imul G dX2_load_57 ?_
                refine j_iaload G (jAt_1 2 rfl) (by (try unfold iR at *); omega) (by (try unfold iR at *); omega) (by (try unfold iR at *); omega) dX2_load_58 ?_
                refine j_iconst G dX2_load_59 ?_
                refine j_icmp_ne 86 G (by unfold iR at *; omega) (by unfold iR; omega) dX2_load_60 (by decide) (fun c_60 => ?_) (fun c_60 => ?_)
                · skip
                  have hn3 : ¬ it.1 = 3 := by omega
                  have hlen : (it.2.length : Int) = n := by rcases hok2 with ⟨a, b, d, -⟩ | ⟨w, rfl, -⟩ <;> first | omega | exact absurd rfl hn3
                  refine j_iconst G dX2_load_86 ?_
                  refine j_istore_n G [(2, iI 0), (0, .ref y0), (1, iI k)] rfl (by decide) dX2_load_87 ?_
                  have L88 : ∀ (m2 : Nat) (j2 : Nat) (q : Int) (tb4 : Int → Int), 4 - j2 < m2 → q = j2 → (tB tb4, tF tb4) = rPutN it.1 it.2 (tB tb3, tF tb3) j2 → (j2 : Int) ≤ n → jJ X u 3 [[(aX, cI u 60 tx)], [(y0, jO 1 [iI 0, iI n, iI gr, iI pw, .ref aT, iI po, iI pr3, iI ix3, iI sd, iI gn, iI tk, iI ln, .ref aX, iI 0, iI zl2_2, iI za2_2, iI zf2_2, iI ze2_2, iI (zi2_2 + 1), .ref aR, .ref aM, .ref aG, .ref aN, .ref aQ, lI ls, lI wn, .ref aO, .ref aS, .ref aH, .ref aU, lI sc, iI zc, .ref aW, lI al, lI nr, lI dr, iI bp, lI ba, lI bb, lI hh])], [(aR, cI u 300 (if zl2_2 = 3 then uZ (uZ rd2_2 (10 * zi2_2) zl2_2) (10 * zi2_2 + 1) ze2_2 else uZ rd2_2 (10 * zi2_2) zl2_2))], [(aT, cI u 24 tb4)]] [(0, .ref y0), (1, iI k), (2, iI q)] 0 0 88 [] := by
                    intro m2
                    induction m2 with
                    | zero =>
                      intro j2 q tb4 g7 g5 g6 g8
                      exfalso
                      omega
                    | succ m2 ih_L88 =>
                      intro j2 q tb4 g7 g5 g6 g8
                      refine j_iload_n G 2 rfl dX2_load_88 ?_
                      refine j_aload_n G 0 rfl dX2_load_89 ?_
                      refine j_get G FX2 (jAt_1 1 rfl) 1 (by decide) q1845 rfl dX2_load_90 ?_
                      refine j_icmp_ge 146 G (by unfold iR at *; omega) (by unfold iR at *; omega) dX2_load_93 (by decide) (fun c_93 => ?_) (fun c_93 => ?_)
                      · skip
                        have hj2 : j2 = it.2.length := by omega
                        subst hj2
                        refine j_iinc G 1 rfl [(1, iI (k + 1)), (0, .ref y0), (2, iI q)] rfl (by decide) dX2_load_146 ?_
                        refine j_goto 42 G dX2_load_149 (by decide) ?_
                        refine j_lv [1, 0] rfl ?_
                        exact ih_L42 (j + 1) pr3 ix3 (k + 1) tb4 (by (try unfold iR at *); omega) (by (try unfold iR at *); omega) (by have e := foldl_take rAp (pr, ix, tB tb, tF tb) _ hit; unfold rApp at g3 ⊢; rw [e, ← g3, rAp_n hn3]; exact congrArg (fun x => (pr3, ix3, x)) g6) (by (try unfold iR at *); omega)
                      · skip
                        refine j_aload_n G 0 rfl dX2_load_96 ?_
                        refine j_aload_n G 0 rfl dX2_load_97 ?_
                        refine j_get G FX2 (jAt_1 1 rfl) 19 (by decide) q1863 rfl dX2_load_98 ?_
                        refine j_bipush G (by decide) dX2_load_101 ?_
                        refine j_iload_n G 1 rfl dX2_load_103 ?_
                        refine j_imul G dX2_load_104 ?_
                        refine j_iaload G (jAt_1 2 rfl) (by (try unfold iR at *); omega) (by (try unfold iR at *); omega) (by (try unfold iR at *); omega) dX2_load_105 ?_
                        refine j_iload_n G 2 rfl dX2_load_106 ?_
                        refine j_aload_n G 0 rfl dX2_load_107 ?_
                        refine j_get G FX2 (jAt_1 1 rfl) 19 (by decide) q1863 rfl dX2_load_108 ?_
                        refine j_bipush G (by decide) dX2_load_111 ?_
                        refine j_iload_n G 1 rfl dX2_load_113 ?_
                        refine j_imul G dX2_load_114 ?_
                        refine j_iconst G dX2_load_115 ?_
                        refine j_iadd G dX2_load_116 ?_
                        refine j_iconst G dX2_load_117 ?_
                        refine j_iload_n G 2 rfl dX2_load_118 ?_
                        refine j_imul G dX2_load_119 ?_
                        refine j_iadd G dX2_load_120 ?_
                        refine j_iaload G (jAt_1 2 rfl) (by (try unfold iR at *); omega) (by (try unfold iR at *); omega) (by (try unfold iR at *); omega) dX2_load_121 ?_
                        refine j_aload_n G 0 rfl dX2_load_122 ?_
                        refine j_get G FX2 (jAt_1 1 rfl) 19 (by decide) q1863 rfl dX2_load_123 ?_
                        refine j_bipush G (by decide) dX2_load_126 ?_
                        refine j_iload_n G 1 rfl dX2_load_128 ?_
                        refine j_imul G dX2_load_129 ?_
                        refine j_iconst G dX2_load_130 ?_
                        refine j_iadd G dX2_load_131 ?_
                        refine j_iconst G dX2_load_132 ?_
                        refine j_iload_n G 2 rfl dX2_load_133 ?_
                        refine j_imul G dX2_load_134 ?_
                        refine j_iadd G dX2_load_135 ?_
                        refine j_iaload G (jAt_1 2 rfl) (by (try unfold iR at *); omega) (by (try unfold iR at *); omega) (by (try unfold iR at *); omega) dX2_load_136 ?_
                        refine j_callV (wr := [[(aX, cI u 60 tx)], [(aR, cI u 300 (if zl2_2 = 3 then uZ (uZ rd2_2 (10 * zi2_2) zl2_2) (10 * zi2_2 + 1) ze2_2 else uZ rd2_2 (10 * zi2_2) zl2_2))]]) (k' := 0) (n' := 0) G FX2 (c_X2_put l u y0 aT aX aR aM aG aN aQ aO aS aH aU aW 0 n gr pw po pr3 ix3 sd gn tk ln 0 zl2_2 za2_2 zf2_2 ze2_2 (zi2_2 + 1) zc bp ls wn sc al nr dr ba bb hh tb4 ((if zl2_2 = 3 then uZ (uZ rd2_2 (10 * zi2_2) zl2_2) (10 * zi2_2 + 1) ze2_2 else uZ rd2_2 (10 * zi2_2) zl2_2) (10 * k)) q ((if zl2_2 = 3 then uZ (uZ rd2_2 (10 * zi2_2) zl2_2) (10 * zi2_2 + 1) ze2_2 else uZ rd2_2 (10 * zi2_2) zl2_2) (((10 * k) + 1) + (2 * q))) ((if zl2_2 = 3 then uZ (uZ rd2_2 (10 * zi2_2) zl2_2) (10 * zi2_2 + 1) ze2_2 else uZ rd2_2 (10 * zi2_2) zl2_2) (((10 * k) + 2) + (2 * q))) (by rcases hok2 with ⟨a, b, -⟩ | ⟨w, rfl, -⟩ <;> first | omega | exact absurd rfl hn3) (by omega)) (jAt_1 1 rfl) ⟨rfl, hY_X2_put⟩ q1991 q1993 qs46 q90 q1994 (jcut 4 [1, 3, 0, 2] (by decide) rfl rfl) ⟨by omega, by omega, by omega, by omega, by omega, by omega⟩ (Nat.le_of_ble_eq_true rfl) dX2_load_137 rfl (fun v_ w_ hp => ?_)
                        obtain ⟨rfl, rfl⟩ := hp
                        show jJ X u 3 [[(y0, jO 1 [iI 0, iI n, iI gr, iI pw, .ref aT, iI po, iI pr3, iI ix3, iI sd, iI gn, iI tk, iI ln, .ref aX, iI 0, iI zl2_2, iI za2_2, iI zf2_2, iI ze2_2, iI (zi2_2 + 1), .ref aR, .ref aM, .ref aG, .ref aN, .ref aQ, lI ls, lI wn, .ref aO, .ref aS, .ref aH, .ref aU, lI sc, iI zc, .ref aW, lI al, lI nr, lI dr, iI bp, lI ba, lI bb, lI hh])], [(aT, cI u 24 (uZ (uZ tb4 (8 * ((if zl2_2 = 3 then uZ (uZ rd2_2 (10 * zi2_2) zl2_2) (10 * zi2_2 + 1) ze2_2 else uZ rd2_2 (10 * zi2_2) zl2_2) (10 * k)) + 2 * q) ((if zl2_2 = 3 then uZ (uZ rd2_2 (10 * zi2_2) zl2_2) (10 * zi2_2 + 1) ze2_2 else uZ rd2_2 (10 * zi2_2) zl2_2) (((10 * k) + 1) + (2 * q)))) (8 * ((if zl2_2 = 3 then uZ (uZ rd2_2 (10 * zi2_2) zl2_2) (10 * zi2_2 + 1) ze2_2 else uZ rd2_2 (10 * zi2_2) zl2_2) (10 * k)) + 2 * q + 1) ((if zl2_2 = 3 then uZ (uZ rd2_2 (10 * zi2_2) zl2_2) (10 * zi2_2 + 1) ze2_2 else uZ rd2_2 (10 * zi2_2) zl2_2) (((10 * k) + 2) + (2 * q)))))], [(aX, cI u 60 tx)], [(aR, cI u 300 (if zl2_2 = 3 then uZ (uZ rd2_2 (10 * zi2_2) zl2_2) (10 * zi2_2 + 1) ze2_2 else uZ rd2_2 (10 * zi2_2) zl2_2))]] [(0, .ref y0), (1, iI k), (2, iI q)] 0 0 140 []
                        refine j_iinc G 2 rfl [(2, iI (q + 1)), (0, .ref y0), (1, iI k)] rfl (by decide) dX2_load_140 ?_
                        refine j_goto 88 G dX2_load_143 (by decide) ?_
                        refine j_lv [1, 2, 0] rfl ?_
                        refine j_ws (ws' := [[(aX, cI u 60 tx)], [(y0, jO 1 [iI 0, iI n, iI gr, iI pw, .ref aT, iI po, iI pr3, iI ix3, iI sd, iI gn, iI tk, iI ln, .ref aX, iI 0, iI zl2_2, iI za2_2, iI zf2_2, iI ze2_2, iI (zi2_2 + 1), .ref aR, .ref aM, .ref aG, .ref aN, .ref aQ, lI ls, lI wn, .ref aO, .ref aS, .ref aH, .ref aU, lI sc, iI zc, .ref aW, lI al, lI nr, lI dr, iI bp, lI ba, lI bb, lI hh])], [(aR, cI u 300 (if zl2_2 = 3 then uZ (uZ rd2_2 (10 * zi2_2) zl2_2) (10 * zi2_2 + 1) ze2_2 else uZ rd2_2 (10 * zi2_2) zl2_2))], [(aT, cI u 24 (uZ (uZ tb4 (8 * ((if zl2_2 = 3 then uZ (uZ rd2_2 (10 * zi2_2) zl2_2) (10 * zi2_2 + 1) ze2_2 else uZ rd2_2 (10 * zi2_2) zl2_2) (10 * k)) + 2 * q) ((if zl2_2 = 3 then uZ (uZ rd2_2 (10 * zi2_2) zl2_2) (10 * zi2_2 + 1) ze2_2 else uZ rd2_2 (10 * zi2_2) zl2_2) (((10 * k) + 1) + (2 * q)))) (8 * ((if zl2_2 = 3 then uZ (uZ rd2_2 (10 * zi2_2) zl2_2) (10 * zi2_2 + 1) ze2_2 else uZ rd2_2 (10 * zi2_2) zl2_2) (10 * k)) + 2 * q + 1) ((if zl2_2 = 3 then uZ (uZ rd2_2 (10 * zi2_2) zl2_2) (10 * zi2_2 + 1) ze2_2 else uZ rd2_2 (10 * zi2_2) zl2_2) (((10 * k) + 2) + (2 * q)))))]]) (jperm 4 [2, 0, 3, 1] (by decide) rfl rfl) ?_
                        exact ih_L88 (j2 + 1) (q + 1) (uZ (uZ tb4 (8 * ((if zl2_2 = 3 then uZ (uZ rd2_2 (10 * zi2_2) zl2_2) (10 * zi2_2 + 1) ze2_2 else uZ rd2_2 (10 * zi2_2) zl2_2) (10 * k)) + 2 * q) ((if zl2_2 = 3 then uZ (uZ rd2_2 (10 * zi2_2) zl2_2) (10 * zi2_2 + 1) ze2_2 else uZ rd2_2 (10 * zi2_2) zl2_2) (((10 * k) + 1) + (2 * q)))) (8 * ((if zl2_2 = 3 then uZ (uZ rd2_2 (10 * zi2_2) zl2_2) (10 * zi2_2 + 1) ze2_2 else uZ rd2_2 (10 * zi2_2) zl2_2) (10 * k)) + 2 * q + 1) ((if zl2_2 = 3 then uZ (uZ rd2_2 (10 * zi2_2) zl2_2) (10 * zi2_2 + 1) ze2_2 else uZ rd2_2 (10 * zi2_2) zl2_2) (((10 * k) + 2) + (2 * q)))) (by (try unfold iR at *); omega) (by (try unfold iR at *); omega) (by
                          obtain ⟨f1, f2⟩ := hi4 j2 hn3 (by omega)
                          have g6a := congrArg Prod.fst g6
                          have g6b := congrArg Prod.snd g6
                          dsimp only at g6a g6b
                          rw [tB_put, tF_put, g6a, g6b, hi1, g5, g2, f1, f2]
                          rfl) (by (try unfold iR at *); omega)
                  refine j_lv [1, 2, 0] rfl ?_
                  exact L88 5 0 0 tb3 (by omega) rfl rfl (by omega)
                · skip
                  refine j_aload_n G 0 rfl dX2_load_63 ?_
                  refine j_aload_n G 0 rfl dX2_load_64 ?_
                  refine j_get G FX2 (jAt_1 1 rfl) 19 (by decide) q1863 rfl dX2_load_65 ?_
                  refine j_bipush G (by decide) dX2_load_68 ?_
                  refine j_iload_n G 1 rfl dX2_load_70 ?_
                  refine j_imul G dX2_load_71 ?_
                  refine j_iconst G dX2_load_72 ?_
                  refine j_iadd G dX2_load_73 ?_
                  refine j_iaload G (jAt_1 2 rfl) (by (try unfold iR at *); omega) (by (try unfold iR at *); omega) (by (try unfold iR at *); omega) dX2_load_74 ?_
                  refine j_put (ws' := [[(aX, cI u 60 tx)], [(y0, jO 1 [iI 0, iI n, iI gr, iI pw, .ref aT, iI po, iI ((if zl2_2 = 3 then uZ (uZ rd2_2 (10 * zi2_2) zl2_2) (10 * zi2_2 + 1) ze2_2 else uZ rd2_2 (10 * zi2_2) zl2_2) ((10 * k) + 1)), iI ix3, iI sd, iI gn, iI tk, iI ln, .ref aX, iI 0, iI zl2_2, iI za2_2, iI zf2_2, iI ze2_2, iI (zi2_2 + 1), .ref aR, .ref aM, .ref aG, .ref aN, .ref aQ, lI ls, lI wn, .ref aO, .ref aS, .ref aH, .ref aU, lI sc, iI zc, .ref aW, lI al, lI nr, lI dr, iI bp, lI ba, lI bb, lI hh])], [(aR, cI u 300 (if zl2_2 = 3 then uZ (uZ rd2_2 (10 * zi2_2) zl2_2) (10 * zi2_2 + 1) ze2_2 else uZ rd2_2 (10 * zi2_2) zl2_2))], [(aT, cI u 24 tb3)]]) G FX2 (jAt_1 1 rfl) 6 (by decide) q1850 rfl rfl rfl (Nat.le_of_ble_eq_true rfl) dX2_load_75 rfl ?_
                  refine j_aload_n G 0 rfl dX2_load_78 ?_
                  refine j_iconst G dX2_load_79 ?_
                  refine j_put (ws' := [[(aX, cI u 60 tx)], [(y0, jO 1 [iI 0, iI n, iI gr, iI pw, .ref aT, iI po, iI ((if zl2_2 = 3 then uZ (uZ rd2_2 (10 * zi2_2) zl2_2) (10 * zi2_2 + 1) ze2_2 else uZ rd2_2 (10 * zi2_2) zl2_2) ((10 * k) + 1)), iI 0, iI sd, iI gn, iI tk, iI ln, .ref aX, iI 0, iI zl2_2, iI za2_2, iI zf2_2, iI ze2_2, iI (zi2_2 + 1), .ref aR, .ref aM, .ref aG, .ref aN, .ref aQ, lI ls, lI wn, .ref aO, .ref aS, .ref aH, .ref aU, lI sc, iI zc, .ref aW, lI al, lI nr, lI dr, iI bp, lI ba, lI bb, lI hh])], [(aR, cI u 300 (if zl2_2 = 3 then uZ (uZ rd2_2 (10 * zi2_2) zl2_2) (10 * zi2_2 + 1) ze2_2 else uZ rd2_2 (10 * zi2_2) zl2_2))], [(aT, cI u 24 tb3)]]) G FX2 (jAt_1 1 rfl) 7 (by decide) q1851 rfl rfl rfl (Nat.le_of_ble_eq_true rfl) dX2_load_80 rfl ?_
                  refine j_goto 146 G dX2_load_83 (by decide) ?_
                  have hu : 0 ≤ ln := hln.1
                  refine j_iinc G 1 rfl [(1, iI (k + 1)), (0, .ref y0)] rfl (by decide) dX2_load_146 ?_
                  refine j_goto 42 G dX2_load_149 (by decide) ?_
                  refine j_lv [1, 0] rfl ?_
                  exact ih_L42 (j + 1) ((if zl2_2 = 3 then uZ (uZ rd2_2 (10 * zi2_2) zl2_2) (10 * zi2_2 + 1) ze2_2 else uZ rd2_2 (10 * zi2_2) zl2_2) ((10 * k) + 1)) 0 (k + 1) tb3 (by (try unfold iR at *); omega) (by (try unfold iR at *); omega) (by have e := foldl_take rAp (pr, ix, tB tb, tF tb) _ hit; unfold rApp at g3 ⊢; rw [e, ← g3, rAp_3 (by omega), ← hi3 (by omega)]) (by (try unfold iR at *); omega)
          refine j_lv [1, 0] rfl ?_
          refine j_ws (ws' := [[(aX, cI u 60 tx)], [(y0, jO 1 [iI 0, iI n, iI gr, iI pw, .ref aT, iI po, iI pr, iI ix, iI sd, iI gn, iI tk, iI ln, .ref aX, iI 0, iI zl2_2, iI za2_2, iI zf2_2, iI ze2_2, iI (zi2_2 + 1), .ref aR, .ref aM, .ref aG, .ref aN, .ref aQ, lI ls, lI wn, .ref aO, .ref aS, .ref aH, .ref aU, lI sc, iI zc, .ref aW, lI al, lI nr, lI dr, iI bp, lI ba, lI bb, lI hh])], [(aR, cI u 300 (if zl2_2 = 3 then uZ (uZ rd2_2 (10 * zi2_2) zl2_2) (10 * zi2_2 + 1) ze2_2 else uZ rd2_2 (10 * zi2_2) zl2_2))], [(aT, cI u 24 tb)]]) (jperm 4 [2, 0, 1, 3] (by decide) rfl rfl) ?_
          exact L42 ((rDone (zs2_2, lq2_2, cur2_2, num2_2, done2_2)).length + 1) 0 pr ix 0 tb (by omega) rfl rfl (by omega)
        · exact absurd c_31 (by decide)
  · skip
    show jJ X u 3 [[(y0, jO 1 [iI th, iI n, iI gr, iI pw, .ref aT, iI po, iI pr, iI ix, iI sd, iI gn, iI tk, iI ln, .ref aX, iI zs2_2, iI zl2_2, iI za2_2, iI zf2_2, iI ze2_2, iI zi2_2, .ref aR, .ref aM, .ref aG, .ref aN, .ref aQ, lI ls, lI wn, .ref aO, .ref aS, .ref aH, .ref aU, lI sc, iI zc, .ref aW, lI al, lI nr, lI dr, iI bp, lI ba, lI bb, lI hh])], [(aX, cI u 60 tx)], [(aR, cI u 300 rd2_2)], [(aT, cI u 24 tb)]] [(0, .ref y0)] 0 0 5 [iI K_2, .ref y0]
    have hu := rStop_n h2_1 (by omega)
    refine j_aload_n G 0 rfl dX2_load_5 ?_
    refine j_get G FX2 (jAt_1 0 rfl) 11 (by decide) q1855 rfl dX2_load_6 ?_
    refine j_icmp_ne 23 G (by unfold iR at *; omega) (by unfold iR at *; omega) dX2_load_9 (by decide) (fun c_9 => ?_) (fun c_9 => ?_)
    · skip
      refine j_iconst G dX2_load_23 ?_
      refine j_put (ws' := [[(y0, jO 1 [iI 1, iI n, iI gr, iI pw, .ref aT, iI po, iI pr, iI ix, iI sd, iI gn, iI tk, iI ln, .ref aX, iI zs2_2, iI zl2_2, iI za2_2, iI zf2_2, iI ze2_2, iI zi2_2, .ref aR, .ref aM, .ref aG, .ref aN, .ref aQ, lI ls, lI wn, .ref aO, .ref aS, .ref aH, .ref aU, lI sc, iI zc, .ref aW, lI al, lI nr, lI dr, iI bp, lI ba, lI bb, lI hh])], [(aX, cI u 60 tx)], [(aR, cI u 300 rd2_2)], [(aT, cI u 24 tb)]]) G FX2 (jAt_1 0 rfl) 0 (by decide) q1844 rfl rfl rfl (Nat.le_of_ble_eq_true rfl) dX2_load_24 rfl ?_
      refine j_aload_n G 0 rfl dX2_load_27 ?_
      refine j_get G FX2 (jAt_1 0 rfl) 0 (by decide) q1844 rfl dX2_load_28 ?_
      refine j_if_le 36 G (by unfold iR; omega) dX2_load_31 (by decide) (fun c_31 => ?_) (fun c_31 => ?_)
      · exact absurd c_31 (by decide)
      · skip
        refine j_iconst G dX2_load_34 ?_
        exact j_iret G E (Or.inr ⟨zs2_2, zl2_2, za2_2, zf2_2, ze2_2, zi2_2, rd2_2, (fun p hp => by first | (rw [hu] at hp; cases hp) | (rw [h2_1] at hp; cases hp; intro hh; have := hQ.mpr hh; omega)), rfl, rfl⟩) ⟨by omega, by omega⟩ dX2_load_35
    · skip
      exact absurd c_9 (by omega)
