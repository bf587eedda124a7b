theorem hY_X4_takes : jY yX4_takes 1 := ⟨by decide +kernel, by decide +kernel, by decide +kernel⟩
set_option maxHeartbeats 4000000 in
set_option maxRecDepth 100000 in
theorem c_X4_takes (l : Launch) (u : jU) (r0 aw av : Nat) (rd it ap pt lvr pa nb : Int) (x0 nu sb : Nat) (n gr pw pr ix po sd gn tk hs : Int) (wh : Int → Int) (va : Int → Int) (k s lq num : Int) (cur : List (Int × Int)) (done : List rI) (c : Int) (hc : 33 ≤ c ∧ c ≤ 126) (hn : 2 ≤ n ∧ n ≤ 4) (hk : k < 60) (hI : rInv n k (s, lq, cur, num, done)) (hR : rCo wh va rd it pt lvr pa nb (s, lq, cur, num, done)) : jC l u yX4_takes cX4_takes 2 (some .boolean) 3 64 0 0 [.ref r0, iI c] [[(r0, jO 3 [.ref aw, .ref av, iI rd, iI it, iI ap, iI pt, iI lvr, iI pa, iI nb, .ref x0])], [(x0, jO 0 [iI n, .ref nu, iI gr, iI pw, iI pr, iI ix, iI po, iI sd, iI gn, iI tk, .ref sb, lI hs])], [(aw, cI u 60 wh)], [(av, cI u 60 va)]] (fun v_ w_ => (∃ (rd2 it2 pt2 lv2 pa2 nb2 : Int) (wh2 va2 : Int → Int) (s2 lq2 num2 : Int) (cur2 : List (Int × Int)) (done2 : List rI), rNx n c (s, lq, cur, num, done) = some (s2, lq2, cur2, num2, done2) ∧ rCo wh2 va2 rd2 it2 pt2 lv2 pa2 nb2 (s2, lq2, cur2, num2, done2) ∧ v_ = some (iI 1) ∧ w_ = [[(r0, jO 3 [.ref aw, .ref av, iI rd2, iI it2, iI ap, iI pt2, iI lv2, iI pa2, iI nb2, .ref x0])], [(x0, jO 0 [iI n, .ref nu, iI gr, iI pw, iI pr, iI ix, iI po, iI sd, iI gn, iI tk, .ref sb, lI hs])], [(aw, cI u 60 wh2)], [(av, cI u 60 va2)]]) ∨ (∃ (rd2 it2 pt2 lv2 pa2 nb2 : Int) (wh2 va2 : Int → Int), rNx n c (s, lq, cur, num, done) = none ∧ v_ = some (iI 0) ∧ w_ = [[(r0, jO 3 [.ref aw, .ref av, iI rd2, iI it2, iI ap, iI pt2, iI lv2, iI pa2, iI nb2, .ref x0])], [(x0, jO 0 [iI n, .ref nu, iI gr, iI pw, iI pr, iI ix, iI po, iI sd, iI gn, iI tk, .ref sb, lI hs])], [(aw, cI u 60 wh2)], [(av, cI u 60 va2)]])) := by
  refine jC.of "FlashRatchet$Reader" (by decide +kernel) rfl (Nat.le_of_ble_eq_true rfl) [(0, .ref r0), (1, iI c)] rfl (fun X G E I => ?_)
  have hQ := co_R hn hk hI hR
  have L19 : (¬ (c = 59 ∧ ((s = 4 ∧ (cur.length : Int) = n) ∨ (s = 6 ∧ 0 < num)))) → jJ X u 2 [[(r0, jO 3 [.ref aw, .ref av, iI rd, iI it, iI ap, iI pt, iI lvr, iI pa, iI nb, .ref x0])], [(x0, jO 0 [iI n, .ref nu, iI gr, iI pw, iI pr, iI ix, iI po, iI sd, iI gn, iI tk, .ref sb, lI hs])], [(aw, cI u 60 wh)], [(av, cI u 60 va)]] [(0, .ref r0), (1, iI c)] 0 0 19 [] := by
    intro hE
    refine j_aload_n G 0 rfl dX4_takes_19 ?_
    refine j_get G FX4 (jAt_1 0 rfl) 5 (by decide) q589 rfl dX4_takes_20 ?_
    by_cases c_23 : 0 ≤ pt ∧ pt ≤ 4
    · skip
      have d_23 : pt = 0 ∨ pt = 1 ∨ pt = 2 ∨ pt = 3 ∨ pt = 4 := by omega
      rcases d_23 with e_23 | e_23 | e_23 | e_23 | e_23
      · skip
        refine j_tsIn 56 G (by unfold iR at *; omega) dX4_takes_23 (by omega) (by omega) (show _ = some (33 : Int) by rw [e_23]; rfl) (by decide) ?_
        refine j_aload_n G 0 rfl dX4_takes_56 ?_
        refine j_iload_n G 1 rfl dX4_takes_57 ?_
        refine j_callV (wr := [[(x0, jO 0 [iI n, .ref nu, iI gr, iI pw, iI pr, iI ix, iI po, iI sd, iI gn, iI tk, .ref sb, lI hs])], [(aw, cI u 60 wh)], [(av, cI u 60 va)]]) (k' := 0) (n' := 0) G FX4 (c_X4_begins l u r0 aw av rd it ap pt lvr pa nb x0 c hc) (jAt_1 0 rfl) ⟨rfl, hY_X4_begins⟩ q651 q653 qs5 q108 q654 (jcut 4 [0, 1, 2, 3] (by decide) rfl rfl) ⟨by omega, by omega, by omega, by omega, by omega, by omega⟩ (Nat.le_of_ble_eq_true rfl) dX4_takes_58 rfl (fun v_ w_ hp => ?_)
        rcases hp with ⟨h58_1, rfl, rfl⟩ | ⟨h58_1, rfl, rfl⟩ | ⟨l2_58, h58_1, h58_2, rfl, rfl⟩
        · skip
          show jJ X u 2 [[(r0, jO 3 [.ref aw, .ref av, iI rd, iI it, iI ap, iI 1, iI (c - 65), iI 0, iI 0, .ref x0])], [(x0, jO 0 [iI n, .ref nu, iI gr, iI pw, iI pr, iI ix, iI po, iI sd, iI gn, iI tk, .ref sb, lI hs])], [(aw, cI u 60 wh)], [(av, cI u 60 va)]] [(0, .ref r0), (1, iI c)] 0 0 61 [iI 1]
          exact j_zret G E (by (try unfold iR at *); omega) (Or.inl ⟨rd, it, 1, (c - 65), 0, 0, wh, va, 1, (c - 65), 0, ([]), done, (by rw [rN_0 hE (by omega), if_pos (by omega)]), (co_beg hR (by omega) _), rfl, rfl⟩) ⟨by omega, by omega⟩ dX4_takes_61
        · skip
          show jJ X u 2 [[(r0, jO 3 [.ref aw, .ref av, iI rd, iI it, iI ap, iI 1, iI (-1), iI 0, iI 0, .ref x0])], [(x0, jO 0 [iI n, .ref nu, iI gr, iI pw, iI pr, iI ix, iI po, iI sd, iI gn, iI tk, .ref sb, lI hs])], [(aw, cI u 60 wh)], [(av, cI u 60 va)]] [(0, .ref r0), (1, iI c)] 0 0 61 [iI 1]
          exact j_zret G E (by (try unfold iR at *); omega) (Or.inl ⟨rd, it, 1, (-1), 0, 0, wh, va, 5, 3, 0, ([]), done, (by rw [rN_0 hE (by omega), if_neg (by omega), if_pos (by omega)]), (co_begP hR (by omega)), rfl, rfl⟩) ⟨by omega, by omega⟩ dX4_takes_61
        · skip
          show jJ X u 2 [[(r0, jO 3 [.ref aw, .ref av, iI rd, iI it, iI ap, iI pt, iI l2_58, iI 0, iI 0, .ref x0])], [(x0, jO 0 [iI n, .ref nu, iI gr, iI pw, iI pr, iI ix, iI po, iI sd, iI gn, iI tk, .ref sb, lI hs])], [(aw, cI u 60 wh)], [(av, cI u 60 va)]] [(0, .ref r0), (1, iI c)] 0 0 61 [iI 0]
          exact j_zret G E (by (try unfold iR at *); omega) (Or.inr ⟨rd, it, pt, l2_58, 0, 0, wh, va, (by rw [rN_0 hE (by omega), if_neg (by omega), if_neg (by omega)]), rfl, rfl⟩) ⟨by omega, by omega⟩ dX4_takes_61
      · skip
        refine j_tsIn 62 G (by unfold iR at *; omega) dX4_takes_23 (by omega) (by omega) (show _ = some (39 : Int) by rw [e_23]; rfl) (by decide) ?_
        refine j_aload_n G 0 rfl dX4_takes_62 ?_
        refine j_iload_n G 1 rfl dX4_takes_63 ?_
        refine j_bipush G (by decide) dX4_takes_64 ?_
        refine j_icmp_ne 73 G (by unfold iR at *; omega) (by unfold iR; omega) dX4_takes_66 (by decide) (fun c_66 => ?_) (fun c_66 => ?_)
        · skip
          refine j_iconst G dX4_takes_73 ?_
          refine j_aload_n G 0 rfl dX4_takes_74 ?_
          refine j_get G FX4 (jAt_1 0 rfl) 6 (by decide) q590 rfl dX4_takes_75 ?_
          refine j_iconst G dX4_takes_78 ?_
          refine j_icmp_ne 86 G (by unfold iR at *; omega) (by unfold iR; omega) dX4_takes_79 (by decide) (fun c_79 => ?_) (fun c_79 => ?_)
          · skip
            refine j_iconst G dX4_takes_86 ?_
            refine j_callV (wr := [[(x0, jO 0 [iI n, .ref nu, iI gr, iI pw, iI pr, iI ix, iI po, iI sd, iI gn, iI tk, .ref sb, lI hs])], [(aw, cI u 60 wh)], [(av, cI u 60 va)]]) (k' := 0) (n' := 0) G FX4 (c_X4_go l u r0 aw av rd it ap pt lvr pa nb x0 0 2 (by (try unfold iR at *); omega)) (jAt_1 0 rfl) ⟨rfl, hY_X4_go⟩ q661 q663 qs6 q108 q664 (jcut 4 [0, 1, 2, 3] (by decide) rfl rfl) ⟨by omega, by omega, by omega, by omega, by omega, by omega⟩ (Nat.le_of_ble_eq_true rfl) dX4_takes_87 rfl (fun v_ w_ hp => ?_)
            rcases hp with ⟨h87_1, rfl, rfl⟩ | ⟨h87_1, rfl, rfl⟩
            · skip
              show jJ X u 2 [[(r0, jO 3 [.ref aw, .ref av, iI rd, iI it, iI ap, iI pt, iI lvr, iI pa, iI nb, .ref x0])], [(x0, jO 0 [iI n, .ref nu, iI gr, iI pw, iI pr, iI ix, iI po, iI sd, iI gn, iI tk, .ref sb, lI hs])], [(aw, cI u 60 wh)], [(av, cI u 60 va)]] [(0, .ref r0), (1, iI c)] 0 0 90 [iI 0]
              exact j_zret G E (by (try unfold iR at *); omega) (Or.inr ⟨rd, it, pt, lvr, pa, nb, wh, va, (by first | (rw [rN_1 hE (by omega), if_neg (by omega)]; done) | rw [rN_5 hE (by omega), if_neg (by omega)]), rfl, rfl⟩) ⟨by omega, by omega⟩ dX4_takes_90
            · skip
              exact absurd h87_1 (by decide)
          · skip
            refine j_iconst G dX4_takes_82 ?_
            refine j_goto 87 G dX4_takes_83 (by decide) ?_
            refine j_callV (wr := [[(x0, jO 0 [iI n, .ref nu, iI gr, iI pw, iI pr, iI ix, iI po, iI sd, iI gn, iI tk, .ref sb, lI hs])], [(aw, cI u 60 wh)], [(av, cI u 60 va)]]) (k' := 0) (n' := 0) G FX4 (c_X4_go l u r0 aw av rd it ap pt lvr pa nb x0 0 5 (by (try unfold iR at *); omega)) (jAt_1 0 rfl) ⟨rfl, hY_X4_go⟩ q661 q663 qs6 q108 q664 (jcut 4 [0, 1, 2, 3] (by decide) rfl rfl) ⟨by omega, by omega, by omega, by omega, by omega, by omega⟩ (Nat.le_of_ble_eq_true rfl) dX4_takes_87 rfl (fun v_ w_ hp => ?_)
            rcases hp with ⟨h87_1, rfl, rfl⟩ | ⟨h87_1, rfl, rfl⟩
            · skip
              show jJ X u 2 [[(r0, jO 3 [.ref aw, .ref av, iI rd, iI it, iI ap, iI pt, iI lvr, iI pa, iI nb, .ref x0])], [(x0, jO 0 [iI n, .ref nu, iI gr, iI pw, iI pr, iI ix, iI po, iI sd, iI gn, iI tk, .ref sb, lI hs])], [(aw, cI u 60 wh)], [(av, cI u 60 va)]] [(0, .ref r0), (1, iI c)] 0 0 90 [iI 0]
              exact j_zret G E (by (try unfold iR at *); omega) (Or.inr ⟨rd, it, pt, lvr, pa, nb, wh, va, (by first | (rw [rN_1 hE (by omega), if_neg (by omega)]; done) | rw [rN_5 hE (by omega), if_neg (by omega)]), rfl, rfl⟩) ⟨by omega, by omega⟩ dX4_takes_90
            · skip
              exact absurd h87_1 (by decide)
        · skip
          refine j_iconst G dX4_takes_69 ?_
          refine j_goto 74 G dX4_takes_70 (by decide) ?_
          refine j_aload_n G 0 rfl dX4_takes_74 ?_
          refine j_get G FX4 (jAt_1 0 rfl) 6 (by decide) q590 rfl dX4_takes_75 ?_
          refine j_iconst G dX4_takes_78 ?_
          refine j_icmp_ne 86 G (by unfold iR at *; omega) (by unfold iR; omega) dX4_takes_79 (by decide) (fun c_79 => ?_) (fun c_79 => ?_)
          · skip
            refine j_iconst G dX4_takes_86 ?_
            refine j_callV (wr := [[(x0, jO 0 [iI n, .ref nu, iI gr, iI pw, iI pr, iI ix, iI po, iI sd, iI gn, iI tk, .ref sb, lI hs])], [(aw, cI u 60 wh)], [(av, cI u 60 va)]]) (k' := 0) (n' := 0) G FX4 (c_X4_go l u r0 aw av rd it ap pt lvr pa nb x0 1 2 (by (try unfold iR at *); omega)) (jAt_1 0 rfl) ⟨rfl, hY_X4_go⟩ q661 q663 qs6 q108 q664 (jcut 4 [0, 1, 2, 3] (by decide) rfl rfl) ⟨by omega, by omega, by omega, by omega, by omega, by omega⟩ (Nat.le_of_ble_eq_true rfl) dX4_takes_87 rfl (fun v_ w_ hp => ?_)
            rcases hp with ⟨h87_1, rfl, rfl⟩ | ⟨h87_1, rfl, rfl⟩
            · skip
              exact absurd h87_1 (by decide)
            · skip
              show jJ X u 2 [[(r0, jO 3 [.ref aw, .ref av, iI rd, iI it, iI ap, iI 2, iI lvr, iI pa, iI nb, .ref x0])], [(x0, jO 0 [iI n, .ref nu, iI gr, iI pw, iI pr, iI ix, iI po, iI sd, iI gn, iI tk, .ref sb, lI hs])], [(aw, cI u 60 wh)], [(av, cI u 60 va)]] [(0, .ref r0), (1, iI c)] 0 0 90 [iI 1]
              exact j_zret G E (by (try unfold iR at *); omega) (Or.inl ⟨rd, it, 2, lvr, pa, nb, wh, va, 2, lq, num, cur, done, (by rw [rN_1 hE (by omega), if_pos (by omega)]), (co_go hR (by omega)), rfl, rfl⟩) ⟨by omega, by omega⟩ dX4_takes_90
          · skip
            refine j_iconst G dX4_takes_82 ?_
            refine j_goto 87 G dX4_takes_83 (by decide) ?_
            refine j_callV (wr := [[(x0, jO 0 [iI n, .ref nu, iI gr, iI pw, iI pr, iI ix, iI po, iI sd, iI gn, iI tk, .ref sb, lI hs])], [(aw, cI u 60 wh)], [(av, cI u 60 va)]]) (k' := 0) (n' := 0) G FX4 (c_X4_go l u r0 aw av rd it ap pt lvr pa nb x0 1 5 (by (try unfold iR at *); omega)) (jAt_1 0 rfl) ⟨rfl, hY_X4_go⟩ q661 q663 qs6 q108 q664 (jcut 4 [0, 1, 2, 3] (by decide) rfl rfl) ⟨by omega, by omega, by omega, by omega, by omega, by omega⟩ (Nat.le_of_ble_eq_true rfl) dX4_takes_87 rfl (fun v_ w_ hp => ?_)
            rcases hp with ⟨h87_1, rfl, rfl⟩ | ⟨h87_1, rfl, rfl⟩
            · skip
              exact absurd h87_1 (by decide)
            · skip
              show jJ X u 2 [[(r0, jO 3 [.ref aw, .ref av, iI rd, iI it, iI ap, iI 5, iI lvr, iI pa, iI nb, .ref x0])], [(x0, jO 0 [iI n, .ref nu, iI gr, iI pw, iI pr, iI ix, iI po, iI sd, iI gn, iI tk, .ref sb, lI hs])], [(aw, cI u 60 wh)], [(av, cI u 60 va)]] [(0, .ref r0), (1, iI c)] 0 0 90 [iI 1]
              exact j_zret G E (by (try unfold iR at *); omega) (Or.inl ⟨rd, it, 5, lvr, pa, nb, wh, va, 6, lq, num, cur, done, (by rw [rN_5 hE (by omega), if_pos (by omega)]), (co_goP hR (by omega)), rfl, rfl⟩) ⟨by omega, by omega⟩ dX4_takes_90
      · skip
        refine j_tsIn 91 G (by unfold iR at *; omega) dX4_takes_23 (by omega) (by omega) (show _ = some (68 : Int) by rw [e_23]; rfl) (by decide) ?_
        refine j_aload_n G 0 rfl dX4_takes_91 ?_
        refine j_iload_n G 1 rfl dX4_takes_92 ?_
        refine j_callV (wr := [[(x0, jO 0 [iI n, .ref nu, iI gr, iI pw, iI pr, iI ix, iI po, iI sd, iI gn, iI tk, .ref sb, lI hs])], [(aw, cI u 60 wh)], [(av, cI u 60 va)]]) (k' := 0) (n' := 0) G FX4 (c_X4_takesBack l u r0 aw av rd it ap pt lvr pa nb x0 c hc) (jAt_1 0 rfl) ⟨rfl, hY_X4_takesBack⟩ q665 q667 qs7 q108 q668 (jcut 4 [0, 1, 2, 3] (by decide) rfl rfl) ⟨by omega, by omega, by omega, by omega, by omega, by omega⟩ (Nat.le_of_ble_eq_true rfl) dX4_takes_93 rfl (fun v_ w_ hp => ?_)
        rcases hp with ⟨h93_1, rfl, rfl⟩ | ⟨h93_1, rfl, rfl⟩
        · skip
          show jJ X u 2 [[(r0, jO 3 [.ref aw, .ref av, iI rd, iI it, iI ap, iI 3, iI lvr, iI pa, iI (100 * (c - 48)), .ref x0])], [(x0, jO 0 [iI n, .ref nu, iI gr, iI pw, iI pr, iI ix, iI po, iI sd, iI gn, iI tk, .ref sb, lI hs])], [(aw, cI u 60 wh)], [(av, cI u 60 va)]] [(0, .ref r0), (1, iI c)] 0 0 96 [iI 1]
          exact j_zret G E (by (try unfold iR at *); omega) (Or.inl ⟨rd, it, 3, lvr, pa, (100 * (c - 48)), wh, va, 3, lq, (c - 48), cur, done, (by rw [rN_2 hE (by omega), if_pos (by omega)]), (co_back hR (by omega) _), rfl, rfl⟩) ⟨by omega, by omega⟩ dX4_takes_96
        · skip
          show jJ X u 2 [[(r0, jO 3 [.ref aw, .ref av, iI rd, iI it, iI ap, iI pt, iI lvr, iI pa, iI (100 * (c - 48)), .ref x0])], [(x0, jO 0 [iI n, .ref nu, iI gr, iI pw, iI pr, iI ix, iI po, iI sd, iI gn, iI tk, .ref sb, lI hs])], [(aw, cI u 60 wh)], [(av, cI u 60 va)]] [(0, .ref r0), (1, iI c)] 0 0 96 [iI 0]
          exact j_zret G E (by (try unfold iR at *); omega) (Or.inr ⟨rd, it, pt, lvr, pa, (100 * (c - 48)), wh, va, (by rw [rN_2 hE (by omega), if_neg (by omega)]), rfl, rfl⟩) ⟨by omega, by omega⟩ dX4_takes_96
      · skip
        refine j_tsIn 97 G (by unfold iR at *; omega) dX4_takes_23 (by omega) (by omega) (show _ = some (74 : Int) by rw [e_23]; rfl) (by decide) ?_
        refine j_aload_n G 0 rfl dX4_takes_97 ?_
        refine j_iload_n G 1 rfl dX4_takes_98 ?_
        refine j_callV (wr := [[(x0, jO 0 [iI n, .ref nu, iI gr, iI pw, iI pr, iI ix, iI po, iI sd, iI gn, iI tk, .ref sb, lI hs])]]) (k' := 0) (n' := 0) G FX4 (c_X4_takesForward l u r0 aw av rd it ap pt lvr pa nb x0 wh va c hc (by omega) (by omega) (by omega) (by omega)) (jAt_1 0 rfl) ⟨rfl, hY_X4_takesForward⟩ q670 q672 qs8 q108 q673 (jcut 4 [0, 2, 3, 1] (by decide) rfl rfl) ⟨by omega, by omega, by omega, by omega, by omega, by omega⟩ (Nat.le_of_ble_eq_true rfl) dX4_takes_99 rfl (fun v_ w_ hp => ?_)
        rcases hp with ⟨h99_1, rfl, rfl⟩ | ⟨h99_1, rfl, rfl⟩
        · skip
          show jJ X u 2 [[(r0, jO 3 [.ref aw, .ref av, iI (rd + 1), iI it, iI ap, iI 4, iI lvr, iI (pa + 1), iI nb, .ref x0])], [(aw, cI u 60 (uZ wh rd (4 * lvr + pa)))], [(av, cI u 60 (uZ va rd (nb + c - 48)))], [(x0, jO 0 [iI n, .ref nu, iI gr, iI pw, iI pr, iI ix, iI po, iI sd, iI gn, iI tk, .ref sb, lI hs])]] [(0, .ref r0), (1, iI c)] 0 0 102 [iI 1]
          refine j_ws (ws' := [[(r0, jO 3 [.ref aw, .ref av, iI (rd + 1), iI it, iI ap, iI 4, iI lvr, iI (pa + 1), iI nb, .ref x0])], [(x0, jO 0 [iI n, .ref nu, iI gr, iI pw, iI pr, iI ix, iI po, iI sd, iI gn, iI tk, .ref sb, lI hs])], [(aw, cI u 60 (uZ wh rd (4 * lvr + pa)))], [(av, cI u 60 (uZ va rd (nb + c - 48)))]]) (jperm 4 [0, 3, 1, 2] (by decide) rfl rfl) ?_
          exact j_zret G E (by (try unfold iR at *); omega) (Or.inl ⟨(rd + 1), it, 4, lvr, (pa + 1), nb, (uZ wh rd (4 * lvr + pa)), (uZ va rd (nb + c - 48)), 4, lq, num, (cur ++ [(num, c - 48)]), done, (by rw [rN_3 hE (by omega), if_pos (by omega)]), (by have e := co_forw hR (by omega) (by omega) (c - 48); rw [show nb + (c - 48) = nb + c - 48 by omega] at e; exact e), rfl, rfl⟩) ⟨by omega, by omega⟩ dX4_takes_102
        · skip
          show jJ X u 2 [[(r0, jO 3 [.ref aw, .ref av, iI rd, iI it, iI ap, iI pt, iI lvr, iI pa, iI nb, .ref x0])], [(aw, cI u 60 wh)], [(av, cI u 60 va)], [(x0, jO 0 [iI n, .ref nu, iI gr, iI pw, iI pr, iI ix, iI po, iI sd, iI gn, iI tk, .ref sb, lI hs])]] [(0, .ref r0), (1, iI c)] 0 0 102 [iI 0]
          refine j_ws (ws' := [[(r0, jO 3 [.ref aw, .ref av, iI rd, iI it, iI ap, iI pt, iI lvr, iI pa, iI nb, .ref x0])], [(x0, jO 0 [iI n, .ref nu, iI gr, iI pw, iI pr, iI ix, iI po, iI sd, iI gn, iI tk, .ref sb, lI hs])], [(aw, cI u 60 wh)], [(av, cI u 60 va)]]) (jperm 4 [0, 3, 1, 2] (by decide) rfl rfl) ?_
          exact j_zret G E (by (try unfold iR at *); omega) (Or.inr ⟨rd, it, pt, lvr, pa, nb, wh, va, (by rw [rN_3 hE (by omega), if_neg (by omega)]), rfl, rfl⟩) ⟨by omega, by omega⟩ dX4_takes_102
      · skip
        refine j_tsIn 103 G (by unfold iR at *; omega) dX4_takes_23 (by omega) (by omega) (show _ = some (80 : Int) by rw [e_23]; rfl) (by decide) ?_
        refine j_aload_n G 0 rfl dX4_takes_103 ?_
        refine j_iload_n G 1 rfl dX4_takes_104 ?_
        refine j_bipush G (by decide) dX4_takes_105 ?_
        refine j_icmp_ne 128 G (by unfold iR at *; omega) (by unfold iR; omega) dX4_takes_107 (by decide) (fun c_107 => ?_) (fun c_107 => ?_)
        · skip
          refine j_iconst G dX4_takes_128 ?_
          refine j_iconst G dX4_takes_129 ?_
          refine j_callV (wr := [[(x0, jO 0 [iI n, .ref nu, iI gr, iI pw, iI pr, iI ix, iI po, iI sd, iI gn, iI tk, .ref sb, lI hs])], [(aw, cI u 60 wh)], [(av, cI u 60 va)]]) (k' := 0) (n' := 0) G FX4 (c_X4_go l u r0 aw av rd it ap pt lvr pa nb x0 0 2 (by (try unfold iR at *); omega)) (jAt_1 0 rfl) ⟨rfl, hY_X4_go⟩ q661 q663 qs6 q108 q664 (jcut 4 [0, 1, 2, 3] (by decide) rfl rfl) ⟨by omega, by omega, by omega, by omega, by omega, by omega⟩ (Nat.le_of_ble_eq_true rfl) dX4_takes_130 rfl (fun v_ w_ hp => ?_)
          rcases hp with ⟨h130_1, rfl, rfl⟩ | ⟨h130_1, rfl, rfl⟩
          · skip
            show jJ X u 2 [[(r0, jO 3 [.ref aw, .ref av, iI rd, iI it, iI ap, iI pt, iI lvr, iI pa, iI nb, .ref x0])], [(x0, jO 0 [iI n, .ref nu, iI gr, iI pw, iI pr, iI ix, iI po, iI sd, iI gn, iI tk, .ref sb, lI hs])], [(aw, cI u 60 wh)], [(av, cI u 60 va)]] [(0, .ref r0), (1, iI c)] 0 0 133 [iI 0]
            exact j_zret G E (by (try unfold iR at *); omega) (Or.inr ⟨rd, it, pt, lvr, pa, nb, wh, va, (by rw [rN_4 hE (by omega), if_neg (by omega)]), rfl, rfl⟩) ⟨by omega, by omega⟩ dX4_takes_133
          · skip
            exact absurd h130_1 (by decide)
        · skip
          refine j_aload_n G 0 rfl dX4_takes_110 ?_
          refine j_get G FX4 (jAt_1 0 rfl) 7 (by decide) q591 rfl dX4_takes_111 ?_
          refine j_aload_n G 0 rfl dX4_takes_114 ?_
          refine j_get G FX4 (jAt_1 0 rfl) 9 (by decide) q593 rfl dX4_takes_115 ?_
          refine j_getN G FX1 (jAt_1 1 rfl) 0 (by decide) q174 rfl dX4_takes_118 ?_
          refine j_icmp_ge 128 G (by unfold iR at *; omega) (by unfold iR at *; omega) dX4_takes_121 (by decide) (fun c_121 => ?_) (fun c_121 => ?_)
          · skip
            refine j_iconst G dX4_takes_128 ?_
            refine j_iconst G dX4_takes_129 ?_
            refine j_callV (wr := [[(x0, jO 0 [iI n, .ref nu, iI gr, iI pw, iI pr, iI ix, iI po, iI sd, iI gn, iI tk, .ref sb, lI hs])], [(aw, cI u 60 wh)], [(av, cI u 60 va)]]) (k' := 0) (n' := 0) G FX4 (c_X4_go l u r0 aw av rd it ap pt lvr pa nb x0 0 2 (by (try unfold iR at *); omega)) (jAt_1 0 rfl) ⟨rfl, hY_X4_go⟩ q661 q663 qs6 q108 q664 (jcut 4 [0, 1, 2, 3] (by decide) rfl rfl) ⟨by omega, by omega, by omega, by omega, by omega, by omega⟩ (Nat.le_of_ble_eq_true rfl) dX4_takes_130 rfl (fun v_ w_ hp => ?_)
            rcases hp with ⟨h130_1, rfl, rfl⟩ | ⟨h130_1, rfl, rfl⟩
            · skip
              show jJ X u 2 [[(r0, jO 3 [.ref aw, .ref av, iI rd, iI it, iI ap, iI pt, iI lvr, iI pa, iI nb, .ref x0])], [(x0, jO 0 [iI n, .ref nu, iI gr, iI pw, iI pr, iI ix, iI po, iI sd, iI gn, iI tk, .ref sb, lI hs])], [(aw, cI u 60 wh)], [(av, cI u 60 va)]] [(0, .ref r0), (1, iI c)] 0 0 133 [iI 0]
              exact j_zret G E (by (try unfold iR at *); omega) (Or.inr ⟨rd, it, pt, lvr, pa, nb, wh, va, (by rw [rN_4 hE (by omega), if_neg (by omega)]), rfl, rfl⟩) ⟨by omega, by omega⟩ dX4_takes_133
            · skip
              exact absurd h130_1 (by decide)
          · skip
            refine j_iconst G dX4_takes_124 ?_
            refine j_goto 129 G dX4_takes_125 (by decide) ?_
            refine j_iconst G dX4_takes_129 ?_
            refine j_callV (wr := [[(x0, jO 0 [iI n, .ref nu, iI gr, iI pw, iI pr, iI ix, iI po, iI sd, iI gn, iI tk, .ref sb, lI hs])], [(aw, cI u 60 wh)], [(av, cI u 60 va)]]) (k' := 0) (n' := 0) G FX4 (c_X4_go l u r0 aw av rd it ap pt lvr pa nb x0 1 2 (by (try unfold iR at *); omega)) (jAt_1 0 rfl) ⟨rfl, hY_X4_go⟩ q661 q663 qs6 q108 q664 (jcut 4 [0, 1, 2, 3] (by decide) rfl rfl) ⟨by omega, by omega, by omega, by omega, by omega, by omega⟩ (Nat.le_of_ble_eq_true rfl) dX4_takes_130 rfl (fun v_ w_ hp => ?_)
            rcases hp with ⟨h130_1, rfl, rfl⟩ | ⟨h130_1, rfl, rfl⟩
            · skip
              exact absurd h130_1 (by decide)
            · skip
              show jJ X u 2 [[(r0, jO 3 [.ref aw, .ref av, iI rd, iI it, iI ap, iI 2, iI lvr, iI pa, iI nb, .ref x0])], [(x0, jO 0 [iI n, .ref nu, iI gr, iI pw, iI pr, iI ix, iI po, iI sd, iI gn, iI tk, .ref sb, lI hs])], [(aw, cI u 60 wh)], [(av, cI u 60 va)]] [(0, .ref r0), (1, iI c)] 0 0 133 [iI 1]
              exact j_zret G E (by (try unfold iR at *); omega) (Or.inl ⟨rd, it, 2, lvr, pa, nb, wh, va, 2, lq, num, cur, done, (by rw [rN_4 hE (by omega), if_pos (by omega)]), (co_go hR (by omega)), rfl, rfl⟩) ⟨by omega, by omega⟩ dX4_takes_133
    · skip
      refine j_tsOut 134 G (by unfold iR at *; omega) dX4_takes_23 (by omega) (by decide) ?_
      refine j_aload_n G 0 rfl dX4_takes_134 ?_
      refine j_iload_n G 1 rfl dX4_takes_135 ?_
      refine j_callV (wr := [[(x0, jO 0 [iI n, .ref nu, iI gr, iI pw, iI pr, iI ix, iI po, iI sd, iI gn, iI tk, .ref sb, lI hs])], [(aw, cI u 60 wh)], [(av, cI u 60 va)]]) (k' := 0) (n' := 0) G FX4 (c_X4_takesLetter l u r0 aw av rd it ap pt lvr pa nb x0 c hc (by omega) (sLen_64 (by omega))) (jAt_1 0 rfl) ⟨rfl, hY_X4_takesLetter⟩ q674 q676 qs9 q108 q677 (jcut 4 [0, 1, 2, 3] (by decide) rfl rfl) ⟨by omega, by omega, by omega, by omega, by omega, by omega⟩ (Nat.le_of_ble_eq_true rfl) dX4_takes_136 rfl (fun v_ w_ hp => ?_)
      rcases hp with ⟨h136_1, rfl, rfl⟩ | ⟨h136_1, rfl, rfl⟩
      · skip
        show jJ X u 2 [[(r0, jO 3 [.ref aw, .ref av, iI rd, iI it, iI ap, iI pt, iI lvr, iI pa, iI (4 * nb + c - 65 + 1), .ref x0])], [(x0, jO 0 [iI n, .ref nu, iI gr, iI pw, iI pr, iI ix, iI po, iI sd, iI gn, iI tk, .ref sb, lI hs])], [(aw, cI u 60 wh)], [(av, cI u 60 va)]] [(0, .ref r0), (1, iI c)] 0 0 139 [iI 1]
        exact j_zret G E (by (try unfold iR at *); omega) (Or.inl ⟨rd, it, pt, lvr, pa, (4 * nb + c - 65 + 1), wh, va, 6, lq, (4 * num + c - 64), cur, done, (by rw [rN_6 hE (by omega), if_pos (by omega)]), (by have e := co_let hR (by omega) (show 4 * nb + c - 65 + 1 = 4 * num + c - 64 by omega); exact e), rfl, rfl⟩) ⟨by omega, by omega⟩ dX4_takes_139
      · skip
        show jJ X u 2 [[(r0, jO 3 [.ref aw, .ref av, iI rd, iI it, iI ap, iI pt, iI lvr, iI pa, iI nb, .ref x0])], [(x0, jO 0 [iI n, .ref nu, iI gr, iI pw, iI pr, iI ix, iI po, iI sd, iI gn, iI tk, .ref sb, lI hs])], [(aw, cI u 60 wh)], [(av, cI u 60 va)]] [(0, .ref r0), (1, iI c)] 0 0 139 [iI 0]
        exact j_zret G E (by (try unfold iR at *); omega) (Or.inr ⟨rd, it, pt, lvr, pa, nb, wh, va, (by rw [rN_6 hE (by omega), if_neg (by omega)]), rfl, rfl⟩) ⟨by omega, by omega⟩ dX4_takes_139
  refine j_iload_n G 1 rfl dX4_takes_0 ?_
  refine j_bipush G (by decide) dX4_takes_1 ?_
  refine j_icmp_ne 19 G (by unfold iR at *; omega) (by unfold iR; omega) dX4_takes_3 (by decide) (fun c_3 => ?_) (fun c_3 => ?_)
  · skip
    exact L19 (fun hh => by first | exact c_3 hh.1 | omega)
  · skip
    refine j_aload_n G 0 rfl dX4_takes_6 ?_
    refine j_callV (wr := [[(aw, cI u 60 wh)], [(av, cI u 60 va)]]) (k' := 0) (n' := 0) G FX4 (c_X4_isOver l u r0 aw av rd it ap pt lvr pa nb x0 nu sb n gr pw pr ix po sd gn tk hs hn (by omega) (fun _ => by unfold iR; omega) (fun _ => by unfold iR; omega)) (jAt_1 0 rfl) ⟨rfl, hY_X4_isOver⟩ q639 q641 qs2 q108 q642 (jcut 4 [0, 1, 2, 3] (by decide) rfl rfl) ⟨by omega, by omega, by omega, by omega, by omega, by omega⟩ (Nat.le_of_ble_eq_true rfl) dX4_takes_7 rfl (fun v_ w_ hp => ?_)
    obtain ⟨r_7, h7_1, rfl, rfl⟩ := hp
    show jJ X u 2 [[(r0, jO 3 [.ref aw, .ref av, iI rd, iI it, iI ap, iI pt, iI lvr, iI pa, iI nb, .ref x0])], [(x0, jO 0 [iI n, .ref nu, iI gr, iI pw, iI pr, iI ix, iI po, iI sd, iI gn, iI tk, .ref sb, lI hs])], [(aw, cI u 60 wh)], [(av, cI u 60 va)]] [(0, .ref r0), (1, iI c)] 0 0 10 [iI r_7]
    refine j_if_eq 19 G (by unfold iR at *; omega) dX4_takes_10 (by decide) (fun c_10 => ?_) (fun c_10 => ?_)
    · skip
      exact L19 (fun hh => by first | exact c_3 hh.1 | omega)
    · skip
      have hE : (s = 4 ∧ (cur.length : Int) = n) ∨ (s = 6 ∧ 0 < num) := by omega
      refine j_aload_n G 0 rfl dX4_takes_13 ?_
      refine j_callV (wr := [[(x0, jO 0 [iI n, .ref nu, iI gr, iI pw, iI pr, iI ix, iI po, iI sd, iI gn, iI tk, .ref sb, lI hs])]]) (k' := 0) (n' := 0) G FX4 (c_X4_end l u r0 aw av rd it ap pt lvr pa nb x0 wh va (by omega) (by omega)) (jAt_1 0 rfl) ⟨rfl, hY_X4_end⟩ q643 q645 qs3 q108 q646 (jcut 4 [0, 2, 3, 1] (by decide) rfl rfl) ⟨by omega, by omega, by omega, by omega, by omega, by omega⟩ (Nat.le_of_ble_eq_true rfl) dX4_takes_14 rfl (fun v_ w_ hp => ?_)
      rcases hp with ⟨h14_1, rfl, rfl⟩ | ⟨h14_1, rfl, rfl⟩
      · skip
        show jJ X u 2 [[(r0, jO 3 [.ref aw, .ref av, iI (rd + 1), iI (it + 1), iI ap, iI 0, iI lvr, iI pa, iI nb, .ref x0])], [(aw, cI u 60 (uZ wh rd (-1)))], [(av, cI u 60 (uZ va rd nb))], [(x0, jO 0 [iI n, .ref nu, iI gr, iI pw, iI pr, iI ix, iI po, iI sd, iI gn, iI tk, .ref sb, lI hs])]] [(0, .ref r0), (1, iI c)] 0 0 17 []
        refine j_iconst G dX4_takes_17 ?_
        refine j_ws (ws' := [[(r0, jO 3 [.ref aw, .ref av, iI (rd + 1), iI (it + 1), iI ap, iI 0, iI lvr, iI pa, iI nb, .ref x0])], [(x0, jO 0 [iI n, .ref nu, iI gr, iI pw, iI pr, iI ix, iI po, iI sd, iI gn, iI tk, .ref sb, lI hs])], [(aw, cI u 60 (uZ wh rd (-1)))], [(av, cI u 60 (uZ va rd nb))]]) (jperm 4 [0, 3, 1, 2] (by decide) rfl rfl) ?_
        exact j_zret G E (by (try unfold iR at *); omega) (Or.inl ⟨(rd + 1), (it + 1), 0, lvr, pa, nb, (uZ wh rd (-1)), (uZ va rd nb), 0, 0, 0, ([]), (done ++ [rItem lq cur num]), (rN_e c_3 hE), (co_end6 hR (by omega) (by omega)), rfl, rfl⟩) ⟨by omega, by omega⟩ dX4_takes_18
      · skip
        show jJ X u 2 [[(r0, jO 3 [.ref aw, .ref av, iI rd, iI (it + 1), iI ap, iI 0, iI lvr, iI pa, iI nb, .ref x0])], [(aw, cI u 60 wh)], [(av, cI u 60 va)], [(x0, jO 0 [iI n, .ref nu, iI gr, iI pw, iI pr, iI ix, iI po, iI sd, iI gn, iI tk, .ref sb, lI hs])]] [(0, .ref r0), (1, iI c)] 0 0 17 []
        refine j_iconst G dX4_takes_17 ?_
        refine j_ws (ws' := [[(r0, jO 3 [.ref aw, .ref av, iI rd, iI (it + 1), iI ap, iI 0, iI lvr, iI pa, iI nb, .ref x0])], [(x0, jO 0 [iI n, .ref nu, iI gr, iI pw, iI pr, iI ix, iI po, iI sd, iI gn, iI tk, .ref sb, lI hs])], [(aw, cI u 60 wh)], [(av, cI u 60 va)]]) (jperm 4 [0, 3, 1, 2] (by decide) rfl rfl) ?_
        exact j_zret G E (by (try unfold iR at *); omega) (Or.inl ⟨rd, (it + 1), 0, lvr, pa, nb, wh, va, 0, 0, 0, ([]), (done ++ [rItem lq cur num]), (rN_e c_3 hE), (co_end4 hR (by omega) (by omega)), rfl, rfl⟩) ⟨by omega, by omega⟩ dX4_takes_18
