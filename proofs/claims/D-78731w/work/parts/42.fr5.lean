theorem hY_X1_append : jY yX1_append 1 := ⟨by decide +kernel, by decide +kernel, by decide +kernel⟩
set_option maxHeartbeats 4000000 in
set_option maxRecDepth 100000 in
theorem c_X1_append (l : Launch) (u : jU) (x0 nu sb : Nat) (n gr pw pr ix po sd gn tk hs : Int) (vb : Nat) (ml ct : Int) (tx : Int → Int) (v : Int) (hl0 : l.stackTraces = false) (hRv : iR v) (hct : 0 ≤ ct ∧ ct ≤ 60) : jCX l u yX1_append cX1_append 2 (some .int) 7 109 2 12 [.ref x0, iI v] [[(x0, jO 0 [iI n, .ref nu, iI gr, iI pw, iI pr, iI ix, iI po, iI sd, iI gn, iI tk, .ref sb, lI hs])], [(sb, jO 9 [.ref vb, iI 0, iI ml, iI ct])], [(vb, cB u 60 tx)]] (fun v_ w_ => (33 ≤ v ∧ v ≤ 126) ∧ ct < 60 ∧ v_ = some (iI (ct + 1)) ∧ w_ = [[(x0, jO 0 [iI n, .ref nu, iI gr, iI pw, iI pr, iI ix, iI po, iI sd, iI gn, iI tk, .ref sb, lI hs])], [(sb, jO 9 [.ref vb, iI 0, iI ml, iI (ct + 1)])], [(vb, cB u 60 (uZ tx ct v))]]) (fun E_ w_ => (E_ = "java/lang/IllegalArgumentException" ∧ (¬ (33 ≤ v ∧ v ≤ 126)) ∧ w_ = [[(x0, jO 0 [iI n, .ref nu, iI gr, iI pw, iI pr, iI ix, iI po, iI sd, iI gn, iI tk, .ref sb, lI hs])], [(sb, jO 9 [.ref vb, iI 0, iI ml, iI ct])], [(vb, cB u 60 tx)]]) ∨ (E_ = "java/lang/IllegalStateException" ∧ (33 ≤ v ∧ v ≤ 126) ∧ ct = 60 ∧ w_ = [[(x0, jO 0 [iI n, .ref nu, iI gr, iI pw, iI pr, iI ix, iI po, iI sd, iI gn, iI tk, .ref sb, lI hs])], [(sb, jO 9 [.ref vb, iI 0, iI ml, iI ct])], [(vb, cB u 60 tx)]])) := by
  refine jCX.of "FlashRatchet" (by decide +kernel) rfl (Nat.le_of_ble_eq_true rfl) [(0, .ref x0), (1, iI v)] rfl (fun X G EX => ?_)
  have E := EX.E
  refine j_iload_n G 1 rfl dX1_append_0 ?_
  refine j_bipush G (by decide) dX1_append_1 ?_
  refine j_bipush G (by decide) dX1_append_3 ?_
  refine j_callS (wr := [[(x0, jO 0 [iI n, .ref nu, iI gr, iI pw, iI pr, iI ix, iI po, iI sd, iI gn, iI tk, .ref sb, lI hs])], [(sb, jO 9 [.ref vb, iI 0, iI ml, iI ct])], [(vb, cB u 60 tx)]]) (k' := 0) (n' := 0) G (c_X1_inRange l u v 33 126 hRv (by unfold iR; omega) (by unfold iR; omega)) hY_X1_inRange q658 q659 q85 q660 (jcut 3 [0, 1, 2] (by decide) rfl rfl) ⟨by omega, by omega, by omega, by omega, by omega, by omega⟩ (Nat.le_of_ble_eq_true rfl) dX1_append_5 rfl (fun v_ w_ hp => ?_)
  obtain ⟨r_5, h5_1, rfl, rfl⟩ := hp
  show jJ X u 2 [[(x0, jO 0 [iI n, .ref nu, iI gr, iI pw, iI pr, iI ix, iI po, iI sd, iI gn, iI tk, .ref sb, lI hs])], [(sb, jO 9 [.ref vb, iI 0, iI ml, iI ct])], [(vb, cB u 60 tx)]] [(0, .ref x0), (1, iI v)] 0 0 8 [iI r_5]
  refine jx_callS (wr := [[(x0, jO 0 [iI n, .ref nu, iI gr, iI pw, iI pr, iI ix, iI po, iI sd, iI gn, iI tk, .ref sb, lI hs])], [(sb, jO 9 [.ref vb, iI 0, iI ml, iI ct])], [(vb, cB u 60 tx)]]) (k' := 1) (n' := 6) G (c_X1_require l u r_5 hl0 (by (try unfold iR at *); omega)) hY_X1_require q1614 q1615 q85 q1616 (jcut 3 [0, 1, 2] (by decide) rfl rfl) ⟨by omega, by omega, by omega, by omega, by omega, by omega⟩ (Nat.le_of_ble_eq_true rfl) dX1_append_8 rfl (fun E_ w_ hp => ?_) (fun v_ w_ hp => ?_)
  · skip
    rcases hp with ⟨rfl, x8_1, rfl⟩
    · skip
      exact jx_out G EX (Or.inl ⟨rfl, (by (try unfold iR at *); omega), rfl⟩) ⟨by omega, by omega⟩
  · skip
    obtain ⟨h8_1, rfl, rfl⟩ := hp
    show jJ X u 2 [[(x0, jO 0 [iI n, .ref nu, iI gr, iI pw, iI pr, iI ix, iI po, iI sd, iI gn, iI tk, .ref sb, lI hs])], [(sb, jO 9 [.ref vb, iI 0, iI ml, iI ct])], [(vb, cB u 60 tx)]] [(0, .ref x0), (1, iI v)] 1 6 11 []
    refine j_aload_n G 0 rfl dX1_append_11 ?_
    refine j_get G FX1 (jAt_1 0 rfl) 10 (by decide) q194 rfl dX1_append_12 ?_
    refine j_callV (wr := [[(x0, jO 0 [iI n, .ref nu, iI gr, iI pw, iI pr, iI ix, iI po, iI sd, iI gn, iI tk, .ref sb, lI hs])], [(vb, cB u 60 tx)]]) (k' := 1) (n' := 6) G FJ1 (c_J1_length l u sb vb ml ct ) (jAt_1 1 rfl) ⟨rfl, hY_J1_length⟩ q226 q227 q228 q87 q229 (jcut 3 [1, 0, 2] (by decide) rfl rfl) ⟨by omega, by omega, by omega, by omega, by omega, by omega⟩ (Nat.le_of_ble_eq_true rfl) dX1_append_15 rfl (fun v_ w_ hp => ?_)
    obtain ⟨rfl, rfl⟩ := hp
    show jJ X u 2 [[(sb, jO 9 [.ref vb, iI 0, iI ml, iI ct])], [(x0, jO 0 [iI n, .ref nu, iI gr, iI pw, iI pr, iI ix, iI po, iI sd, iI gn, iI tk, .ref sb, lI hs])], [(vb, cB u 60 tx)]] [(0, .ref x0), (1, iI v)] 1 6 18 [iI ct]
    refine j_bipush G (by decide) dX1_append_18 ?_
    refine j_icmp_ge 27 G (by unfold iR at *; omega) (by unfold iR; omega) dX1_append_20 (by decide) (fun c_20 => ?_) (fun c_20 => ?_)
    · skip
      refine j_iconst G dX1_append_27 ?_
      refine jx_callS (wr := [[(sb, jO 9 [.ref vb, iI 0, iI ml, iI ct])], [(x0, jO 0 [iI n, .ref nu, iI gr, iI pw, iI pr, iI ix, iI po, iI sd, iI gn, iI tk, .ref sb, lI hs])], [(vb, cB u 60 tx)]]) (k' := 2) (n' := 12) G (c_X1_requireState l u 0 hl0 (by (try unfold iR at *); omega)) hY_X1_requireState q1698 q1699 q85 q1700 (jcut 3 [0, 1, 2] (by decide) rfl rfl) ⟨by omega, by omega, by omega, by omega, by omega, by omega⟩ (Nat.le_of_ble_eq_true rfl) dX1_append_28 rfl (fun E_ w_ hp => ?_) (fun v_ w_ hp => ?_)
      · skip
        rcases hp with ⟨rfl, x28_1, rfl⟩
        · skip
          refine jx_ws (ws' := [[(x0, jO 0 [iI n, .ref nu, iI gr, iI pw, iI pr, iI ix, iI po, iI sd, iI gn, iI tk, .ref sb, lI hs])], [(sb, jO 9 [.ref vb, iI 0, iI ml, iI ct])], [(vb, cB u 60 tx)]]) (jperm 3 [1, 0, 2] (by decide) rfl rfl) ?_
          exact jx_out G EX (Or.inr ⟨rfl, (by (try unfold iR at *); omega), (by (try unfold iR at *); omega), rfl⟩) ⟨by omega, by omega⟩
      · skip
        obtain ⟨h28_1, rfl, rfl⟩ := hp
        show jJ X u 2 [[(sb, jO 9 [.ref vb, iI 0, iI ml, iI ct])], [(x0, jO 0 [iI n, .ref nu, iI gr, iI pw, iI pr, iI ix, iI po, iI sd, iI gn, iI tk, .ref sb, lI hs])], [(vb, cB u 60 tx)]] [(0, .ref x0), (1, iI v)] 2 12 31 []
        refine j_aload_n G 0 rfl dX1_append_31 ?_
        refine j_get G FX1 (jAt_1 1 rfl) 10 (by decide) q194 rfl dX1_append_32 ?_
        refine j_iload_n G 1 rfl dX1_append_35 ?_
        refine j_i2c G dX1_append_36 ?_
        refine j_eq (st' := [iI v, .ref sb]) (by rw [(jChr_c (by omega)).2]) ?_
        refine j_callV (wr := [[(x0, jO 0 [iI n, .ref nu, iI gr, iI pw, iI pr, iI ix, iI po, iI sd, iI gn, iI tk, .ref sb, lI hs])]]) (k' := 2) (n' := 12) G FJ1 (c_J1_append_3 l u sb vb ml ct tx v (by (try unfold iR at *); omega) (by (try unfold iR at *); omega)) (jAt_1 0 rfl) ⟨rfl, hY_J1_append_3⟩ q1723 q1724 q1725 q87 q1726 (jcut 3 [0, 2, 1] (by decide) rfl rfl) ⟨by omega, by omega, by omega, by omega, by omega, by omega⟩ (Nat.le_of_ble_eq_true rfl) dX1_append_37 rfl (fun v_ w_ hp => ?_)
        obtain ⟨rfl, rfl⟩ := hp
        show jJ X u 2 [[(sb, jO 9 [.ref vb, iI 0, iI ml, iI (ct + 1)])], [(vb, cB u 60 (uZ tx ct v))], [(x0, jO 0 [iI n, .ref nu, iI gr, iI pw, iI pr, iI ix, iI po, iI sd, iI gn, iI tk, .ref sb, lI hs])]] [(0, .ref x0), (1, iI v)] 2 12 40 [.ref sb]
        refine j_pop G rfl dX1_append_40 ?_
        refine j_aload_n G 0 rfl dX1_append_41 ?_
        refine j_get G FX1 (jAt_1 2 rfl) 10 (by decide) q194 rfl dX1_append_42 ?_
        refine j_callV (wr := [[(vb, cB u 60 (uZ tx ct v))], [(x0, jO 0 [iI n, .ref nu, iI gr, iI pw, iI pr, iI ix, iI po, iI sd, iI gn, iI tk, .ref sb, lI hs])]]) (k' := 2) (n' := 12) G FJ1 (c_J1_length l u sb vb ml (ct + 1) ) (jAt_1 0 rfl) ⟨rfl, hY_J1_length⟩ q226 q227 q228 q87 q229 (jcut 3 [0, 1, 2] (by decide) rfl rfl) ⟨by omega, by omega, by omega, by omega, by omega, by omega⟩ (Nat.le_of_ble_eq_true rfl) dX1_append_45 rfl (fun v_ w_ hp => ?_)
        obtain ⟨rfl, rfl⟩ := hp
        show jJ X u 2 [[(sb, jO 9 [.ref vb, iI 0, iI ml, iI (ct + 1)])], [(vb, cB u 60 (uZ tx ct v))], [(x0, jO 0 [iI n, .ref nu, iI gr, iI pw, iI pr, iI ix, iI po, iI sd, iI gn, iI tk, .ref sb, lI hs])]] [(0, .ref x0), (1, iI v)] 2 12 48 [iI (ct + 1)]
        refine j_ws (ws' := [[(x0, jO 0 [iI n, .ref nu, iI gr, iI pw, iI pr, iI ix, iI po, iI sd, iI gn, iI tk, .ref sb, lI hs])], [(sb, jO 9 [.ref vb, iI 0, iI ml, iI (ct + 1)])], [(vb, cB u 60 (uZ tx ct v))]]) (jperm 3 [2, 0, 1] (by decide) rfl rfl) ?_
        exact j_iret G E ⟨(by omega), (by omega), rfl, rfl⟩ ⟨by omega, by omega⟩ dX1_append_48
    · skip
      refine j_iconst G dX1_append_23 ?_
      refine j_goto 28 G dX1_append_24 (by decide) ?_
      refine jx_callS (wr := [[(sb, jO 9 [.ref vb, iI 0, iI ml, iI ct])], [(x0, jO 0 [iI n, .ref nu, iI gr, iI pw, iI pr, iI ix, iI po, iI sd, iI gn, iI tk, .ref sb, lI hs])], [(vb, cB u 60 tx)]]) (k' := 2) (n' := 12) G (c_X1_requireState l u 1 hl0 (by (try unfold iR at *); omega)) hY_X1_requireState q1698 q1699 q85 q1700 (jcut 3 [0, 1, 2] (by decide) rfl rfl) ⟨by omega, by omega, by omega, by omega, by omega, by omega⟩ (Nat.le_of_ble_eq_true rfl) dX1_append_28 rfl (fun E_ w_ hp => ?_) (fun v_ w_ hp => ?_)
      · skip
        rcases hp with ⟨rfl, x28_1, rfl⟩
        · skip
          refine jx_ws (ws' := [[(x0, jO 0 [iI n, .ref nu, iI gr, iI pw, iI pr, iI ix, iI po, iI sd, iI gn, iI tk, .ref sb, lI hs])], [(sb, jO 9 [.ref vb, iI 0, iI ml, iI ct])], [(vb, cB u 60 tx)]]) (jperm 3 [1, 0, 2] (by decide) rfl rfl) ?_
          exact jx_out G EX (Or.inr ⟨rfl, (by (try unfold iR at *); omega), (by (try unfold iR at *); omega), rfl⟩) ⟨by omega, by omega⟩
      · skip
        obtain ⟨h28_1, rfl, rfl⟩ := hp
        show jJ X u 2 [[(sb, jO 9 [.ref vb, iI 0, iI ml, iI ct])], [(x0, jO 0 [iI n, .ref nu, iI gr, iI pw, iI pr, iI ix, iI po, iI sd, iI gn, iI tk, .ref sb, lI hs])], [(vb, cB u 60 tx)]] [(0, .ref x0), (1, iI v)] 2 12 31 []
        refine j_aload_n G 0 rfl dX1_append_31 ?_
        refine j_get G FX1 (jAt_1 1 rfl) 10 (by decide) q194 rfl dX1_append_32 ?_
        refine j_iload_n G 1 rfl dX1_append_35 ?_
        refine j_i2c G dX1_append_36 ?_
        refine j_eq (st' := [iI v, .ref sb]) (by rw [(jChr_c (by omega)).2]) ?_
        refine j_callV (wr := [[(x0, jO 0 [iI n, .ref nu, iI gr, iI pw, iI pr, iI ix, iI po, iI sd, iI gn, iI tk, .ref sb, lI hs])]]) (k' := 2) (n' := 12) G FJ1 (c_J1_append_3 l u sb vb ml ct tx v (by (try unfold iR at *); omega) (by (try unfold iR at *); omega)) (jAt_1 0 rfl) ⟨rfl, hY_J1_append_3⟩ q1723 q1724 q1725 q87 q1726 (jcut 3 [0, 2, 1] (by decide) rfl rfl) ⟨by omega, by omega, by omega, by omega, by omega, by omega⟩ (Nat.le_of_ble_eq_true rfl) dX1_append_37 rfl (fun v_ w_ hp => ?_)
        obtain ⟨rfl, rfl⟩ := hp
        show jJ X u 2 [[(sb, jO 9 [.ref vb, iI 0, iI ml, iI (ct + 1)])], [(vb, cB u 60 (uZ tx ct v))], [(x0, jO 0 [iI n, .ref nu, iI gr, iI pw, iI pr, iI ix, iI po, iI sd, iI gn, iI tk, .ref sb, lI hs])]] [(0, .ref x0), (1, iI v)] 2 12 40 [.ref sb]
        refine j_pop G rfl dX1_append_40 ?_
        refine j_aload_n G 0 rfl dX1_append_41 ?_
        refine j_get G FX1 (jAt_1 2 rfl) 10 (by decide) q194 rfl dX1_append_42 ?_
        refine j_callV (wr := [[(vb, cB u 60 (uZ tx ct v))], [(x0, jO 0 [iI n, .ref nu, iI gr, iI pw, iI pr, iI ix, iI po, iI sd, iI gn, iI tk, .ref sb, lI hs])]]) (k' := 2) (n' := 12) G FJ1 (c_J1_length l u sb vb ml (ct + 1) ) (jAt_1 0 rfl) ⟨rfl, hY_J1_length⟩ q226 q227 q228 q87 q229 (jcut 3 [0, 1, 2] (by decide) rfl rfl) ⟨by omega, by omega, by omega, by omega, by omega, by omega⟩ (Nat.le_of_ble_eq_true rfl) dX1_append_45 rfl (fun v_ w_ hp => ?_)
        obtain ⟨rfl, rfl⟩ := hp
        show jJ X u 2 [[(sb, jO 9 [.ref vb, iI 0, iI ml, iI (ct + 1)])], [(vb, cB u 60 (uZ tx ct v))], [(x0, jO 0 [iI n, .ref nu, iI gr, iI pw, iI pr, iI ix, iI po, iI sd, iI gn, iI tk, .ref sb, lI hs])]] [(0, .ref x0), (1, iI v)] 2 12 48 [iI (ct + 1)]
        refine j_ws (ws' := [[(x0, jO 0 [iI n, .ref nu, iI gr, iI pw, iI pr, iI ix, iI po, iI sd, iI gn, iI tk, .ref sb, lI hs])], [(sb, jO 9 [.ref vb, iI 0, iI ml, iI (ct + 1)])], [(vb, cB u 60 (uZ tx ct v))]]) (jperm 3 [2, 0, 1] (by decide) rfl rfl) ?_
        exact j_iret G E ⟨(by omega), (by omega), rfl, rfl⟩ ⟨by omega, by omega⟩ dX1_append_48
theorem hY_X1_clearBuffer : jY yX1_clearBuffer 0 := ⟨by decide +kernel, by decide +kernel, by decide +kernel⟩
set_option maxHeartbeats 4000000 in
set_option maxRecDepth 100000 in
theorem c_X1_clearBuffer (l : Launch) (u : jU) (x0 nu sb : Nat) (n gr pw pr ix po sd gn tk hs : Int) (vb : Nat) (ml ct : Int) (tx : Int → Int) (hct : 0 ≤ ct ∧ ct ≤ 60) : jC l u yX1_clearBuffer cX1_clearBuffer 2 (some .int) 3 64 0 0 [.ref x0] [[(x0, jO 0 [iI n, .ref nu, iI gr, iI pw, iI pr, iI ix, iI po, iI sd, iI gn, iI tk, .ref sb, lI hs])], [(sb, jO 9 [.ref vb, iI 0, iI ml, iI ct])], [(vb, cB u 60 tx)]] (fun v_ w_ => ∃ (ml2 : Int), v_ = some (iI ct) ∧ w_ = [[(x0, jO 0 [iI n, .ref nu, iI gr, iI pw, iI pr, iI ix, iI po, iI sd, iI gn, iI tk, .ref sb, lI hs])], [(sb, jO 9 [.ref vb, iI 0, iI ml2, iI 0])], [(vb, cB u 60 tx)]]) := by
  refine jC.of "FlashRatchet" (by decide +kernel) rfl (Nat.le_of_ble_eq_true rfl) [(0, .ref x0)] rfl (fun X G E I => ?_)
  refine j_aload_n G 0 rfl dX1_clearBuffer_0 ?_
  refine j_get G FX1 (jAt_1 0 rfl) 10 (by decide) q194 rfl dX1_clearBuffer_1 ?_
  refine j_callV (wr := [[(x0, jO 0 [iI n, .ref nu, iI gr, iI pw, iI pr, iI ix, iI po, iI sd, iI gn, iI tk, .ref sb, lI hs])], [(vb, cB u 60 tx)]]) (k' := 0) (n' := 0) G FJ1 (c_J1_length l u sb vb ml ct ) (jAt_1 1 rfl) ⟨rfl, hY_J1_length⟩ q226 q227 q228 q87 q229 (jcut 3 [1, 0, 2] (by decide) rfl rfl) ⟨by omega, by omega, by omega, by omega, by omega, by omega⟩ (Nat.le_of_ble_eq_true rfl) dX1_clearBuffer_4 rfl (fun v_ w_ hp => ?_)
  obtain ⟨rfl, rfl⟩ := hp
  show jJ X u 2 [[(sb, jO 9 [.ref vb, iI 0, iI ml, iI ct])], [(x0, jO 0 [iI n, .ref nu, iI gr, iI pw, iI pr, iI ix, iI po, iI sd, iI gn, iI tk, .ref sb, lI hs])], [(vb, cB u 60 tx)]] [(0, .ref x0)] 0 0 7 [iI ct]
  refine j_istore_n G [(1, iI ct), (0, .ref x0)] rfl (by decide) dX1_clearBuffer_7 ?_
  refine j_aload_n G 1 rfl dX1_clearBuffer_8 ?_
  refine j_get G FX1 (jAt_1 1 rfl) 10 (by decide) q194 rfl dX1_clearBuffer_9 ?_
  refine j_iconst G dX1_clearBuffer_12 ?_
  refine j_callV (wr := [[(x0, jO 0 [iI n, .ref nu, iI gr, iI pw, iI pr, iI ix, iI po, iI sd, iI gn, iI tk, .ref sb, lI hs])]]) (k' := 0) (n' := 0) G FJ1 (c_J1_setLength l u sb vb ml ct tx hct) (jAt_1 0 rfl) ⟨rfl, hY_J1_setLength⟩ q233 q234 q235 q87 q236 (jcut 3 [0, 2, 1] (by decide) rfl rfl) ⟨by omega, by omega, by omega, by omega, by omega, by omega⟩ (Nat.le_of_ble_eq_true rfl) dX1_clearBuffer_13 rfl (fun v_ w_ hp => ?_)
  obtain ⟨ml2_13, rfl, rfl⟩ := hp
  show jJ X u 2 [[(sb, jO 9 [.ref vb, iI 0, iI ml2_13, iI 0])], [(vb, cB u 60 tx)], [(x0, jO 0 [iI n, .ref nu, iI gr, iI pw, iI pr, iI ix, iI po, iI sd, iI gn, iI tk, .ref sb, lI hs])]] [(1, iI ct), (0, .ref x0)] 0 0 16 []
  refine j_iload_n G 0 rfl dX1_clearBuffer_16 ?_
  refine j_ws (ws' := [[(x0, jO 0 [iI n, .ref nu, iI gr, iI pw, iI pr, iI ix, iI po, iI sd, iI gn, iI tk, .ref sb, lI hs])], [(sb, jO 9 [.ref vb, iI 0, iI ml2_13, iI 0])], [(vb, cB u 60 tx)]]) (jperm 3 [2, 0, 1] (by decide) rfl rfl) ?_
  exact j_iret G E ⟨ml2_13, rfl, rfl⟩ ⟨by omega, by omega⟩ dX1_clearBuffer_17
theorem hY_X1_init : jY yX1_init 0 := ⟨by decide +kernel, by decide +kernel, by decide +kernel⟩
set_option maxHeartbeats 4000000 in
set_option maxRecDepth 100000 in
theorem c_X1_init (l : Launch) (u : jU) (x0 : Nat)  : jC l u yX1_init cX1_init 1 none 3 62 3 76 [.ref x0] [[(x0, jO 0 [iI 0, .null, iI 0, iI 0, iI 0, iI 0, iI 0, iI 0, iI 0, iI 0, .null, lI 0])]] (fun v_ w_ => ∃ (nu sb vb : Nat), v_ = none ∧ w_ = [[(x0, jO 0 [iI 3, .ref nu, iI 7, iI 0, iI 1, iI 0, iI 0, iI 0, iI 0, iI 0, .ref sb, lI 0])], [(nu, cI u 12 (fun _ => 0))], [(sb, jO 9 [.ref vb, iI 0, iI 0, iI 0])], [(vb, cB u 60 (fun _ => 0))]]) := by
  refine jC.of "FlashRatchet" (by decide +kernel) rfl (Nat.le_of_ble_eq_true rfl) [(0, .ref x0)] rfl (fun X G E I => ?_)
  have I := I rfl
  refine j_aload_n G 0 rfl dX1_init_0 ?_
  refine j_objInit G q135 q136 q137 ⟨by omega, by omega⟩ (Nat.le_of_ble_eq_true rfl) dX1_init_1 ?_
  refine j_aload_n G 0 rfl dX1_init_4 ?_
  refine j_iconst G dX1_init_5 ?_
  refine j_put (ws' := [[(x0, jO 0 [iI 3, .null, iI 0, iI 0, iI 0, iI 0, iI 0, iI 0, iI 0, iI 0, .null, lI 0])]]) G FX1 (jAt_1 0 rfl) 0 (by decide) q173 rfl rfl rfl (Nat.le_of_ble_eq_true rfl) dX1_init_6 rfl ?_
  refine j_aload_n G 0 rfl dX1_init_9 ?_
  refine j_bipush G (by decide) dX1_init_10 ?_
  refine j_newarr_i (k' := 1) (n' := 12) 12 G q170 rfl (by (try unfold iR at *); omega) ⟨by omega, by omega, by omega, by omega⟩ dX1_init_12 (fun o12 => ?_)
  refine j_putF (ws' := [[(o12, cI u 12 (fun _ => 0))], [(x0, jO 0 [iI 3, .ref o12, iI 0, iI 0, iI 0, iI 0, iI 0, iI 0, iI 0, iI 0, .null, lI 0])]]) G I FX1 (jAt_1 1 rfl) 1 (by decide) q175 rfl rfl rfl rfl (Nat.le_of_ble_eq_true rfl) dX1_init_14 rfl ?_
  refine j_aload_n G 0 rfl dX1_init_17 ?_
  refine j_bipush G (by decide) dX1_init_18 ?_
  refine j_put (ws' := [[(o12, cI u 12 (fun _ => 0))], [(x0, jO 0 [iI 3, .ref o12, iI 7, iI 0, iI 0, iI 0, iI 0, iI 0, iI 0, iI 0, .null, lI 0])]]) G FX1 (jAt_1 1 rfl) 2 (by decide) q177 rfl rfl rfl (Nat.le_of_ble_eq_true rfl) dX1_init_20 rfl ?_
  refine j_aload_n G 0 rfl dX1_init_23 ?_
  refine j_iconst G dX1_init_24 ?_
  refine j_put (ws' := [[(o12, cI u 12 (fun _ => 0))], [(x0, jO 0 [iI 3, .ref o12, iI 7, iI 0, iI 1, iI 0, iI 0, iI 0, iI 0, iI 0, .null, lI 0])]]) G FX1 (jAt_1 1 rfl) 4 (by decide) q181 rfl rfl rfl (Nat.le_of_ble_eq_true rfl) dX1_init_25 rfl ?_
  refine j_aload_n G 0 rfl dX1_init_28 ?_
  refine j_new (k' := 2) (n' := 16) [.null, iI 0, iI 0, iI 0] G FJ1 q138 q139 q87 (fun j hj => by rcases (show j = 0 ∨ j = 1 ∨ j = 2 ∨ j = 3 by omega) with rfl | rfl | rfl | rfl <;> rfl) ⟨by omega, by omega, by omega, by omega⟩ dX1_init_29 (fun o29 => ?_)
  refine j_dup G rfl dX1_init_32 ?_
  refine j_bipush G (by decide) dX1_init_33 ?_
  refine j_callI (wr := [[(o12, cI u 12 (fun _ => 0))], [(x0, jO 0 [iI 3, .ref o12, iI 7, iI 0, iI 1, iI 0, iI 0, iI 0, iI 0, iI 0, .null, lI 0])]]) (k' := 3) (n' := 76) G (c_J1_init l u o29 ) ⟨rfl, hY_J1_init⟩ q140 q141 q87 q142 (jcut 3 [0, 1, 2] (by decide) rfl rfl) ⟨by omega, by omega, by omega, by omega, by omega, by omega⟩ (Nat.le_of_ble_eq_true rfl) dX1_init_35 rfl (fun v_ w_ hp => ?_)
  obtain ⟨vb_35, rfl, rfl⟩ := hp
  show jJ X u 1 [[(o29, jO 9 [.ref vb_35, iI 0, iI 0, iI 0])], [(vb_35, cB u 60 (fun _ => 0))], [(o12, cI u 12 (fun _ => 0))], [(x0, jO 0 [iI 3, .ref o12, iI 7, iI 0, iI 1, iI 0, iI 0, iI 0, iI 0, iI 0, .null, lI 0])]] [(0, .ref x0)] 3 76 38 [.ref o29, .ref x0]
  refine j_putF (ws' := [[(o29, jO 9 [.ref vb_35, iI 0, iI 0, iI 0])], [(vb_35, cB u 60 (fun _ => 0))], [(o12, cI u 12 (fun _ => 0))], [(x0, jO 0 [iI 3, .ref o12, iI 7, iI 0, iI 1, iI 0, iI 0, iI 0, iI 0, iI 0, .ref o29, lI 0])]]) G I FX1 (jAt_1 3 rfl) 10 (by decide) q194 rfl rfl rfl rfl (Nat.le_of_ble_eq_true rfl) dX1_init_38 rfl ?_
  refine j_ws (ws' := [[(x0, jO 0 [iI 3, .ref o12, iI 7, iI 0, iI 1, iI 0, iI 0, iI 0, iI 0, iI 0, .ref o29, lI 0])], [(o12, cI u 12 (fun _ => 0))], [(o29, jO 9 [.ref vb_35, iI 0, iI 0, iI 0])], [(vb_35, cB u 60 (fun _ => 0))]]) (jperm 4 [3, 2, 0, 1] (by decide) rfl rfl) ?_
  exact j_vret G E ⟨o12, o29, vb_35, rfl, rfl⟩ ⟨by omega, by omega⟩ dX1_init_41
