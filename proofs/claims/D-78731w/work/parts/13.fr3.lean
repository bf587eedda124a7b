theorem hY_X3_init : jY yX3_init 1 := ⟨by decide +kernel, by decide +kernel, by decide +kernel⟩
set_option maxHeartbeats 4000000 in
set_option maxRecDepth 100000 in
theorem c_X3_init (l : Launch) (u : jU) (r0 : Nat) (x0 nu sb : Nat) (n gr pw pr ix po sd gn tk hs : Int)  : jC l u yX3_init cX3_init 2 none 1 20 0 0 [.ref r0, .ref x0] [[(r0, jO 2 [iI 0, iI 0, iI 0, iI 0, .null])], [(x0, jO 0 [iI n, .ref nu, iI gr, iI pw, iI pr, iI ix, iI po, iI sd, iI gn, iI tk, .ref sb, lI hs])]] (fun v_ w_ => v_ = none ∧ w_ = [[(r0, jO 2 [iI po, iI ix, iI sd, iI 0, .ref x0])], [(x0, jO 0 [iI n, .ref nu, iI gr, iI pw, iI pr, iI ix, iI po, iI sd, iI gn, iI tk, .ref sb, lI hs])]]) := by
  refine jC.of "FlashRatchet$Runner" (by decide +kernel) rfl (Nat.le_of_ble_eq_true rfl) [(0, .ref r0), (1, .ref x0)] rfl (fun X G E I => ?_)
  have I := I rfl
  refine j_aload_n G 0 rfl dX3_init_0 ?_
  refine j_aload_n G 1 rfl dX3_init_1 ?_
  refine j_putF (ws' := [[(r0, jO 2 [iI 0, iI 0, iI 0, iI 0, .ref x0])], [(x0, jO 0 [iI n, .ref nu, iI gr, iI pw, iI pr, iI ix, iI po, iI sd, iI gn, iI tk, .ref sb, lI hs])]]) G I FX3 (jAt_1 0 rfl) 4 (by decide) q1220 rfl rfl rfl rfl (Nat.le_of_ble_eq_true rfl) dX3_init_2 rfl ?_
  refine j_aload_n G 0 rfl dX3_init_5 ?_
  refine j_objInit G q1211 q136 q137 ⟨by omega, by omega⟩ (Nat.le_of_ble_eq_true rfl) dX3_init_6 ?_
  refine j_aload_n G 0 rfl dX3_init_9 ?_
  refine j_aload_n G 0 rfl dX3_init_10 ?_
  refine j_get G FX3 (jAt_1 0 rfl) 4 (by decide) q1220 rfl dX3_init_11 ?_
  refine j_getN G FX1 (jAt_1 1 rfl) 6 (by decide) q187 rfl dX3_init_14 ?_
  refine j_put (ws' := [[(r0, jO 2 [iI po, iI 0, iI 0, iI 0, .ref x0])], [(x0, jO 0 [iI n, .ref nu, iI gr, iI pw, iI pr, iI ix, iI po, iI sd, iI gn, iI tk, .ref sb, lI hs])]]) G FX3 (jAt_1 0 rfl) 0 (by decide) q1212 rfl rfl rfl (Nat.le_of_ble_eq_true rfl) dX3_init_17 rfl ?_
  refine j_aload_n G 0 rfl dX3_init_20 ?_
  refine j_aload_n G 0 rfl dX3_init_21 ?_
  refine j_get G FX3 (jAt_1 0 rfl) 4 (by decide) q1220 rfl dX3_init_22 ?_
  refine j_getN G FX1 (jAt_1 1 rfl) 5 (by decide) q183 rfl dX3_init_25 ?_
  refine j_put (ws' := [[(r0, jO 2 [iI po, iI ix, iI 0, iI 0, .ref x0])], [(x0, jO 0 [iI n, .ref nu, iI gr, iI pw, iI pr, iI ix, iI po, iI sd, iI gn, iI tk, .ref sb, lI hs])]]) G FX3 (jAt_1 0 rfl) 1 (by decide) q1214 rfl rfl rfl (Nat.le_of_ble_eq_true rfl) dX3_init_28 rfl ?_
  refine j_aload_n G 0 rfl dX3_init_31 ?_
  refine j_aload_n G 0 rfl dX3_init_32 ?_
  refine j_get G FX3 (jAt_1 0 rfl) 4 (by decide) q1220 rfl dX3_init_33 ?_
  refine j_getN G FX1 (jAt_1 1 rfl) 7 (by decide) q190 rfl dX3_init_36 ?_
  refine j_put (ws' := [[(r0, jO 2 [iI po, iI ix, iI sd, iI 0, .ref x0])], [(x0, jO 0 [iI n, .ref nu, iI gr, iI pw, iI pr, iI ix, iI po, iI sd, iI gn, iI tk, .ref sb, lI hs])]]) G FX3 (jAt_1 0 rfl) 2 (by decide) q1216 rfl rfl rfl (Nat.le_of_ble_eq_true rfl) dX3_init_39 rfl ?_
  exact j_vret G E ⟨rfl, rfl⟩ ⟨by omega, by omega⟩ dX3_init_42
theorem hY_X3_tick : jY yX3_tick 0 := ⟨by decide +kernel, by decide +kernel, by decide +kernel⟩
set_option maxHeartbeats 4000000 in
set_option maxRecDepth 100000 in
theorem c_X3_tick (l : Launch) (u : jU) (r0 : Nat) (x0 nu sb : Nat) (n gr pw pr ix po sd gn tk hs : Int)(nm : Int → Int) (a b d w : Int) (hn : 2 ≤ n ∧ n ≤ 4) (hg : 0 ≤ gr ∧ gr ≤ 7) (hw : 0 ≤ pw ∧ pw ≤ 15) (hp : sProg pr = 1) (hN : wN nm) (hq : wQ (n, gr, pw, pr, hB nm, hF nm) (a, b, d)) : jC l u yX3_tick cX3_tick 2 none 2 45 0 0 [.ref r0] [[(r0, jO 2 [iI a, iI b, iI d, iI w, .ref x0])], [(x0, jO 0 [iI n, .ref nu, iI gr, iI pw, iI pr, iI ix, iI po, iI sd, iI gn, iI tk, .ref sb, lI hs])], [(nu, cI u 12 nm)]] (fun v_ w_ => ∃ (a2 b2 d2 mv : Int), (a2, b2, d2) = tNx (n, gr, pw, pr, hB nm, hF nm) (a, b, d) ∧ mv = tMv (n, gr, pw, pr, hB nm, hF nm) (a, b, d) ∧ wQ (n, gr, pw, pr, hB nm, hF nm) (a2, b2, d2) ∧ v_ = none ∧ w_ = [[(r0, jO 2 [iI a2, iI b2, iI d2, iI (w + mv), .ref x0])], [(x0, jO 0 [iI n, .ref nu, iI gr, iI pw, iI pr, iI ix, iI po, iI sd, iI gn, iI tk, .ref sb, lI hs])], [(nu, cI u 12 nm)]]) := by
  refine jC.of "FlashRatchet$Runner" (by decide +kernel) rfl (Nat.le_of_ble_eq_true rfl) [(0, .ref r0)] rfl (fun X G E I => ?_)
  have hpi := sProg_in hp
  have hpl := sLen_prog hp
  obtain ⟨hq_1, hq_2, hq_3, hq_4, hq_5, hq_6⟩ := id hq
  refine j_aload_n G 0 rfl dX3_tick_0 ?_
  refine j_sipush G (by decide) dX3_tick_1 ?_
  refine j_aload_n G 0 rfl dX3_tick_4 ?_
  refine j_get G FX3 (jAt_1 0 rfl) 2 (by decide) q1216 rfl dX3_tick_5 ?_
  refine j_imul G dX3_tick_8 ?_
  refine j_sipush G (by decide) dX3_tick_9 ?_
  refine j_iadd G dX3_tick_12 ?_
  refine j_sipush G (by decide) dX3_tick_13 ?_
  refine j_iremN G (by (try unfold iR at *); omega) (by (try unfold iR at *); omega) dX3_tick_16 ?_
  refine j_put (ws' := [[(r0, jO 2 [iI a, iI b, iI (((141 * d) + 187) % 1000), iI w, .ref x0])], [(x0, jO 0 [iI n, .ref nu, iI gr, iI pw, iI pr, iI ix, iI po, iI sd, iI gn, iI tk, .ref sb, lI hs])], [(nu, cI u 12 nm)]]) G FX3 (jAt_1 0 rfl) 2 (by decide) q1216 rfl rfl rfl (Nat.le_of_ble_eq_true rfl) dX3_tick_17 rfl ?_
  refine j_aload_n G 0 rfl dX3_tick_20 ?_
  refine j_get G FX3 (jAt_1 0 rfl) 4 (by decide) q1220 rfl dX3_tick_21 ?_
  refine j_aload_n G 0 rfl dX3_tick_24 ?_
  refine j_get G FX3 (jAt_1 0 rfl) 4 (by decide) q1220 rfl dX3_tick_25 ?_
  refine j_getN G FX1 (jAt_1 1 rfl) 4 (by decide) q179 rfl dX3_tick_28 ?_
  refine j_aload_n G 0 rfl dX3_tick_31 ?_
  refine j_get G FX3 (jAt_1 0 rfl) 1 (by decide) q1214 rfl dX3_tick_32 ?_
  refine j_callSN (wr := [[(r0, jO 2 [iI a, iI b, iI (((141 * d) + 187) % 1000), iI w, .ref x0])], [(x0, jO 0 [iI n, .ref nu, iI gr, iI pw, iI pr, iI ix, iI po, iI sd, iI gn, iI tk, .ref sb, lI hs])], [(nu, cI u 12 nm)]]) (k' := 0) (n' := 0) G (c_X1_lever l u pr b hp ⟨hq_3, hq_4⟩) hY_X1_lever q1240 q704 q85 q705 (jcut 3 [0, 1, 2] (by decide) rfl rfl) ⟨by omega, by omega, by omega, by omega, by omega, by omega⟩ (Nat.le_of_ble_eq_true rfl) dX3_tick_35 rfl (fun v_ w_ hp => ?_)
  obtain ⟨r_35, h35_1, h35_2, rfl, rfl⟩ := hp
  show jJ X u 2 [[(r0, jO 2 [iI a, iI b, iI (((141 * d) + 187) % 1000), iI w, .ref x0])], [(x0, jO 0 [iI n, .ref nu, iI gr, iI pw, iI pr, iI ix, iI po, iI sd, iI gn, iI tk, .ref sb, lI hs])], [(nu, cI u 12 nm)]] [(0, .ref r0)] 0 0 38 [iI r_35, .ref x0]
  refine j_aload_n G 0 rfl dX3_tick_38 ?_
  refine j_get G FX3 (jAt_1 0 rfl) 0 (by decide) q1212 rfl dX3_tick_39 ?_
  refine j_aload_n G 0 rfl dX3_tick_42 ?_
  refine j_get G FX3 (jAt_1 0 rfl) 2 (by decide) q1216 rfl dX3_tick_43 ?_
  refine j_bipush G (by decide) dX3_tick_46 ?_
  refine j_idivN G (by (try unfold iR at *); omega) (by (try unfold iR at *); omega) dX3_tick_48 ?_
  refine j_callVN (wr := [[(r0, jO 2 [iI a, iI b, iI (((141 * d) + 187) % 1000), iI w, .ref x0])]]) (k' := 0) (n' := 0) G FX1 (c_X1_moveBy l u x0 nu sb n gr pw pr ix po sd gn tk hs nm r_35 a ((((141 * d) + 187) % 1000) / 100) h35_2 (by omega) (by omega) hg hw hN) (jAt_1 1 rfl) ⟨rfl, hY_X1_moveBy⟩ q1241 q1243 qs29 q85 q1244 (jcut 3 [1, 2, 0] (by decide) rfl rfl) ⟨by omega, by omega, by omega, by omega, by omega, by omega⟩ (Nat.le_of_ble_eq_true rfl) dX3_tick_49 rfl (fun v_ w_ hp => ?_)
  obtain ⟨r_49, h49_1, h49_2, rfl, rfl⟩ := hp
  show jJ X u 2 [[(x0, jO 0 [iI n, .ref nu, iI gr, iI pw, iI pr, iI ix, iI po, iI sd, iI gn, iI tk, .ref sb, lI hs])], [(nu, cI u 12 nm)], [(r0, jO 2 [iI a, iI b, iI (((141 * d) + 187) % 1000), iI w, .ref x0])]] [(0, .ref r0)] 0 0 52 [iI r_49]
  refine j_istore_n G [(1, iI r_49), (0, .ref r0)] rfl (by decide) dX3_tick_52 ?_
  refine j_aload_n G 1 rfl dX3_tick_53 ?_
  refine j_aload_n G 1 rfl dX3_tick_54 ?_
  refine j_get G FX3 (jAt_1 2 rfl) 4 (by decide) q1220 rfl dX3_tick_55 ?_
  refine j_aload_n G 1 rfl dX3_tick_58 ?_
  refine j_get G FX3 (jAt_1 2 rfl) 0 (by decide) q1212 rfl dX3_tick_59 ?_
  refine j_iload_n G 0 rfl dX3_tick_62 ?_
  refine j_callVN (wr := [[(nu, cI u 12 nm)], [(r0, jO 2 [iI a, iI b, iI (((141 * d) + 187) % 1000), iI w, .ref x0])]]) (k' := 0) (n' := 0) G FX1 (c_X1_moved l u x0 nu sb n gr pw pr ix po sd gn tk hs a r_49 hn (by omega) h49_2) (jAt_1 0 rfl) ⟨rfl, hY_X1_moved⟩ q1245 q730 qs16 q85 q731 (jcut 3 [0, 1, 2] (by decide) rfl rfl) ⟨by omega, by omega, by omega, by omega, by omega, by omega⟩ (Nat.le_of_ble_eq_true rfl) dX3_tick_63 rfl (fun v_ w_ hp => ?_)
  obtain ⟨r_63, h63_1, h63_2, rfl, rfl⟩ := hp
  show jJ X u 2 [[(x0, jO 0 [iI n, .ref nu, iI gr, iI pw, iI pr, iI ix, iI po, iI sd, iI gn, iI tk, .ref sb, lI hs])], [(nu, cI u 12 nm)], [(r0, jO 2 [iI a, iI b, iI (((141 * d) + 187) % 1000), iI w, .ref x0])]] [(1, iI r_49), (0, .ref r0)] 0 0 66 [iI r_63, .ref r0]
  refine j_put (ws' := [[(x0, jO 0 [iI n, .ref nu, iI gr, iI pw, iI pr, iI ix, iI po, iI sd, iI gn, iI tk, .ref sb, lI hs])], [(nu, cI u 12 nm)], [(r0, jO 2 [iI r_63, iI b, iI (((141 * d) + 187) % 1000), iI w, .ref x0])]]) G FX3 (jAt_1 2 rfl) 0 (by decide) q1212 rfl rfl rfl (Nat.le_of_ble_eq_true rfl) dX3_tick_66 rfl ?_
  refine j_aload_n G 1 rfl dX3_tick_69 ?_
  refine j_dup G rfl dX3_tick_70 ?_
  refine j_get G FX3 (jAt_1 2 rfl) 3 (by decide) q1218 rfl dX3_tick_71 ?_
  refine j_iload_n G 0 rfl dX3_tick_74 ?_
  refine j_iadd G dX3_tick_75 ?_
  refine j_put (ws' := [[(x0, jO 0 [iI n, .ref nu, iI gr, iI pw, iI pr, iI ix, iI po, iI sd, iI gn, iI tk, .ref sb, lI hs])], [(nu, cI u 12 nm)], [(r0, jO 2 [iI r_63, iI b, iI (((141 * d) + 187) % 1000), iI (w + r_49), .ref x0])]]) G FX3 (jAt_1 2 rfl) 3 (by decide) q1218 rfl rfl rfl (Nat.le_of_ble_eq_true rfl) dX3_tick_76 rfl ?_
  refine j_aload_n G 1 rfl dX3_tick_79 ?_
  refine j_aload_n G 1 rfl dX3_tick_80 ?_
  refine j_get G FX3 (jAt_1 2 rfl) 1 (by decide) q1214 rfl dX3_tick_81 ?_
  refine j_iconst G dX3_tick_84 ?_
  refine j_iadd G dX3_tick_85 ?_
  refine j_aload_n G 1 rfl dX3_tick_86 ?_
  refine j_get G FX3 (jAt_1 2 rfl) 4 (by decide) q1220 rfl dX3_tick_87 ?_
  refine j_getN G FX1 (jAt_1 0 rfl) 4 (by decide) q179 rfl dX3_tick_90 ?_
  refine j_callSN (wr := [[(x0, jO 0 [iI n, .ref nu, iI gr, iI pw, iI pr, iI ix, iI po, iI sd, iI gn, iI tk, .ref sb, lI hs])], [(nu, cI u 12 nm)], [(r0, jO 2 [iI r_63, iI b, iI (((141 * d) + 187) % 1000), iI (w + r_49), .ref x0])]]) (k' := 0) (n' := 0) G (c_X1_length l u pr (by unfold iR at *; omega)) hY_X1_length q1246 q679 q85 q680 (jcut 3 [0, 1, 2] (by decide) rfl rfl) ⟨by omega, by omega, by omega, by omega, by omega, by omega⟩ (Nat.le_of_ble_eq_true rfl) dX3_tick_93 rfl (fun v_ w_ hp => ?_)
  obtain ⟨r_93, h93_1, h93_2, rfl, rfl⟩ := hp
  show jJ X u 2 [[(x0, jO 0 [iI n, .ref nu, iI gr, iI pw, iI pr, iI ix, iI po, iI sd, iI gn, iI tk, .ref sb, lI hs])], [(nu, cI u 12 nm)], [(r0, jO 2 [iI r_63, iI b, iI (((141 * d) + 187) % 1000), iI (w + r_49), .ref x0])]] [(1, iI r_49), (0, .ref r0)] 0 0 96 [iI r_93, iI (b + 1), .ref r0]
  refine j_iremN G (by (try unfold iR at *); omega) (by (try unfold iR at *); omega) dX3_tick_96 ?_
  refine j_put (ws' := [[(x0, jO 0 [iI n, .ref nu, iI gr, iI pw, iI pr, iI ix, iI po, iI sd, iI gn, iI tk, .ref sb, lI hs])], [(nu, cI u 12 nm)], [(r0, jO 2 [iI r_63, iI ((b + 1) % r_93), iI (((141 * d) + 187) % 1000), iI (w + r_49), .ref x0])]]) G FX3 (jAt_1 2 rfl) 1 (by decide) q1214 rfl rfl rfl (Nat.le_of_ble_eq_true rfl) dX3_tick_97 rfl ?_
  have hfin : ((r_63 : Int), ((b + 1) % r_93 : Int), ((141 * d + 187) % 1000 : Int)) = tNx (n, gr, pw, pr, hB nm, hF nm) (a, b, d) := by
    rw [h63_1, h93_1, h49_1, h35_1]; rfl
  refine j_ws (ws' := [[(r0, jO 2 [iI r_63, iI ((b + 1) % r_93), iI (((141 * d) + 187) % 1000), iI (w + r_49), .ref x0])], [(x0, jO 0 [iI n, .ref nu, iI gr, iI pw, iI pr, iI ix, iI po, iI sd, iI gn, iI tk, .ref sb, lI hs])], [(nu, cI u 12 nm)]]) (jperm 3 [2, 0, 1] (by decide) rfl rfl) ?_
  exact j_vret G E ⟨r_63, ((b + 1) % r_93), (((141 * d) + 187) % 1000), r_49, hfin, (by rw [h49_1, h35_1]; rfl), (by rw [hfin]; exact wQ_nx ⟨hn, hg, hw, hp, wN_T hN⟩ hq), rfl, rfl⟩ ⟨by omega, by omega⟩ dX3_tick_100
theorem hY_X3_go : jY yX3_go 1 := ⟨by decide +kernel, by decide +kernel, by decide +kernel⟩
set_option maxHeartbeats 4000000 in
set_option maxRecDepth 100000 in
theorem c_X3_go (l : Launch) (u : jU) (r0 : Nat) (x0 nu sb : Nat) (n gr pw pr ix po sd gn tk hs : Int)(nm : Int → Int) (a b d w t : Int) (hn : 2 ≤ n ∧ n ≤ 4) (hg : 0 ≤ gr ∧ gr ≤ 7) (hw : 0 ≤ pw ∧ pw ≤ 15) (hp : sProg pr = 1) (hN : wN nm) (hq : wQ (n, gr, pw, pr, hB nm, hF nm) (a, b, d)) (ht : 0 ≤ t ∧ t ≤ 100000) : jC l u yX3_go cX3_go 3 none 3 66 0 0 [.ref r0, iI t] [[(r0, jO 2 [iI a, iI b, iI d, iI w, .ref x0])], [(x0, jO 0 [iI n, .ref nu, iI gr, iI pw, iI pr, iI ix, iI po, iI sd, iI gn, iI tk, .ref sb, lI hs])], [(nu, cI u 12 nm)]] (fun v_ w_ => ∃ (a2 b2 d2 w2 : Int), (a2, b2, d2) = tIt (n, gr, pw, pr, hB nm, hF nm) t.toNat (a, b, d) ∧ w2 = w + tSum (n, gr, pw, pr, hB nm, hF nm) t.toNat (a, b, d) ∧ v_ = none ∧ w_ = [[(r0, jO 2 [iI a2, iI b2, iI d2, iI w2, .ref x0])], [(x0, jO 0 [iI n, .ref nu, iI gr, iI pw, iI pr, iI ix, iI po, iI sd, iI gn, iI tk, .ref sb, lI hs])], [(nu, cI u 12 nm)]]) := by
  refine jC.of "FlashRatchet$Runner" (by decide +kernel) rfl (Nat.le_of_ble_eq_true rfl) [(0, .ref r0), (1, iI t)] rfl (fun X G E I => ?_)
  refine j_iconst G dX3_go_0 ?_
  refine j_istore_n G [(2, iI 0), (0, .ref r0), (1, iI t)] rfl (by decide) dX3_go_1 ?_
  have L2 : ∀ (m : Nat) (j : Nat) (a2 : Int) (b2 : Int) (d2 : Int) (w2 : Int) (k : Int), t.toNat - j < m → k = j → (a2, b2, d2) = tIt (n, gr, pw, pr, hB nm, hF nm) j (a, b, d) → w2 = w + tSum (n, gr, pw, pr, hB nm, hF nm) j (a, b, d) → j ≤ t.toNat → jJ X u 3 [[(r0, jO 2 [iI a2, iI b2, iI d2, iI w2, .ref x0])], [(x0, jO 0 [iI n, .ref nu, iI gr, iI pw, iI pr, iI ix, iI po, iI sd, iI gn, iI tk, .ref sb, lI hs])], [(nu, cI u 12 nm)]] [(0, .ref r0), (1, iI t), (2, iI k)] 0 0 2 [] := by
    intro m
    induction m with
    | zero =>
      intro j a2 b2 d2 w2 k g1 g2 g3 g4 g5
      exfalso
      omega
    | succ m ih_L2 =>
      intro j a2 b2 d2 w2 k g1 g2 g3 g4 g5
      have hq2 : wQ (n, gr, pw, pr, hB nm, hF nm) (a2, b2, d2) := by rw [g3]; exact wQ_it ⟨hn, hg, hw, hp, wN_T hN⟩ hq j
      refine j_iload_n G 2 rfl dX3_go_2 ?_
      refine j_iload_n G 1 rfl dX3_go_3 ?_
      refine j_icmp_ge 17 G (by unfold iR at *; omega) (by unfold iR at *; omega) dX3_go_4 (by decide) (fun c_4 => ?_) (fun c_4 => ?_)
      · skip
        have hj : j = t.toNat := by omega
        subst hj
        exact j_vret G E ⟨a2, b2, d2, w2, g3, g4, rfl, rfl⟩ ⟨by omega, by omega⟩ dX3_go_17
      · skip
        refine j_aload_n G 0 rfl dX3_go_7 ?_
        refine j_callV (wr := []) (k' := 0) (n' := 0) G FX3 (c_X3_tick l u r0 x0 nu sb n gr pw pr ix po sd gn tk hs nm a2 b2 d2 w2 hn hg hw hp hN hq2) (jAt_1 0 rfl) ⟨rfl, hY_X3_tick⟩ q1255 q1237 q1238 q100 q1239 (jcut 3 [0, 1, 2] (by decide) rfl rfl) ⟨by omega, by omega, by omega, by omega, by omega, by omega⟩ (Nat.le_of_ble_eq_true rfl) dX3_go_8 rfl (fun v_ w_ hp => ?_)
        obtain ⟨a2_8, b2_8, d2_8, mv_8, h8_1, h8_2, h8_3, rfl, rfl⟩ := hp
        show jJ X u 3 [[(r0, jO 2 [iI a2_8, iI b2_8, iI d2_8, iI (w2 + mv_8), .ref x0])], [(x0, jO 0 [iI n, .ref nu, iI gr, iI pw, iI pr, iI ix, iI po, iI sd, iI gn, iI tk, .ref sb, lI hs])], [(nu, cI u 12 nm)]] [(0, .ref r0), (1, iI t), (2, iI k)] 0 0 11 []
        refine j_iinc G 2 rfl [(2, iI (k + 1)), (0, .ref r0), (1, iI t)] rfl (by decide) dX3_go_11 ?_
        refine j_goto 2 G dX3_go_14 (by decide) ?_
        refine j_lv [1, 2, 0] rfl ?_
        exact ih_L2 (j + 1) a2_8 b2_8 d2_8 (w2 + mv_8) (k + 1) (by (try unfold iR at *); omega) (by (try unfold iR at *); omega) (by rw [h8_1, g3]; rfl) (by rw [h8_2, g4, g3, Int.add_assoc]; rfl) (by (try unfold iR at *); omega)
  refine j_lv [1, 2, 0] rfl ?_
  exact L2 (t.toNat + 1) 0 a b d w 0 (by (try unfold iR at *); omega) rfl rfl (Int.add_zero w).symm (by (try unfold iR at *); omega)
theorem hY_X3_isLike : jY yX3_isLike 1 := ⟨by decide +kernel, by decide +kernel, by decide +kernel⟩
set_option maxHeartbeats 4000000 in
set_option maxRecDepth 100000 in
theorem c_X3_isLike (l : Launch) (u : jU) (r0 r1 x0 : Nat) (a b d w a1 b1 d1 w1 : Int) (hRa : iR a) (hRb : iR b) (hRd : iR d) (hRa1 : iR a1) (hRb1 : iR b1) (hRd1 : iR d1) : jC l u yX3_isLike cX3_isLike 2 (some .boolean) 0 0 0 0 [.ref r0, .ref r1] [[(r0, jO 2 [iI a, iI b, iI d, iI w, .ref x0])], [(r1, jO 2 [iI a1, iI b1, iI d1, iI w1, .ref x0])]] (fun v_ w_ => ∃ (r : Int), ((r = 1 ∧ (a, b, d) = (a1, b1, d1)) ∨ (r = 0 ∧ (a, b, d) ≠ (a1, b1, d1))) ∧ v_ = some (iI r) ∧ w_ = [[(r0, jO 2 [iI a, iI b, iI d, iI w, .ref x0])], [(r1, jO 2 [iI a1, iI b1, iI d1, iI w1, .ref x0])]]) := by
  refine jC.of "FlashRatchet$Runner" (by decide +kernel) rfl (Nat.le_of_ble_eq_true rfl) [(0, .ref r0), (1, .ref r1)] rfl (fun X G E I => ?_)
  refine j_aload_n G 0 rfl dX3_isLike_0 ?_
  refine j_get G FX3 (jAt_1 0 rfl) 0 (by decide) q1212 rfl dX3_isLike_1 ?_
  refine j_aload_n G 1 rfl dX3_isLike_4 ?_
  refine j_get G FX3 (jAt_1 1 rfl) 0 (by decide) q1212 rfl dX3_isLike_5 ?_
  refine j_icmp_ne 37 G hRa hRa1 dX3_isLike_8 (by decide) (fun c_8 => ?_) (fun c_8 => ?_)
  · skip
    refine j_iconst G dX3_isLike_37 ?_
    exact j_zret G E (by (try unfold iR at *); omega) ⟨0, (by first | (refine Or.inl ⟨rfl, ?_⟩; rw [c_8, c_19, c_30]) | (refine Or.inr ⟨rfl, fun he => ?_⟩; injection he with e1 e2; injection e2 with e2 e3; first | exact c_30 e3 | exact c_19 e2 | exact c_8 e1)), rfl, rfl⟩ ⟨by omega, by omega⟩ dX3_isLike_38
  · skip
    refine j_aload_n G 0 rfl dX3_isLike_11 ?_
    refine j_get G FX3 (jAt_1 0 rfl) 1 (by decide) q1214 rfl dX3_isLike_12 ?_
    refine j_aload_n G 1 rfl dX3_isLike_15 ?_
    refine j_get G FX3 (jAt_1 1 rfl) 1 (by decide) q1214 rfl dX3_isLike_16 ?_
    refine j_icmp_ne 37 G hRb hRb1 dX3_isLike_19 (by decide) (fun c_19 => ?_) (fun c_19 => ?_)
    · skip
      refine j_iconst G dX3_isLike_37 ?_
      exact j_zret G E (by (try unfold iR at *); omega) ⟨0, (by first | (refine Or.inl ⟨rfl, ?_⟩; rw [c_8, c_19, c_30]) | (refine Or.inr ⟨rfl, fun he => ?_⟩; injection he with e1 e2; injection e2 with e2 e3; first | exact c_30 e3 | exact c_19 e2 | exact c_8 e1)), rfl, rfl⟩ ⟨by omega, by omega⟩ dX3_isLike_38
    · skip
      refine j_aload_n G 0 rfl dX3_isLike_22 ?_
      refine j_get G FX3 (jAt_1 0 rfl) 2 (by decide) q1216 rfl dX3_isLike_23 ?_
      refine j_aload_n G 1 rfl dX3_isLike_26 ?_
      refine j_get G FX3 (jAt_1 1 rfl) 2 (by decide) q1216 rfl dX3_isLike_27 ?_
      refine j_icmp_ne 37 G hRd hRd1 dX3_isLike_30 (by decide) (fun c_30 => ?_) (fun c_30 => ?_)
      · skip
        refine j_iconst G dX3_isLike_37 ?_
        exact j_zret G E (by (try unfold iR at *); omega) ⟨0, (by first | (refine Or.inl ⟨rfl, ?_⟩; rw [c_8, c_19, c_30]) | (refine Or.inr ⟨rfl, fun he => ?_⟩; injection he with e1 e2; injection e2 with e2 e3; first | exact c_30 e3 | exact c_19 e2 | exact c_8 e1)), rfl, rfl⟩ ⟨by omega, by omega⟩ dX3_isLike_38
      · skip
        refine j_iconst G dX3_isLike_33 ?_
        refine j_goto 38 G dX3_isLike_34 (by decide) ?_
        exact j_zret G E (by (try unfold iR at *); omega) ⟨1, (by first | (refine Or.inl ⟨rfl, ?_⟩; rw [c_8, c_19, c_30]) | (refine Or.inr ⟨rfl, fun he => ?_⟩; injection he with e1 e2; injection e2 with e2 e3; first | exact c_30 e3 | exact c_19 e2 | exact c_8 e1)), rfl, rfl⟩ ⟨by omega, by omega⟩ dX3_isLike_38
theorem hY_X3_take : jY yX3_take 1 := ⟨by decide +kernel, by decide +kernel, by decide +kernel⟩
set_option maxHeartbeats 4000000 in
set_option maxRecDepth 100000 in
theorem c_X3_take (l : Launch) (u : jU) (r0 r1 x0 : Nat) (a b d w a1 b1 d1 w1 : Int)  : jC l u yX3_take cX3_take 2 none 0 0 0 0 [.ref r0, .ref r1] [[(r0, jO 2 [iI a, iI b, iI d, iI w, .ref x0])], [(r1, jO 2 [iI a1, iI b1, iI d1, iI w1, .ref x0])]] (fun v_ w_ => v_ = none ∧ w_ = [[(r0, jO 2 [iI a1, iI b1, iI d1, iI w, .ref x0])], [(r1, jO 2 [iI a1, iI b1, iI d1, iI w1, .ref x0])]]) := by
  refine jC.of "FlashRatchet$Runner" (by decide +kernel) rfl (Nat.le_of_ble_eq_true rfl) [(0, .ref r0), (1, .ref r1)] rfl (fun X G E I => ?_)
  refine j_aload_n G 0 rfl dX3_take_0 ?_
  refine j_aload_n G 1 rfl dX3_take_1 ?_
  refine j_get G FX3 (jAt_1 1 rfl) 0 (by decide) q1212 rfl dX3_take_2 ?_
  refine j_put (ws' := [[(r0, jO 2 [iI a1, iI b, iI d, iI w, .ref x0])], [(r1, jO 2 [iI a1, iI b1, iI d1, iI w1, .ref x0])]]) G FX3 (jAt_1 0 rfl) 0 (by decide) q1212 rfl rfl rfl (Nat.le_of_ble_eq_true rfl) dX3_take_5 rfl ?_
  refine j_aload_n G 0 rfl dX3_take_8 ?_
  refine j_aload_n G 1 rfl dX3_take_9 ?_
  refine j_get G FX3 (jAt_1 1 rfl) 1 (by decide) q1214 rfl dX3_take_10 ?_
  refine j_put (ws' := [[(r0, jO 2 [iI a1, iI b1, iI d, iI w, .ref x0])], [(r1, jO 2 [iI a1, iI b1, iI d1, iI w1, .ref x0])]]) G FX3 (jAt_1 0 rfl) 1 (by decide) q1214 rfl rfl rfl (Nat.le_of_ble_eq_true rfl) dX3_take_13 rfl ?_
  refine j_aload_n G 0 rfl dX3_take_16 ?_
  refine j_aload_n G 1 rfl dX3_take_17 ?_
  refine j_get G FX3 (jAt_1 1 rfl) 2 (by decide) q1216 rfl dX3_take_18 ?_
  refine j_put (ws' := [[(r0, jO 2 [iI a1, iI b1, iI d1, iI w, .ref x0])], [(r1, jO 2 [iI a1, iI b1, iI d1, iI w1, .ref x0])]]) G FX3 (jAt_1 0 rfl) 2 (by decide) q1216 rfl rfl rfl (Nat.le_of_ble_eq_true rfl) dX3_take_21 rfl ?_
  exact j_vret G E ⟨rfl, rfl⟩ ⟨by omega, by omega⟩ dX3_take_24
theorem hY_X1_run : jY yX1_run 1 := ⟨by decide +kernel, by decide +kernel, by decide +kernel⟩
set_option maxHeartbeats 4000000 in
set_option maxRecDepth 100000 in
theorem c_X1_run (l : Launch) (u : jU) (x0 nu sb : Nat) (n gr pw pr ix po sd gn tk hs : Int)(nm : Int → Int) (t : Int) (hl0 : l.stackTraces = false) (hRt : iR t) (hn : 2 ≤ n ∧ n ≤ 4) (hg : 0 ≤ gr ∧ gr ≤ 7) (hw : 0 ≤ pw ∧ pw ≤ 15) (hp : sProg pr = 1) (hN : wN nm) (hq : wQ (n, gr, pw, pr, hB nm, hF nm) (po, ix, sd)) (htk : 0 ≤ tk ∧ tk ≤ 1000000) : jCX l u yX1_run cX1_run 3 (some .int) 7 109 3 17 [.ref x0, iI t] [[(x0, jO 0 [iI n, .ref nu, iI gr, iI pw, iI pr, iI ix, iI po, iI sd, iI gn, iI tk, .ref sb, lI hs])], [(nu, cI u 12 nm)]] (fun v_ w_ => ∃ (a2 b2 d2 s2 : Int), (1 ≤ t ∧ t ≤ 500) ∧ tk + t ≤ 1000000 ∧ (a2, b2, d2) = tIt (n, gr, pw, pr, hB nm, hF nm) t.toNat (po, ix, sd) ∧ s2 = tSum (n, gr, pw, pr, hB nm, hF nm) t.toNat (po, ix, sd) ∧ v_ = some (iI (gn + s2)) ∧ w_ = [[(x0, jO 0 [iI n, .ref nu, iI gr, iI pw, iI pr, iI b2, iI a2, iI d2, iI (gn + s2), iI (tk + t), .ref sb, lI hs])], [(nu, cI u 12 nm)]]) (fun E_ w_ => (E_ = "java/lang/IllegalArgumentException" ∧ (¬ (1 ≤ t ∧ t ≤ 500)) ∧ w_ = [[(x0, jO 0 [iI n, .ref nu, iI gr, iI pw, iI pr, iI ix, iI po, iI sd, iI gn, iI tk, .ref sb, lI hs])], [(nu, cI u 12 nm)]]) ∨ (E_ = "java/lang/IllegalStateException" ∧ (1 ≤ t ∧ t ≤ 500) ∧ ¬ (tk + t ≤ 1000000) ∧ w_ = [[(x0, jO 0 [iI n, .ref nu, iI gr, iI pw, iI pr, iI ix, iI po, iI sd, iI gn, iI tk, .ref sb, lI hs])], [(nu, cI u 12 nm)]])) := by
  refine jCX.of "FlashRatchet" (by decide +kernel) rfl (Nat.le_of_ble_eq_true rfl) [(0, .ref x0), (1, iI t)] rfl (fun X G EX => ?_)
  have E := EX.E
  refine j_iload_n G 1 rfl dX1_run_0 ?_
  refine j_iconst G dX1_run_1 ?_
  refine j_sipush G (by decide) dX1_run_2 ?_
  refine j_callS (wr := [[(x0, jO 0 [iI n, .ref nu, iI gr, iI pw, iI pr, iI ix, iI po, iI sd, iI gn, iI tk, .ref sb, lI hs])], [(nu, cI u 12 nm)]]) (k' := 0) (n' := 0) G (c_X1_inRange l u t 1 500 hRt (by unfold iR; omega) (by unfold iR; omega)) hY_X1_inRange q658 q659 q85 q660 (jcut 2 [0, 1] (by decide) rfl rfl) ⟨by omega, by omega, by omega, by omega, by omega, by omega⟩ (Nat.le_of_ble_eq_true rfl) dX1_run_5 rfl (fun v_ w_ hp => ?_)
  obtain ⟨r_5, h5_1, rfl, rfl⟩ := hp
  show jJ X u 3 [[(x0, jO 0 [iI n, .ref nu, iI gr, iI pw, iI pr, iI ix, iI po, iI sd, iI gn, iI tk, .ref sb, lI hs])], [(nu, cI u 12 nm)]] [(0, .ref x0), (1, iI t)] 0 0 8 [iI r_5]
  refine jx_callS (wr := [[(x0, jO 0 [iI n, .ref nu, iI gr, iI pw, iI pr, iI ix, iI po, iI sd, iI gn, iI tk, .ref sb, lI hs])], [(nu, cI u 12 nm)]]) (k' := 1) (n' := 6) G (c_X1_require l u r_5 hl0 (by (try unfold iR at *); omega)) hY_X1_require q1614 q1615 q85 q1616 (jcut 2 [0, 1] (by decide) rfl rfl) ⟨by omega, by omega, by omega, by omega, by omega, by omega⟩ (Nat.le_of_ble_eq_true rfl) dX1_run_8 rfl (fun E_ w_ hp => ?_) (fun v_ w_ hp => ?_)
  · skip
    rcases hp with ⟨rfl, x8_1, rfl⟩
    · skip
      exact jx_out G EX (Or.inl ⟨rfl, (by (try unfold iR at *); omega), rfl⟩) ⟨by omega, by omega⟩
  · skip
    obtain ⟨h8_1, rfl, rfl⟩ := hp
    show jJ X u 3 [[(x0, jO 0 [iI n, .ref nu, iI gr, iI pw, iI pr, iI ix, iI po, iI sd, iI gn, iI tk, .ref sb, lI hs])], [(nu, cI u 12 nm)]] [(0, .ref x0), (1, iI t)] 1 6 11 []
    refine j_aload_n G 0 rfl dX1_run_11 ?_
    refine j_get G FX1 (jAt_1 0 rfl) 9 (by decide) q193 rfl dX1_run_12 ?_
    refine j_iload_n G 1 rfl dX1_run_15 ?_
    refine j_iadd G dX1_run_16 ?_
    refine j_ldc 1000000 G q1697 (by decide) dX1_run_17 ?_
    refine j_icmp_gt 26 G (by unfold iR at *; omega) (by unfold iR; omega) dX1_run_19 (by decide) (fun c_19 => ?_) (fun c_19 => ?_)
    · skip
      refine j_iconst G dX1_run_26 ?_
      refine jx_callS (wr := [[(x0, jO 0 [iI n, .ref nu, iI gr, iI pw, iI pr, iI ix, iI po, iI sd, iI gn, iI tk, .ref sb, lI hs])], [(nu, cI u 12 nm)]]) (k' := 2) (n' := 12) G (c_X1_requireState l u 0 hl0 (by (try unfold iR at *); omega)) hY_X1_requireState q1698 q1699 q85 q1700 (jcut 2 [0, 1] (by decide) rfl rfl) ⟨by omega, by omega, by omega, by omega, by omega, by omega⟩ (Nat.le_of_ble_eq_true rfl) dX1_run_27 rfl (fun E_ w_ hp => ?_) (fun v_ w_ hp => ?_)
      · skip
        rcases hp with ⟨rfl, x27_1, rfl⟩
        · skip
          exact jx_out G EX (Or.inr ⟨rfl, (by (try unfold iR at *); omega), (by (try unfold iR at *); omega), rfl⟩) ⟨by omega, by omega⟩
      · skip
        obtain ⟨h27_1, rfl, rfl⟩ := hp
        show jJ X u 3 [[(x0, jO 0 [iI n, .ref nu, iI gr, iI pw, iI pr, iI ix, iI po, iI sd, iI gn, iI tk, .ref sb, lI hs])], [(nu, cI u 12 nm)]] [(0, .ref x0), (1, iI t)] 2 12 30 []
        refine j_new (k' := 3) (n' := 17) [iI 0, iI 0, iI 0, iI 0, .null] G FX3 q1206 q1207 q100 (fun j hj => by rcases (show j = 0 ∨ j = 1 ∨ j = 2 ∨ j = 3 ∨ j = 4 by omega) with rfl | rfl | rfl | rfl | rfl <;> rfl) ⟨by omega, by omega, by omega, by omega⟩ dX1_run_30 (fun o30 => ?_)
        refine j_dup G rfl dX1_run_33 ?_
        refine j_aload_n G 0 rfl dX1_run_34 ?_
        refine j_callI (wr := [[(nu, cI u 12 nm)]]) (k' := 3) (n' := 17) G (c_X3_init l u o30 x0 nu sb n gr pw pr ix po sd gn tk hs ) ⟨rfl, hY_X3_init⟩ q1208 q1209 q100 q1210 (jcut 3 [0, 1, 2] (by decide) rfl rfl) ⟨by omega, by omega, by omega, by omega, by omega, by omega⟩ (Nat.le_of_ble_eq_true rfl) dX1_run_35 rfl (fun v_ w_ hp => ?_)
        obtain ⟨rfl, rfl⟩ := hp
        show jJ X u 3 [[(o30, jO 2 [iI po, iI ix, iI sd, iI 0, .ref x0])], [(x0, jO 0 [iI n, .ref nu, iI gr, iI pw, iI pr, iI ix, iI po, iI sd, iI gn, iI tk, .ref sb, lI hs])], [(nu, cI u 12 nm)]] [(0, .ref x0), (1, iI t)] 3 17 38 [.ref o30]
        refine j_astore_n G [(2, .ref o30), (0, .ref x0), (1, iI t)] rfl (by decide) dX1_run_38 ?_
        refine j_aload_n G 0 rfl dX1_run_39 ?_
        refine j_iload_n G 2 rfl dX1_run_40 ?_
        refine j_callV (wr := []) (k' := 3) (n' := 17) G FX3 (c_X3_go l u o30 x0 nu sb n gr pw pr ix po sd gn tk hs nm po ix sd 0 t hn hg hw hp hN hq (by (try unfold iR at *); omega)) (jAt_1 0 rfl) ⟨rfl, hY_X3_go⟩ q1251 q1252 q1253 q100 q1254 (jcut 3 [0, 1, 2] (by decide) rfl rfl) ⟨by omega, by omega, by omega, by omega, by omega, by omega⟩ (Nat.le_of_ble_eq_true rfl) dX1_run_41 rfl (fun v_ w_ hp => ?_)
        obtain ⟨a2_41, b2_41, d2_41, w2_41, h41_1, h41_2, rfl, rfl⟩ := hp
        subst h41_2
        show jJ X u 3 [[(o30, jO 2 [iI a2_41, iI b2_41, iI d2_41, iI (0 + tSum (n, gr, pw, pr, hB nm, hF nm) t.toNat (po, ix, sd)), .ref x0])], [(x0, jO 0 [iI n, .ref nu, iI gr, iI pw, iI pr, iI ix, iI po, iI sd, iI gn, iI tk, .ref sb, lI hs])], [(nu, cI u 12 nm)]] [(2, .ref o30), (0, .ref x0), (1, iI t)] 3 17 44 []
        refine j_aload_n G 1 rfl dX1_run_44 ?_
        refine j_aload_n G 0 rfl dX1_run_45 ?_
        refine j_getN G FX3 (jAt_1 0 rfl) 0 (by decide) q1213 rfl dX1_run_46 ?_
        refine j_put (ws' := [[(o30, jO 2 [iI a2_41, iI b2_41, iI d2_41, iI (0 + tSum (n, gr, pw, pr, hB nm, hF nm) t.toNat (po, ix, sd)), .ref x0])], [(x0, jO 0 [iI n, .ref nu, iI gr, iI pw, iI pr, iI ix, iI a2_41, iI sd, iI gn, iI tk, .ref sb, lI hs])], [(nu, cI u 12 nm)]]) G FX1 (jAt_1 1 rfl) 6 (by decide) q189 rfl rfl rfl (Nat.le_of_ble_eq_true rfl) dX1_run_49 rfl ?_
        refine j_aload_n G 1 rfl dX1_run_52 ?_
        refine j_aload_n G 0 rfl dX1_run_53 ?_
        refine j_getN G FX3 (jAt_1 0 rfl) 1 (by decide) q1215 rfl dX1_run_54 ?_
        refine j_put (ws' := [[(o30, jO 2 [iI a2_41, iI b2_41, iI d2_41, iI (0 + tSum (n, gr, pw, pr, hB nm, hF nm) t.toNat (po, ix, sd)), .ref x0])], [(x0, jO 0 [iI n, .ref nu, iI gr, iI pw, iI pr, iI b2_41, iI a2_41, iI sd, iI gn, iI tk, .ref sb, lI hs])], [(nu, cI u 12 nm)]]) G FX1 (jAt_1 1 rfl) 5 (by decide) q186 rfl rfl rfl (Nat.le_of_ble_eq_true rfl) dX1_run_57 rfl ?_
        refine j_aload_n G 1 rfl dX1_run_60 ?_
        refine j_aload_n G 0 rfl dX1_run_61 ?_
        refine j_getN G FX3 (jAt_1 0 rfl) 2 (by decide) q1217 rfl dX1_run_62 ?_
        refine j_put (ws' := [[(o30, jO 2 [iI a2_41, iI b2_41, iI d2_41, iI (0 + tSum (n, gr, pw, pr, hB nm, hF nm) t.toNat (po, ix, sd)), .ref x0])], [(x0, jO 0 [iI n, .ref nu, iI gr, iI pw, iI pr, iI b2_41, iI a2_41, iI d2_41, iI gn, iI tk, .ref sb, lI hs])], [(nu, cI u 12 nm)]]) G FX1 (jAt_1 1 rfl) 7 (by decide) q191 rfl rfl rfl (Nat.le_of_ble_eq_true rfl) dX1_run_65 rfl ?_
        refine j_aload_n G 1 rfl dX1_run_68 ?_
        refine j_dup G rfl dX1_run_69 ?_
        refine j_get G FX1 (jAt_1 1 rfl) 8 (by decide) q192 rfl dX1_run_70 ?_
        refine j_aload_n G 0 rfl dX1_run_73 ?_
        refine j_getN G FX3 (jAt_1 0 rfl) 3 (by decide) q1219 rfl dX1_run_74 ?_
        refine j_iadd G dX1_run_77 ?_
        refine j_put (ws' := [[(o30, jO 2 [iI a2_41, iI b2_41, iI d2_41, iI (0 + tSum (n, gr, pw, pr, hB nm, hF nm) t.toNat (po, ix, sd)), .ref x0])], [(x0, jO 0 [iI n, .ref nu, iI gr, iI pw, iI pr, iI b2_41, iI a2_41, iI d2_41, iI (gn + (0 + tSum (n, gr, pw, pr, hB nm, hF nm) t.toNat (po, ix, sd))), iI tk, .ref sb, lI hs])], [(nu, cI u 12 nm)]]) G FX1 (jAt_1 1 rfl) 8 (by decide) q192 rfl rfl rfl (Nat.le_of_ble_eq_true rfl) dX1_run_78 rfl ?_
        refine j_aload_n G 1 rfl dX1_run_81 ?_
        refine j_dup G rfl dX1_run_82 ?_
        refine j_get G FX1 (jAt_1 1 rfl) 9 (by decide) q193 rfl dX1_run_83 ?_
        refine j_iload_n G 2 rfl dX1_run_86 ?_
        refine j_iadd G dX1_run_87 ?_
        refine j_put (ws' := [[(o30, jO 2 [iI a2_41, iI b2_41, iI d2_41, iI (0 + tSum (n, gr, pw, pr, hB nm, hF nm) t.toNat (po, ix, sd)), .ref x0])], [(x0, jO 0 [iI n, .ref nu, iI gr, iI pw, iI pr, iI b2_41, iI a2_41, iI d2_41, iI (gn + (0 + tSum (n, gr, pw, pr, hB nm, hF nm) t.toNat (po, ix, sd))), iI (tk + t), .ref sb, lI hs])], [(nu, cI u 12 nm)]]) G FX1 (jAt_1 1 rfl) 9 (by decide) q193 rfl rfl rfl (Nat.le_of_ble_eq_true rfl) dX1_run_88 rfl ?_
        refine j_aload_n G 1 rfl dX1_run_91 ?_
        refine j_get G FX1 (jAt_1 1 rfl) 8 (by decide) q192 rfl dX1_run_92 ?_
        refine j_drop ?_
        exact j_iret G E ⟨a2_41, b2_41, d2_41, (0 + tSum (n, gr, pw, pr, hB nm, hF nm) t.toNat (po, ix, sd)), (by omega), (by omega), h41_1, (Int.zero_add _), rfl, rfl⟩ ⟨by omega, by omega⟩ dX1_run_95
    · skip
      refine j_iconst G dX1_run_22 ?_
      refine j_goto 27 G dX1_run_23 (by decide) ?_
      refine jx_callS (wr := [[(x0, jO 0 [iI n, .ref nu, iI gr, iI pw, iI pr, iI ix, iI po, iI sd, iI gn, iI tk, .ref sb, lI hs])], [(nu, cI u 12 nm)]]) (k' := 2) (n' := 12) G (c_X1_requireState l u 1 hl0 (by (try unfold iR at *); omega)) hY_X1_requireState q1698 q1699 q85 q1700 (jcut 2 [0, 1] (by decide) rfl rfl) ⟨by omega, by omega, by omega, by omega, by omega, by omega⟩ (Nat.le_of_ble_eq_true rfl) dX1_run_27 rfl (fun E_ w_ hp => ?_) (fun v_ w_ hp => ?_)
      · skip
        rcases hp with ⟨rfl, x27_1, rfl⟩
        · skip
          exact jx_out G EX (Or.inr ⟨rfl, (by (try unfold iR at *); omega), (by (try unfold iR at *); omega), rfl⟩) ⟨by omega, by omega⟩
      · skip
        obtain ⟨h27_1, rfl, rfl⟩ := hp
        show jJ X u 3 [[(x0, jO 0 [iI n, .ref nu, iI gr, iI pw, iI pr, iI ix, iI po, iI sd, iI gn, iI tk, .ref sb, lI hs])], [(nu, cI u 12 nm)]] [(0, .ref x0), (1, iI t)] 2 12 30 []
        refine j_new (k' := 3) (n' := 17) [iI 0, iI 0, iI 0, iI 0, .null] G FX3 q1206 q1207 q100 (fun j hj => by rcases (show j = 0 ∨ j = 1 ∨ j = 2 ∨ j = 3 ∨ j = 4 by omega) with rfl | rfl | rfl | rfl | rfl <;> rfl) ⟨by omega, by omega, by omega, by omega⟩ dX1_run_30 (fun o30 => ?_)
        refine j_dup G rfl dX1_run_33 ?_
        refine j_aload_n G 0 rfl dX1_run_34 ?_
        refine j_callI (wr := [[(nu, cI u 12 nm)]]) (k' := 3) (n' := 17) G (c_X3_init l u o30 x0 nu sb n gr pw pr ix po sd gn tk hs ) ⟨rfl, hY_X3_init⟩ q1208 q1209 q100 q1210 (jcut 3 [0, 1, 2] (by decide) rfl rfl) ⟨by omega, by omega, by omega, by omega, by omega, by omega⟩ (Nat.le_of_ble_eq_true rfl) dX1_run_35 rfl (fun v_ w_ hp => ?_)
        obtain ⟨rfl, rfl⟩ := hp
        show jJ X u 3 [[(o30, jO 2 [iI po, iI ix, iI sd, iI 0, .ref x0])], [(x0, jO 0 [iI n, .ref nu, iI gr, iI pw, iI pr, iI ix, iI po, iI sd, iI gn, iI tk, .ref sb, lI hs])], [(nu, cI u 12 nm)]] [(0, .ref x0), (1, iI t)] 3 17 38 [.ref o30]
        refine j_astore_n G [(2, .ref o30), (0, .ref x0), (1, iI t)] rfl (by decide) dX1_run_38 ?_
        refine j_aload_n G 0 rfl dX1_run_39 ?_
        refine j_iload_n G 2 rfl dX1_run_40 ?_
        refine j_callV (wr := []) (k' := 3) (n' := 17) G FX3 (c_X3_go l u o30 x0 nu sb n gr pw pr ix po sd gn tk hs nm po ix sd 0 t hn hg hw hp hN hq (by (try unfold iR at *); omega)) (jAt_1 0 rfl) ⟨rfl, hY_X3_go⟩ q1251 q1252 q1253 q100 q1254 (jcut 3 [0, 1, 2] (by decide) rfl rfl) ⟨by omega, by omega, by omega, by omega, by omega, by omega⟩ (Nat.le_of_ble_eq_true rfl) dX1_run_41 rfl (fun v_ w_ hp => ?_)
        obtain ⟨a2_41, b2_41, d2_41, w2_41, h41_1, h41_2, rfl, rfl⟩ := hp
        subst h41_2
        show jJ X u 3 [[(o30, jO 2 [iI a2_41, iI b2_41, iI d2_41, iI (0 + tSum (n, gr, pw, pr, hB nm, hF nm) t.toNat (po, ix, sd)), .ref x0])], [(x0, jO 0 [iI n, .ref nu, iI gr, iI pw, iI pr, iI ix, iI po, iI sd, iI gn, iI tk, .ref sb, lI hs])], [(nu, cI u 12 nm)]] [(2, .ref o30), (0, .ref x0), (1, iI t)] 3 17 44 []
        refine j_aload_n G 1 rfl dX1_run_44 ?_
        refine j_aload_n G 0 rfl dX1_run_45 ?_
        refine j_getN G FX3 (jAt_1 0 rfl) 0 (by decide) q1213 rfl dX1_run_46 ?_
        refine j_put (ws' := [[(o30, jO 2 [iI a2_41, iI b2_41, iI d2_41, iI (0 + tSum (n, gr, pw, pr, hB nm, hF nm) t.toNat (po, ix, sd)), .ref x0])], [(x0, jO 0 [iI n, .ref nu, iI gr, iI pw, iI pr, iI ix, iI a2_41, iI sd, iI gn, iI tk, .ref sb, lI hs])], [(nu, cI u 12 nm)]]) G FX1 (jAt_1 1 rfl) 6 (by decide) q189 rfl rfl rfl (Nat.le_of_ble_eq_true rfl) dX1_run_49 rfl ?_
        refine j_aload_n G 1 rfl dX1_run_52 ?_
        refine j_aload_n G 0 rfl dX1_run_53 ?_
        refine j_getN G FX3 (jAt_1 0 rfl) 1 (by decide) q1215 rfl dX1_run_54 ?_
        refine j_put (ws' := [[(o30, jO 2 [iI a2_41, iI b2_41, iI d2_41, iI (0 + tSum (n, gr, pw, pr, hB nm, hF nm) t.toNat (po, ix, sd)), .ref x0])], [(x0, jO 0 [iI n, .ref nu, iI gr, iI pw, iI pr, iI b2_41, iI a2_41, iI sd, iI gn, iI tk, .ref sb, lI hs])], [(nu, cI u 12 nm)]]) G FX1 (jAt_1 1 rfl) 5 (by decide) q186 rfl rfl rfl (Nat.le_of_ble_eq_true rfl) dX1_run_57 rfl ?_
        refine j_aload_n G 1 rfl dX1_run_60 ?_
        refine j_aload_n G 0 rfl dX1_run_61 ?_
        refine j_getN G FX3 (jAt_1 0 rfl) 2 (by decide) q1217 rfl dX1_run_62 ?_
        refine j_put (ws' := [[(o30, jO 2 [iI a2_41, iI b2_41, iI d2_41, iI (0 + tSum (n, gr, pw, pr, hB nm, hF nm) t.toNat (po, ix, sd)), .ref x0])], [(x0, jO 0 [iI n, .ref nu, iI gr, iI pw, iI pr, iI b2_41, iI a2_41, iI d2_41, iI gn, iI tk, .ref sb, lI hs])], [(nu, cI u 12 nm)]]) G FX1 (jAt_1 1 rfl) 7 (by decide) q191 rfl rfl rfl (Nat.le_of_ble_eq_true rfl) dX1_run_65 rfl ?_
        refine j_aload_n G 1 rfl dX1_run_68 ?_
        refine j_dup G rfl dX1_run_69 ?_
        refine j_get G FX1 (jAt_1 1 rfl) 8 (by decide) q192 rfl dX1_run_70 ?_
        refine j_aload_n G 0 rfl dX1_run_73 ?_
        refine j_getN G FX3 (jAt_1 0 rfl) 3 (by decide) q1219 rfl dX1_run_74 ?_
        refine j_iadd G dX1_run_77 ?_
        refine j_put (ws' := [[(o30, jO 2 [iI a2_41, iI b2_41, iI d2_41, iI (0 + tSum (n, gr, pw, pr, hB nm, hF nm) t.toNat (po, ix, sd)), .ref x0])], [(x0, jO 0 [iI n, .ref nu, iI gr, iI pw, iI pr, iI b2_41, iI a2_41, iI d2_41, iI (gn + (0 + tSum (n, gr, pw, pr, hB nm, hF nm) t.toNat (po, ix, sd))), iI tk, .ref sb, lI hs])], [(nu, cI u 12 nm)]]) G FX1 (jAt_1 1 rfl) 8 (by decide) q192 rfl rfl rfl (Nat.le_of_ble_eq_true rfl) dX1_run_78 rfl ?_
        refine j_aload_n G 1 rfl dX1_run_81 ?_
        refine j_dup G rfl dX1_run_82 ?_
        refine j_get G FX1 (jAt_1 1 rfl) 9 (by decide) q193 rfl dX1_run_83 ?_
        refine j_iload_n G 2 rfl dX1_run_86 ?_
        refine j_iadd G dX1_run_87 ?_
        refine j_put (ws' := [[(o30, jO 2 [iI a2_41, iI b2_41, iI d2_41, iI (0 + tSum (n, gr, pw, pr, hB nm, hF nm) t.toNat (po, ix, sd)), .ref x0])], [(x0, jO 0 [iI n, .ref nu, iI gr, iI pw, iI pr, iI b2_41, iI a2_41, iI d2_41, iI (gn + (0 + tSum (n, gr, pw, pr, hB nm, hF nm) t.toNat (po, ix, sd))), iI (tk + t), .ref sb, lI hs])], [(nu, cI u 12 nm)]]) G FX1 (jAt_1 1 rfl) 9 (by decide) q193 rfl rfl rfl (Nat.le_of_ble_eq_true rfl) dX1_run_88 rfl ?_
        refine j_aload_n G 1 rfl dX1_run_91 ?_
        refine j_get G FX1 (jAt_1 1 rfl) 8 (by decide) q192 rfl dX1_run_92 ?_
        refine j_drop ?_
        exact j_iret G E ⟨a2_41, b2_41, d2_41, (0 + tSum (n, gr, pw, pr, hB nm, hF nm) t.toNat (po, ix, sd)), (by omega), (by omega), h41_1, (Int.zero_add _), rfl, rfl⟩ ⟨by omega, by omega⟩ dX1_run_95
theorem hY_X1_cycleLength : jY yX1_cycleLength 0 := ⟨by decide +kernel, by decide +kernel, by decide +kernel⟩
set_option maxHeartbeats 4000000 in
set_option maxRecDepth 100000 in
theorem c_X1_cycleLength (l : Launch) (u : jU) (mu la : Nat) (x0 nu sb : Nat) (n gr pw pr ix po sd gn tk hs : Int)(nm : Int → Int) (hn : 2 ≤ n ∧ n ≤ 4) (hg : 0 ≤ gr ∧ gr ≤ 7) (hw : 0 ≤ pw ∧ pw ≤ 15) (hp : sProg pr = 1) (hN : wN nm) (hq : wQ (n, gr, pw, pr, hB nm, hF nm) (po, ix, sd)) (hc : isCyc (n, gr, pw, pr, hB nm, hF nm) (po, ix, sd) mu la) (hml : mu + la ≤ 16000) : jC l u yX1_cycleLength cX1_cycleLength 5 (some .int) 3 66 2 10 [.ref x0] [[(x0, jO 0 [iI n, .ref nu, iI gr, iI pw, iI pr, iI ix, iI po, iI sd, iI gn, iI tk, .ref sb, lI hs])], [(nu, cI u 12 nm)]] (fun v_ w_ => ∃ (r : Int), r = la ∧ v_ = some (iI r) ∧ w_ = [[(x0, jO 0 [iI n, .ref nu, iI gr, iI pw, iI pr, iI ix, iI po, iI sd, iI gn, iI tk, .ref sb, lI hs])], [(nu, cI u 12 nm)]]) := by
  refine jC.of "FlashRatchet" (by decide +kernel) rfl (Nat.le_of_ble_eq_true rfl) [(0, .ref x0)] rfl (fun X G E I => ?_)
  have hpi := sProg_in hp
  have hpl := sLen_prog hp
  obtain ⟨hq_1, hq_2, hq_3, hq_4, hq_5, hq_6⟩ := id hq
  refine j_new (k' := 1) (n' := 5) [iI 0, iI 0, iI 0, iI 0, .null] G FX3 q1206 q1207 q100 (fun j hj => by rcases (show j = 0 ∨ j = 1 ∨ j = 2 ∨ j = 3 ∨ j = 4 by omega) with rfl | rfl | rfl | rfl | rfl <;> rfl) ⟨by omega, by omega, by omega, by omega⟩ dX1_cycleLength_0 (fun o0 => ?_)
  refine j_dup G rfl dX1_cycleLength_3 ?_
  refine j_aload_n G 0 rfl dX1_cycleLength_4 ?_
  refine j_callI (wr := [[(nu, cI u 12 nm)]]) (k' := 1) (n' := 5) G (c_X3_init l u o0 x0 nu sb n gr pw pr ix po sd gn tk hs ) ⟨rfl, hY_X3_init⟩ q1208 q1209 q100 q1210 (jcut 3 [0, 1, 2] (by decide) rfl rfl) ⟨by omega, by omega, by omega, by omega, by omega, by omega⟩ (Nat.le_of_ble_eq_true rfl) dX1_cycleLength_5 rfl (fun v_ w_ hp => ?_)
  obtain ⟨rfl, rfl⟩ := hp
  show jJ X u 5 [[(o0, jO 2 [iI po, iI ix, iI sd, iI 0, .ref x0])], [(x0, jO 0 [iI n, .ref nu, iI gr, iI pw, iI pr, iI ix, iI po, iI sd, iI gn, iI tk, .ref sb, lI hs])], [(nu, cI u 12 nm)]] [(0, .ref x0)] 1 5 8 [.ref o0]
  refine j_astore_n G [(1, .ref o0), (0, .ref x0)] rfl (by decide) dX1_cycleLength_8 ?_
  refine j_new (k' := 2) (n' := 10) [iI 0, iI 0, iI 0, iI 0, .null] G FX3 q1206 q1207 q100 (fun j hj => by rcases (show j = 0 ∨ j = 1 ∨ j = 2 ∨ j = 3 ∨ j = 4 by omega) with rfl | rfl | rfl | rfl | rfl <;> rfl) ⟨by omega, by omega, by omega, by omega⟩ dX1_cycleLength_9 (fun o9 => ?_)
  refine j_dup G rfl dX1_cycleLength_12 ?_
  refine j_aload_n G 1 rfl dX1_cycleLength_13 ?_
  refine j_callI (wr := [[(o0, jO 2 [iI po, iI ix, iI sd, iI 0, .ref x0])], [(nu, cI u 12 nm)]]) (k' := 2) (n' := 10) G (c_X3_init l u o9 x0 nu sb n gr pw pr ix po sd gn tk hs ) ⟨rfl, hY_X3_init⟩ q1208 q1209 q100 q1210 (jcut 4 [0, 2, 1, 3] (by decide) rfl rfl) ⟨by omega, by omega, by omega, by omega, by omega, by omega⟩ (Nat.le_of_ble_eq_true rfl) dX1_cycleLength_14 rfl (fun v_ w_ hp => ?_)
  obtain ⟨rfl, rfl⟩ := hp
  show jJ X u 5 [[(o9, jO 2 [iI po, iI ix, iI sd, iI 0, .ref x0])], [(x0, jO 0 [iI n, .ref nu, iI gr, iI pw, iI pr, iI ix, iI po, iI sd, iI gn, iI tk, .ref sb, lI hs])], [(o0, jO 2 [iI po, iI ix, iI sd, iI 0, .ref x0])], [(nu, cI u 12 nm)]] [(1, .ref o0), (0, .ref x0)] 2 10 17 [.ref o9]
  refine j_astore_n G [(2, .ref o9), (1, .ref o0), (0, .ref x0)] rfl (by decide) dX1_cycleLength_17 ?_
  refine j_iconst G dX1_cycleLength_18 ?_
  refine j_istore_n G [(3, iI 0), (2, .ref o9), (1, .ref o0), (0, .ref x0)] rfl (by decide) dX1_cycleLength_19 ?_
  refine j_iconst G dX1_cycleLength_20 ?_
  refine j_istore G [(4, iI 1), (3, iI 0), (2, .ref o9), (1, .ref o0), (0, .ref x0)] rfl (by decide) dX1_cycleLength_21 ?_
  have L23 : ∀ (m : Nat) (T : Nat) (s : Nat) (a : Int) (b : Int) (d : Int) (wv : Int) (a2 : Int) (b2 : Int) (d2 : Int) (w2 : Int) (st : Int) (pq : Int), 64001 - (T + s) < m → st = s → pq = T + 1 → s ≤ T + 1 → T < 32000 → (a, b, d) = tIt (n, gr, pw, pr, hB nm, hF nm) T (po, ix, sd) → (a2, b2, d2) = tIt (n, gr, pw, pr, hB nm, hF nm) (T + s) (po, ix, sd) → (∀ r : Nat, 0 < r → r ≤ s → tIt (n, gr, pw, pr, hB nm, hF nm) (T + r) (po, ix, sd) ≠ tIt (n, gr, pw, pr, hB nm, hF nm) T (po, ix, sd)) → jJ X u 5 [[(o0, jO 2 [iI a, iI b, iI d, iI wv, .ref x0])], [(o9, jO 2 [iI a2, iI b2, iI d2, iI w2, .ref x0])], [(x0, jO 0 [iI n, .ref nu, iI gr, iI pw, iI pr, iI ix, iI po, iI sd, iI gn, iI tk, .ref sb, lI hs])], [(nu, cI u 12 nm)]] [(0, .ref x0), (1, .ref o0), (2, .ref o9), (3, iI st), (4, iI pq)] 2 10 23 [] := by
    intro m
    induction m with
    | zero =>
      intro T s a b d wv a2 b2 d2 w2 st pq g1 g2 g3 g4 g5 g6 g7 g8
      exfalso
      omega
    | succ m ih_L23 =>
      intro T s a b d wv a2 b2 d2 w2 st pq g1 g2 g3 g4 g5 g6 g7 g8
      have hq1 : wQ (n, gr, pw, pr, hB nm, hF nm) (a, b, d) := by rw [g6]; exact wQ_it ⟨hn, hg, hw, hp, wN_T hN⟩ hq T
      have hq2 : wQ (n, gr, pw, pr, hB nm, hF nm) (a2, b2, d2) := by rw [g7]; exact wQ_it ⟨hn, hg, hw, hp, wN_T hN⟩ hq (T + s)
      obtain ⟨hq1_1, hq1_2, hq1_3, hq1_4, hq1_5, hq1_6⟩ := id hq1
      obtain ⟨hq2_1, hq2_2, hq2_3, hq2_4, hq2_5, hq2_6⟩ := id hq2
      refine j_iload_n G 3 rfl dX1_cycleLength_23 ?_
      refine j_iload G 4 rfl dX1_cycleLength_24 ?_
      refine j_icmp_ne 42 G (by unfold iR at *; omega) (by unfold iR at *; omega) dX1_cycleLength_26 (by decide) (fun c_26 => ?_) (fun c_26 => ?_)
      · skip
        refine j_aload_n G 2 rfl dX1_cycleLength_42 ?_
        refine j_callV (wr := [[(o0, jO 2 [iI a, iI b, iI d, iI wv, .ref x0])]]) (k' := 2) (n' := 10) G FX3 (c_X3_tick l u o9 x0 nu sb n gr pw pr ix po sd gn tk hs nm a2 b2 d2 w2 hn hg hw hp hN hq2) (jAt_1 1 rfl) ⟨rfl, hY_X3_tick⟩ q1236 q1237 q1238 q100 q1239 (jcut 4 [1, 2, 3, 0] (by decide) rfl rfl) ⟨by omega, by omega, by omega, by omega, by omega, by omega⟩ (Nat.le_of_ble_eq_true rfl) dX1_cycleLength_43 rfl (fun v_ w_ hp => ?_)
        obtain ⟨a2_43, b2_43, d2_43, mv_43, h43_1, h43_2, h43_3, rfl, rfl⟩ := hp
        show jJ X u 5 [[(o9, jO 2 [iI a2_43, iI b2_43, iI d2_43, iI (w2 + mv_43), .ref x0])], [(x0, jO 0 [iI n, .ref nu, iI gr, iI pw, iI pr, iI ix, iI po, iI sd, iI gn, iI tk, .ref sb, lI hs])], [(nu, cI u 12 nm)], [(o0, jO 2 [iI a, iI b, iI d, iI wv, .ref x0])]] [(0, .ref x0), (1, .ref o0), (2, .ref o9), (3, iI st), (4, iI pq)] 2 10 46 []
        obtain ⟨h43_3_1, h43_3_2, h43_3_3, h43_3_4, h43_3_5, h43_3_6⟩ := id h43_3
        refine j_iinc G 3 rfl [(3, iI (st + 1)), (0, .ref x0), (1, .ref o0), (2, .ref o9), (4, iI pq)] rfl (by decide) dX1_cycleLength_46 ?_
        refine j_aload_n G 2 rfl dX1_cycleLength_49 ?_
        refine j_aload_n G 3 rfl dX1_cycleLength_50 ?_
        refine j_callV (wr := [[(x0, jO 0 [iI n, .ref nu, iI gr, iI pw, iI pr, iI ix, iI po, iI sd, iI gn, iI tk, .ref sb, lI hs])], [(nu, cI u 12 nm)]]) (k' := 2) (n' := 10) G FX3 (c_X3_isLike l u o0 o9 x0 a b d wv a2_43 b2_43 d2_43 (w2 + mv_43) (by unfold iR at *; omega) (by unfold iR at *; omega) (by unfold iR at *; omega) (by unfold iR at *; omega) (by unfold iR at *; omega) (by unfold iR at *; omega)) (jAt_1 3 rfl) ⟨rfl, hY_X3_isLike⟩ q1247 q1248 q1249 q100 q1250 (jcut 4 [3, 0, 1, 2] (by decide) rfl rfl) ⟨by omega, by omega, by omega, by omega, by omega, by omega⟩ (Nat.le_of_ble_eq_true rfl) dX1_cycleLength_51 rfl (fun v_ w_ hp => ?_)
        obtain ⟨r_51, h51_1, rfl, rfl⟩ := hp
        show jJ X u 5 [[(o0, jO 2 [iI a, iI b, iI d, iI wv, .ref x0])], [(o9, jO 2 [iI a2_43, iI b2_43, iI d2_43, iI (w2 + mv_43), .ref x0])], [(x0, jO 0 [iI n, .ref nu, iI gr, iI pw, iI pr, iI ix, iI po, iI sd, iI gn, iI tk, .ref sb, lI hs])], [(nu, cI u 12 nm)]] [(3, iI (st + 1)), (0, .ref x0), (1, .ref o0), (2, .ref o9), (4, iI pq)] 2 10 54 [iI r_51]
        have h7 : (a2_43, b2_43, d2_43) = tIt (n, gr, pw, pr, hB nm, hF nm) (T + (s + 1)) (po, ix, sd) := by rw [h43_1, g7]; rfl
        have hne : r_51 = 0 → tIt (n, gr, pw, pr, hB nm, hF nm) (T + (s + 1)) (po, ix, sd) ≠ tIt (n, gr, pw, pr, hB nm, hF nm) T (po, ix, sd) := fun h he => by
          rcases h51_1 with ⟨h1, -⟩ | ⟨-, h2⟩
          · omega
          · exact h2 (by rw [g6, h7, he])
        have hye : ¬ r_51 = 0 → tIt (n, gr, pw, pr, hB nm, hF nm) (T + (s + 1)) (po, ix, sd) = tIt (n, gr, pw, pr, hB nm, hF nm) T (po, ix, sd) := fun h => by
          rcases h51_1 with ⟨-, h2⟩ | ⟨h1, -⟩
          · rw [← h7, ← g6, h2]
          · omega
        refine j_if_eq 23 G (by unfold iR at *; omega) dX1_cycleLength_54 (by decide) (fun c_54 => ?_) (fun c_54 => ?_)
        · skip
          refine j_lv [1, 2, 3, 0, 4] rfl ?_
          exact ih_L23 T (s + 1) a b d wv a2_43 b2_43 d2_43 (w2 + mv_43) (st + 1) pq (by (try unfold iR at *); omega) (by (try unfold iR at *); omega) (by (try unfold iR at *); omega) (by (try unfold iR at *); omega) g5 g6 h7 (fun r h0 h1 => by
            rcases Nat.lt_or_ge r (s + 1) with hh | hh
            · exact g8 r h0 (by omega)
            · rw [show r = s + 1 by omega]; exact hne c_54)
        · skip
          refine j_iload_n G 0 rfl dX1_cycleLength_57 ?_
          refine j_drop ?_
          refine j_drop ?_
          exact j_iret G E ⟨(st + 1), (by have := cyc_len hc (T := T) (s := s + 1) (by omega) (hye c_54) (fun r h0 h1 => g8 r h0 (by omega)); omega), rfl, rfl⟩ ⟨by omega, by omega⟩ dX1_cycleLength_58
      · skip
        refine j_aload_n G 1 rfl dX1_cycleLength_29 ?_
        refine j_aload_n G 2 rfl dX1_cycleLength_30 ?_
        refine j_callV (wr := [[(x0, jO 0 [iI n, .ref nu, iI gr, iI pw, iI pr, iI ix, iI po, iI sd, iI gn, iI tk, .ref sb, lI hs])], [(nu, cI u 12 nm)]]) (k' := 2) (n' := 10) G FX3 (c_X3_take l u o0 o9 x0 a b d wv a2 b2 d2 w2 ) (jAt_1 0 rfl) ⟨rfl, hY_X3_take⟩ q1232 q1233 q1234 q100 q1235 (jcut 4 [0, 1, 2, 3] (by decide) rfl rfl) ⟨by omega, by omega, by omega, by omega, by omega, by omega⟩ (Nat.le_of_ble_eq_true rfl) dX1_cycleLength_31 rfl (fun v_ w_ hp => ?_)
        obtain ⟨rfl, rfl⟩ := hp
        show jJ X u 5 [[(o0, jO 2 [iI a2, iI b2, iI d2, iI wv, .ref x0])], [(o9, jO 2 [iI a2, iI b2, iI d2, iI w2, .ref x0])], [(x0, jO 0 [iI n, .ref nu, iI gr, iI pw, iI pr, iI ix, iI po, iI sd, iI gn, iI tk, .ref sb, lI hs])], [(nu, cI u 12 nm)]] [(0, .ref x0), (1, .ref o0), (2, .ref o9), (3, iI st), (4, iI pq)] 2 10 34 []
        refine j_iload G 4 rfl dX1_cycleLength_34 ?_
        refine j_iconst G dX1_cycleLength_36 ?_
        refine j_imul G dX1_cycleLength_37 ?_
        refine j_istore G [(4, iI (pq * 2)), (0, .ref x0), (1, .ref o0), (2, .ref o9), (3, iI st)] rfl (by decide) dX1_cycleLength_38 ?_
        refine j_iconst G dX1_cycleLength_40 ?_
        refine j_istore_n G [(3, iI 0), (4, iI (pq * 2)), (0, .ref x0), (1, .ref o0), (2, .ref o9)] rfl (by decide) dX1_cycleLength_41 ?_
        refine j_aload_n G 4 rfl dX1_cycleLength_42 ?_
        refine j_callV (wr := [[(o0, jO 2 [iI a2, iI b2, iI d2, iI wv, .ref x0])]]) (k' := 2) (n' := 10) G FX3 (c_X3_tick l u o9 x0 nu sb n gr pw pr ix po sd gn tk hs nm a2 b2 d2 w2 hn hg hw hp hN hq2) (jAt_1 1 rfl) ⟨rfl, hY_X3_tick⟩ q1236 q1237 q1238 q100 q1239 (jcut 4 [1, 2, 3, 0] (by decide) rfl rfl) ⟨by omega, by omega, by omega, by omega, by omega, by omega⟩ (Nat.le_of_ble_eq_true rfl) dX1_cycleLength_43 rfl (fun v_ w_ hp => ?_)
        obtain ⟨a2_43, b2_43, d2_43, mv_43, h43_1, h43_2, h43_3, rfl, rfl⟩ := hp
        show jJ X u 5 [[(o9, jO 2 [iI a2_43, iI b2_43, iI d2_43, iI (w2 + mv_43), .ref x0])], [(x0, jO 0 [iI n, .ref nu, iI gr, iI pw, iI pr, iI ix, iI po, iI sd, iI gn, iI tk, .ref sb, lI hs])], [(nu, cI u 12 nm)], [(o0, jO 2 [iI a2, iI b2, iI d2, iI wv, .ref x0])]] [(3, iI 0), (4, iI (pq * 2)), (0, .ref x0), (1, .ref o0), (2, .ref o9)] 2 10 46 []
        obtain ⟨h43_3_1, h43_3_2, h43_3_3, h43_3_4, h43_3_5, h43_3_6⟩ := id h43_3
        refine j_iinc G 0 rfl [(3, iI (0 + 1)), (4, iI (pq * 2)), (0, .ref x0), (1, .ref o0), (2, .ref o9)] rfl (by decide) dX1_cycleLength_46 ?_
        refine j_aload_n G 3 rfl dX1_cycleLength_49 ?_
        refine j_aload_n G 4 rfl dX1_cycleLength_50 ?_
        refine j_callV (wr := [[(x0, jO 0 [iI n, .ref nu, iI gr, iI pw, iI pr, iI ix, iI po, iI sd, iI gn, iI tk, .ref sb, lI hs])], [(nu, cI u 12 nm)]]) (k' := 2) (n' := 10) G FX3 (c_X3_isLike l u o0 o9 x0 a2 b2 d2 wv a2_43 b2_43 d2_43 (w2 + mv_43) (by unfold iR at *; omega) (by unfold iR at *; omega) (by unfold iR at *; omega) (by unfold iR at *; omega) (by unfold iR at *; omega) (by unfold iR at *; omega)) (jAt_1 3 rfl) ⟨rfl, hY_X3_isLike⟩ q1247 q1248 q1249 q100 q1250 (jcut 4 [3, 0, 1, 2] (by decide) rfl rfl) ⟨by omega, by omega, by omega, by omega, by omega, by omega⟩ (Nat.le_of_ble_eq_true rfl) dX1_cycleLength_51 rfl (fun v_ w_ hp => ?_)
        obtain ⟨r_51, h51_1, rfl, rfl⟩ := hp
        show jJ X u 5 [[(o0, jO 2 [iI a2, iI b2, iI d2, iI wv, .ref x0])], [(o9, jO 2 [iI a2_43, iI b2_43, iI d2_43, iI (w2 + mv_43), .ref x0])], [(x0, jO 0 [iI n, .ref nu, iI gr, iI pw, iI pr, iI ix, iI po, iI sd, iI gn, iI tk, .ref sb, lI hs])], [(nu, cI u 12 nm)]] [(3, iI (0 + 1)), (4, iI (pq * 2)), (0, .ref x0), (1, .ref o0), (2, .ref o9)] 2 10 54 [iI r_51]
        have h7 : (a2_43, b2_43, d2_43) = tIt (n, gr, pw, pr, hB nm, hF nm) (T + s + 1) (po, ix, sd) := by rw [h43_1, g7]; rfl
        have hne : r_51 = 0 → tIt (n, gr, pw, pr, hB nm, hF nm) (T + s + 1) (po, ix, sd) ≠ tIt (n, gr, pw, pr, hB nm, hF nm) (T + s) (po, ix, sd) := fun h he => by
          rcases h51_1 with ⟨h1, -⟩ | ⟨-, h2⟩
          · omega
          · exact h2 (by rw [g7, h7, he])
        have hye : ¬ r_51 = 0 → tIt (n, gr, pw, pr, hB nm, hF nm) (T + s + 1) (po, ix, sd) = tIt (n, gr, pw, pr, hB nm, hF nm) (T + s) (po, ix, sd) := fun h => by
          rcases h51_1 with ⟨-, h2⟩ | ⟨h1, -⟩
          · rw [← h7, ← g7, h2]
          · omega
        refine j_if_eq 23 G (by unfold iR at *; omega) dX1_cycleLength_54 (by decide) (fun c_54 => ?_) (fun c_54 => ?_)
        · skip
          refine j_lv [2, 3, 4, 0, 1] rfl ?_
          exact ih_L23 (T + s) 1 a2 b2 d2 wv a2_43 b2_43 d2_43 (w2 + mv_43) (0 + 1) (pq * 2) (by (try unfold iR at *); omega) (by (try unfold iR at *); omega) (by (try unfold iR at *); omega) (by (try unfold iR at *); omega) (by have hx : T + 1 < 16000 := Nat.lt_of_not_le (fun hh => g8 la hc.1 (by omega) (cyc_per hc (by have := hc.1; omega))); omega) g7 h7 (fun r h0 h1 => by rw [show r = 1 by omega]; exact hne c_54)
        · skip
          refine j_iload_n G 0 rfl dX1_cycleLength_57 ?_
          refine j_drop ?_
          refine j_drop ?_
          exact j_iret G E ⟨(0 + 1), (by have := cyc_len hc (T := T + s) (s := 1) (by omega) (hye c_54) (fun r h0 h1 => absurd h1 (by omega)); omega), rfl, rfl⟩ ⟨by omega, by omega⟩ dX1_cycleLength_58
  refine j_lv [4, 3, 2, 1, 0] rfl ?_
  refine j_ws (ws' := [[(o0, jO 2 [iI po, iI ix, iI sd, iI 0, .ref x0])], [(o9, jO 2 [iI po, iI ix, iI sd, iI 0, .ref x0])], [(x0, jO 0 [iI n, .ref nu, iI gr, iI pw, iI pr, iI ix, iI po, iI sd, iI gn, iI tk, .ref sb, lI hs])], [(nu, cI u 12 nm)]]) (jperm 4 [2, 0, 1, 3] (by decide) rfl rfl) ?_
  exact L23 64002 0 0 po ix sd 0 po ix sd 0 0 1 (by (try unfold iR at *); omega) rfl rfl (by (try unfold iR at *); omega) (by omega) rfl rfl (fun r h0 h1 => absurd h1 (by omega))
theorem hY_X1_told : jY yX1_told 1 := ⟨by decide +kernel, by decide +kernel, by decide +kernel⟩
set_option maxHeartbeats 4000000 in
set_option maxRecDepth 100000 in
theorem c_X1_told (l : Launch) (u : jU) (mu la : Nat) (x0 nu sb : Nat) (n gr pw pr ix po sd gn tk hs : Int)(nm : Int → Int) (w : Int) (hn : 2 ≤ n ∧ n ≤ 4) (hg : 0 ≤ gr ∧ gr ≤ 7) (hw : 0 ≤ pw ∧ pw ≤ 15) (hp : sProg pr = 1) (hN : wN nm) (hq : wQ (n, gr, pw, pr, hB nm, hF nm) (po, ix, sd)) (hc : isCyc (n, gr, pw, pr, hB nm, hF nm) (po, ix, sd) mu la) (hml : mu + la ≤ 16000) (hRw : iR w) : jC l u yX1_told cX1_told 7 (some .int) 4 90 4 20 [.ref x0, iI w] [[(x0, jO 0 [iI n, .ref nu, iI gr, iI pw, iI pr, iI ix, iI po, iI sd, iI gn, iI tk, .ref sb, lI hs])], [(nu, cI u 12 nm)]] (fun v_ w_ => ∃ (r : Int), r = (if w = 0 then (mu : Int) else if w = 1 then (la : Int) else tSum (n, gr, pw, pr, hB nm, hF nm) (mu + la) (po, ix, sd) - tSum (n, gr, pw, pr, hB nm, hF nm) mu (po, ix, sd)) ∧ v_ = some (iI r) ∧ w_ = [[(x0, jO 0 [iI n, .ref nu, iI gr, iI pw, iI pr, iI ix, iI po, iI sd, iI gn, iI tk, .ref sb, lI hs])], [(nu, cI u 12 nm)]]) := by
  refine jC.of "FlashRatchet" (by decide +kernel) rfl (Nat.le_of_ble_eq_true rfl) [(0, .ref x0), (1, iI w)] rfl (fun X G E I => ?_)
  have hpi := sProg_in hp
  have hpl := sLen_prog hp
  obtain ⟨hq_1, hq_2, hq_3, hq_4, hq_5, hq_6⟩ := id hq
  refine j_aload_n G 0 rfl dX1_told_0 ?_
  refine j_callV (wr := []) (k' := 2) (n' := 10) G FX1 (c_X1_cycleLength l u mu la x0 nu sb n gr pw pr ix po sd gn tk hs nm hn hg hw hp hN hq hc hml) (jAt_1 0 rfl) ⟨rfl, hY_X1_cycleLength⟩ q1202 q1204 qs28 q85 q1205 (jcut 2 [0, 1] (by decide) rfl rfl) ⟨by omega, by omega, by omega, by omega, by omega, by omega⟩ (Nat.le_of_ble_eq_true rfl) dX1_told_1 rfl (fun v_ w_ hp => ?_)
  obtain ⟨r_1, h1_1, rfl, rfl⟩ := hp
  subst h1_1
  show jJ X u 7 [[(x0, jO 0 [iI n, .ref nu, iI gr, iI pw, iI pr, iI ix, iI po, iI sd, iI gn, iI tk, .ref sb, lI hs])], [(nu, cI u 12 nm)]] [(0, .ref x0), (1, iI w)] 2 10 4 [iI la]
  refine j_istore_n G [(2, iI la), (0, .ref x0), (1, iI w)] rfl (by decide) dX1_told_4 ?_
  refine j_new (k' := 3) (n' := 15) [iI 0, iI 0, iI 0, iI 0, .null] G FX3 q1206 q1207 q100 (fun j hj => by rcases (show j = 0 ∨ j = 1 ∨ j = 2 ∨ j = 3 ∨ j = 4 by omega) with rfl | rfl | rfl | rfl | rfl <;> rfl) ⟨by omega, by omega, by omega, by omega⟩ dX1_told_5 (fun o5 => ?_)
  refine j_dup G rfl dX1_told_8 ?_
  refine j_aload_n G 1 rfl dX1_told_9 ?_
  refine j_callI (wr := [[(nu, cI u 12 nm)]]) (k' := 3) (n' := 15) G (c_X3_init l u o5 x0 nu sb n gr pw pr ix po sd gn tk hs ) ⟨rfl, hY_X3_init⟩ q1208 q1209 q100 q1210 (jcut 3 [0, 1, 2] (by decide) rfl rfl) ⟨by omega, by omega, by omega, by omega, by omega, by omega⟩ (Nat.le_of_ble_eq_true rfl) dX1_told_10 rfl (fun v_ w_ hp => ?_)
  obtain ⟨rfl, rfl⟩ := hp
  show jJ X u 7 [[(o5, jO 2 [iI po, iI ix, iI sd, iI 0, .ref x0])], [(x0, jO 0 [iI n, .ref nu, iI gr, iI pw, iI pr, iI ix, iI po, iI sd, iI gn, iI tk, .ref sb, lI hs])], [(nu, cI u 12 nm)]] [(2, iI la), (0, .ref x0), (1, iI w)] 3 15 13 [.ref o5]
  refine j_astore_n G [(3, .ref o5), (2, iI la), (0, .ref x0), (1, iI w)] rfl (by decide) dX1_told_13 ?_
  refine j_new (k' := 4) (n' := 20) [iI 0, iI 0, iI 0, iI 0, .null] G FX3 q1206 q1207 q100 (fun j hj => by rcases (show j = 0 ∨ j = 1 ∨ j = 2 ∨ j = 3 ∨ j = 4 by omega) with rfl | rfl | rfl | rfl | rfl <;> rfl) ⟨by omega, by omega, by omega, by omega⟩ dX1_told_14 (fun o14 => ?_)
  refine j_dup G rfl dX1_told_17 ?_
  refine j_aload_n G 2 rfl dX1_told_18 ?_
  refine j_callI (wr := [[(o5, jO 2 [iI po, iI ix, iI sd, iI 0, .ref x0])], [(nu, cI u 12 nm)]]) (k' := 4) (n' := 20) G (c_X3_init l u o14 x0 nu sb n gr pw pr ix po sd gn tk hs ) ⟨rfl, hY_X3_init⟩ q1208 q1209 q100 q1210 (jcut 4 [0, 2, 1, 3] (by decide) rfl rfl) ⟨by omega, by omega, by omega, by omega, by omega, by omega⟩ (Nat.le_of_ble_eq_true rfl) dX1_told_19 rfl (fun v_ w_ hp => ?_)
  obtain ⟨rfl, rfl⟩ := hp
  show jJ X u 7 [[(o14, jO 2 [iI po, iI ix, iI sd, iI 0, .ref x0])], [(x0, jO 0 [iI n, .ref nu, iI gr, iI pw, iI pr, iI ix, iI po, iI sd, iI gn, iI tk, .ref sb, lI hs])], [(o5, jO 2 [iI po, iI ix, iI sd, iI 0, .ref x0])], [(nu, cI u 12 nm)]] [(3, .ref o5), (2, iI la), (0, .ref x0), (1, iI w)] 4 20 22 [.ref o14]
  refine j_astore G [(4, .ref o14), (3, .ref o5), (2, iI la), (0, .ref x0), (1, iI w)] rfl (by decide) dX1_told_22 ?_
  refine j_aload G 0 rfl dX1_told_24 ?_
  refine j_iload_n G 2 rfl dX1_told_26 ?_
  refine j_callV (wr := [[(o5, jO 2 [iI po, iI ix, iI sd, iI 0, .ref x0])]]) (k' := 4) (n' := 20) G FX3 (c_X3_go l u o14 x0 nu sb n gr pw pr ix po sd gn tk hs nm po ix sd 0 la hn hg hw hp hN hq (by (try unfold iR at *); omega)) (jAt_1 0 rfl) ⟨rfl, hY_X3_go⟩ q1251 q1252 q1253 q100 q1254 (jcut 4 [0, 1, 3, 2] (by decide) rfl rfl) ⟨by omega, by omega, by omega, by omega, by omega, by omega⟩ (Nat.le_of_ble_eq_true rfl) dX1_told_27 rfl (fun v_ w_ hp => ?_)
  obtain ⟨a2_27, b2_27, d2_27, w2_27, h27_1, h27_2, rfl, rfl⟩ := hp
  show jJ X u 7 [[(o14, jO 2 [iI a2_27, iI b2_27, iI d2_27, iI w2_27, .ref x0])], [(x0, jO 0 [iI n, .ref nu, iI gr, iI pw, iI pr, iI ix, iI po, iI sd, iI gn, iI tk, .ref sb, lI hs])], [(nu, cI u 12 nm)], [(o5, jO 2 [iI po, iI ix, iI sd, iI 0, .ref x0])]] [(4, .ref o14), (3, .ref o5), (2, iI la), (0, .ref x0), (1, iI w)] 4 20 30 []
  refine j_iconst G dX1_told_30 ?_
  refine j_istore G [(5, iI 0), (4, .ref o14), (3, .ref o5), (2, iI la), (0, .ref x0), (1, iI w)] rfl (by decide) dX1_told_31 ?_
  have L33 : ∀ (m : Nat) (j : Nat) (a : Int) (b : Int) (d : Int) (wv : Int) (a2 : Int) (b2 : Int) (d2 : Int) (w2 : Int) (k : Int), mu - j < m → k = j → (a, b, d) = tIt (n, gr, pw, pr, hB nm, hF nm) j (po, ix, sd) → (a2, b2, d2) = tIt (n, gr, pw, pr, hB nm, hF nm) (j + la) (po, ix, sd) → wv = tSum (n, gr, pw, pr, hB nm, hF nm) j (po, ix, sd) → j ≤ mu → jJ X u 7 [[(o5, jO 2 [iI a, iI b, iI d, iI wv, .ref x0])], [(o14, jO 2 [iI a2, iI b2, iI d2, iI w2, .ref x0])], [(x0, jO 0 [iI n, .ref nu, iI gr, iI pw, iI pr, iI ix, iI po, iI sd, iI gn, iI tk, .ref sb, lI hs])], [(nu, cI u 12 nm)]] [(0, .ref x0), (1, iI w), (2, iI la), (3, .ref o5), (4, .ref o14), (5, iI k)] 4 20 33 [] := by
    intro m
    induction m with
    | zero =>
      intro j a b d wv a2 b2 d2 w2 k g1 g2 g3 g4 g5 g6
      exfalso
      omega
    | succ m ih_L33 =>
      intro j a b d wv a2 b2 d2 w2 k g1 g2 g3 g4 g5 g6
      have hq1 : wQ (n, gr, pw, pr, hB nm, hF nm) (a, b, d) := by rw [g3]; exact wQ_it ⟨hn, hg, hw, hp, wN_T hN⟩ hq j
      have hq2 : wQ (n, gr, pw, pr, hB nm, hF nm) (a2, b2, d2) := by rw [g4]; exact wQ_it ⟨hn, hg, hw, hp, wN_T hN⟩ hq (j + la)
      obtain ⟨hq1_1, hq1_2, hq1_3, hq1_4, hq1_5, hq1_6⟩ := id hq1
      obtain ⟨hq2_1, hq2_2, hq2_3, hq2_4, hq2_5, hq2_6⟩ := id hq2
      refine j_aload_n G 3 rfl dX1_told_33 ?_
      refine j_aload G 4 rfl dX1_told_34 ?_
      refine j_callV (wr := [[(x0, jO 0 [iI n, .ref nu, iI gr, iI pw, iI pr, iI ix, iI po, iI sd, iI gn, iI tk, .ref sb, lI hs])], [(nu, cI u 12 nm)]]) (k' := 4) (n' := 20) G FX3 (c_X3_isLike l u o5 o14 x0 a b d wv a2 b2 d2 w2 (by unfold iR at *; omega) (by unfold iR at *; omega) (by unfold iR at *; omega) (by unfold iR at *; omega) (by unfold iR at *; omega) (by unfold iR at *; omega)) (jAt_1 0 rfl) ⟨rfl, hY_X3_isLike⟩ q1247 q1248 q1249 q100 q1250 (jcut 4 [0, 1, 2, 3] (by decide) rfl rfl) ⟨by omega, by omega, by omega, by omega, by omega, by omega⟩ (Nat.le_of_ble_eq_true rfl) dX1_told_36 rfl (fun v_ w_ hp => ?_)
      obtain ⟨r_36, h36_1, rfl, rfl⟩ := hp
      show jJ X u 7 [[(o5, jO 2 [iI a, iI b, iI d, iI wv, .ref x0])], [(o14, jO 2 [iI a2, iI b2, iI d2, iI w2, .ref x0])], [(x0, jO 0 [iI n, .ref nu, iI gr, iI pw, iI pr, iI ix, iI po, iI sd, iI gn, iI tk, .ref sb, lI hs])], [(nu, cI u 12 nm)]] [(0, .ref x0), (1, iI w), (2, iI la), (3, .ref o5), (4, .ref o14), (5, iI k)] 4 20 39 [iI r_36]
      have hlt : r_36 = 0 → j < mu := fun h => by
        rcases h36_1 with ⟨h1, -⟩ | ⟨-, h2⟩
        · omega
        · apply Classical.byContradiction
          intro hh
          exact h2 (by rw [g3, g4, cyc_per hc (by omega)])
      have hge : ¬ r_36 = 0 → j = mu := fun h => by
        rcases h36_1 with ⟨-, h2⟩ | ⟨h1, -⟩
        · have he := cyc_ret hc (i := j) (j := j + la) (by have := hc.1; omega) (by rw [← g3, ← g4, h2])
          omega
        · omega
      refine j_if_ne 57 G (by unfold iR at *; omega) dX1_told_39 (by decide) (fun c_39 => ?_) (fun c_39 => ?_)
      · skip
        have hjm := hge c_39
        subst hjm
        refine j_aload_n G 3 rfl dX1_told_57 ?_
        refine j_getN G FX3 (jAt_1 0 rfl) 3 (by decide) q1219 rfl dX1_told_58 ?_
        refine j_istore G [(6, iI wv), (0, .ref x0), (1, iI w), (2, iI la), (3, .ref o5), (4, .ref o14), (5, iI k)] rfl (by decide) dX1_told_61 ?_
        refine j_aload_n G 4 rfl dX1_told_63 ?_
        refine j_iload_n G 3 rfl dX1_told_64 ?_
        refine j_callV (wr := [[(o14, jO 2 [iI a2, iI b2, iI d2, iI w2, .ref x0])]]) (k' := 4) (n' := 20) G FX3 (c_X3_go l u o5 x0 nu sb n gr pw pr ix po sd gn tk hs nm a b d wv la hn hg hw hp hN hq1 (by (try unfold iR at *); omega)) (jAt_1 0 rfl) ⟨rfl, hY_X3_go⟩ q1251 q1252 q1253 q100 q1254 (jcut 4 [0, 2, 3, 1] (by decide) rfl rfl) ⟨by omega, by omega, by omega, by omega, by omega, by omega⟩ (Nat.le_of_ble_eq_true rfl) dX1_told_65 rfl (fun v_ w_ hp => ?_)
        obtain ⟨a2_65, b2_65, d2_65, w2_65, h65_1, h65_2, rfl, rfl⟩ := hp
        show jJ X u 7 [[(o5, jO 2 [iI a2_65, iI b2_65, iI d2_65, iI w2_65, .ref x0])], [(x0, jO 0 [iI n, .ref nu, iI gr, iI pw, iI pr, iI ix, iI po, iI sd, iI gn, iI tk, .ref sb, lI hs])], [(nu, cI u 12 nm)], [(o14, jO 2 [iI a2, iI b2, iI d2, iI w2, .ref x0])]] [(6, iI wv), (0, .ref x0), (1, iI w), (2, iI la), (3, .ref o5), (4, .ref o14), (5, iI k)] 4 20 68 []
        refine j_iload_n G 2 rfl dX1_told_68 ?_
        refine j_if_ne 77 G hRw dX1_told_69 (by decide) (fun c_69 => ?_) (fun c_69 => ?_)
        · skip
          refine j_iload_n G 2 rfl dX1_told_77 ?_
          refine j_iconst G dX1_told_78 ?_
          refine j_icmp_ne 86 G hRw (by unfold iR; omega) dX1_told_79 (by decide) (fun c_79 => ?_) (fun c_79 => ?_)
          · skip
            refine j_aload_n G 4 rfl dX1_told_86 ?_
            refine j_getN G FX3 (jAt_1 0 rfl) 3 (by decide) q1219 rfl dX1_told_87 ?_
            refine j_iload G 0 rfl dX1_told_90 ?_
            refine j_isub G dX1_told_92 ?_
            refine j_ws (ws' := [[(o5, jO 2 [iI a2_65, iI b2_65, iI d2_65, iI w2_65, .ref x0])], [(o14, jO 2 [iI a2, iI b2, iI d2, iI w2, .ref x0])], [(x0, jO 0 [iI n, .ref nu, iI gr, iI pw, iI pr, iI ix, iI po, iI sd, iI gn, iI tk, .ref sb, lI hs])], [(nu, cI u 12 nm)]]) (jperm 4 [0, 3, 1, 2] (by decide) rfl rfl) ?_
            refine j_drop ?_
            refine j_drop ?_
            exact j_iret G E ⟨(w2_65 - wv), (by rw [if_neg c_69, if_neg c_79, h65_2, g3, tSum_add, g5, show (((la : Nat) : Int)).toNat = la from rfl]), rfl, rfl⟩ ⟨by omega, by omega⟩ dX1_told_93
          · skip
            refine j_iload_n G 3 rfl dX1_told_82 ?_
            refine j_goto 93 G dX1_told_83 (by decide) ?_
            refine j_ws (ws' := [[(o5, jO 2 [iI a2_65, iI b2_65, iI d2_65, iI w2_65, .ref x0])], [(o14, jO 2 [iI a2, iI b2, iI d2, iI w2, .ref x0])], [(x0, jO 0 [iI n, .ref nu, iI gr, iI pw, iI pr, iI ix, iI po, iI sd, iI gn, iI tk, .ref sb, lI hs])], [(nu, cI u 12 nm)]]) (jperm 4 [0, 3, 1, 2] (by decide) rfl rfl) ?_
            refine j_drop ?_
            refine j_drop ?_
            exact j_iret G E ⟨la, (by rw [if_neg c_69, if_pos c_79]), rfl, rfl⟩ ⟨by omega, by omega⟩ dX1_told_93
        · skip
          refine j_iload G 6 rfl dX1_told_72 ?_
          refine j_goto 93 G dX1_told_74 (by decide) ?_
          refine j_ws (ws' := [[(o5, jO 2 [iI a2_65, iI b2_65, iI d2_65, iI w2_65, .ref x0])], [(o14, jO 2 [iI a2, iI b2, iI d2, iI w2, .ref x0])], [(x0, jO 0 [iI n, .ref nu, iI gr, iI pw, iI pr, iI ix, iI po, iI sd, iI gn, iI tk, .ref sb, lI hs])], [(nu, cI u 12 nm)]]) (jperm 4 [0, 3, 1, 2] (by decide) rfl rfl) ?_
          refine j_drop ?_
          refine j_drop ?_
          exact j_iret G E ⟨k, (by rw [if_pos c_69]; exact g2), rfl, rfl⟩ ⟨by omega, by omega⟩ dX1_told_93
      · skip
        refine j_aload_n G 3 rfl dX1_told_42 ?_
        refine j_callV (wr := [[(o14, jO 2 [iI a2, iI b2, iI d2, iI w2, .ref x0])]]) (k' := 4) (n' := 20) G FX3 (c_X3_tick l u o5 x0 nu sb n gr pw pr ix po sd gn tk hs nm a b d wv hn hg hw hp hN hq1) (jAt_1 0 rfl) ⟨rfl, hY_X3_tick⟩ q1236 q1237 q1238 q100 q1239 (jcut 4 [0, 2, 3, 1] (by decide) rfl rfl) ⟨by omega, by omega, by omega, by omega, by omega, by omega⟩ (Nat.le_of_ble_eq_true rfl) dX1_told_43 rfl (fun v_ w_ hp => ?_)
        obtain ⟨a2_43, b2_43, d2_43, mv_43, h43_1, h43_2, h43_3, rfl, rfl⟩ := hp
        show jJ X u 7 [[(o5, jO 2 [iI a2_43, iI b2_43, iI d2_43, iI (wv + mv_43), .ref x0])], [(x0, jO 0 [iI n, .ref nu, iI gr, iI pw, iI pr, iI ix, iI po, iI sd, iI gn, iI tk, .ref sb, lI hs])], [(nu, cI u 12 nm)], [(o14, jO 2 [iI a2, iI b2, iI d2, iI w2, .ref x0])]] [(0, .ref x0), (1, iI w), (2, iI la), (3, .ref o5), (4, .ref o14), (5, iI k)] 4 20 46 []
        refine j_aload G 4 rfl dX1_told_46 ?_
        refine j_callV (wr := [[(o5, jO 2 [iI a2_43, iI b2_43, iI d2_43, iI (wv + mv_43), .ref x0])]]) (k' := 4) (n' := 20) G FX3 (c_X3_tick l u o14 x0 nu sb n gr pw pr ix po sd gn tk hs nm a2 b2 d2 w2 hn hg hw hp hN hq2) (jAt_1 3 rfl) ⟨rfl, hY_X3_tick⟩ q1236 q1237 q1238 q100 q1239 (jcut 4 [3, 1, 2, 0] (by decide) rfl rfl) ⟨by omega, by omega, by omega, by omega, by omega, by omega⟩ (Nat.le_of_ble_eq_true rfl) dX1_told_48 rfl (fun v_ w_ hp => ?_)
        obtain ⟨a2_48, b2_48, d2_48, mv_48, h48_1, h48_2, h48_3, rfl, rfl⟩ := hp
        show jJ X u 7 [[(o14, jO 2 [iI a2_48, iI b2_48, iI d2_48, iI (w2 + mv_48), .ref x0])], [(x0, jO 0 [iI n, .ref nu, iI gr, iI pw, iI pr, iI ix, iI po, iI sd, iI gn, iI tk, .ref sb, lI hs])], [(nu, cI u 12 nm)], [(o5, jO 2 [iI a2_43, iI b2_43, iI d2_43, iI (wv + mv_43), .ref x0])]] [(0, .ref x0), (1, iI w), (2, iI la), (3, .ref o5), (4, .ref o14), (5, iI k)] 4 20 51 []
        refine j_iinc G 5 rfl [(5, iI (k + 1)), (0, .ref x0), (1, iI w), (2, iI la), (3, .ref o5), (4, .ref o14)] rfl (by decide) dX1_told_51 ?_
        refine j_goto 33 G dX1_told_54 (by decide) ?_
        refine j_lv [1, 2, 3, 4, 5, 0] rfl ?_
        refine j_ws (ws' := [[(o5, jO 2 [iI a2_43, iI b2_43, iI d2_43, iI (wv + mv_43), .ref x0])], [(o14, jO 2 [iI a2_48, iI b2_48, iI d2_48, iI (w2 + mv_48), .ref x0])], [(x0, jO 0 [iI n, .ref nu, iI gr, iI pw, iI pr, iI ix, iI po, iI sd, iI gn, iI tk, .ref sb, lI hs])], [(nu, cI u 12 nm)]]) (jperm 4 [3, 0, 1, 2] (by decide) rfl rfl) ?_
        exact ih_L33 (j + 1) a2_43 b2_43 d2_43 (wv + mv_43) a2_48 b2_48 d2_48 (w2 + mv_48) (k + 1) (by have := hlt c_39; omega) (by (try unfold iR at *); omega) (by rw [h43_1, g3]; rfl) (by rw [h48_1, g4, show j + 1 + la = (j + la) + 1 by omega]; rfl) (by rw [g5, h43_2, g3]; rfl) (by have := hlt c_39; omega)
  refine j_lv [4, 5, 3, 2, 1, 0] rfl ?_
  refine j_ws (ws' := [[(o5, jO 2 [iI po, iI ix, iI sd, iI 0, .ref x0])], [(o14, jO 2 [iI a2_27, iI b2_27, iI d2_27, iI w2_27, .ref x0])], [(x0, jO 0 [iI n, .ref nu, iI gr, iI pw, iI pr, iI ix, iI po, iI sd, iI gn, iI tk, .ref sb, lI hs])], [(nu, cI u 12 nm)]]) (jperm 4 [3, 0, 1, 2] (by decide) rfl rfl) ?_
  exact L33 (mu + 1) 0 po ix sd 0 a2_27 b2_27 d2_27 w2_27 0 (by omega) rfl rfl (by rw [h27_1, Nat.zero_add]; rfl) rfl (by omega)
theorem hY_X1_cycle : jY yX1_cycle 1 := ⟨by decide +kernel, by decide +kernel, by decide +kernel⟩
set_option maxHeartbeats 4000000 in
set_option maxRecDepth 100000 in
theorem c_X1_cycle (l : Launch) (u : jU) (mu la : Nat) (x0 nu sb : Nat) (n gr pw pr ix po sd gn tk hs : Int)(nm : Int → Int) (w : Int) (hl0 : l.stackTraces = false) (hn : 2 ≤ n ∧ n ≤ 4) (hg : 0 ≤ gr ∧ gr ≤ 7) (hw : 0 ≤ pw ∧ pw ≤ 15) (hp : sProg pr = 1) (hN : wN nm) (hq : wQ (n, gr, pw, pr, hB nm, hF nm) (po, ix, sd)) (hc : isCyc (n, gr, pw, pr, hB nm, hF nm) (po, ix, sd) mu la) (hml : mu + la ≤ 16000) (hRw : iR w) : jCX l u yX1_cycle cX1_cycle 2 (some .int) 7 116 5 26 [.ref x0, iI w] [[(x0, jO 0 [iI n, .ref nu, iI gr, iI pw, iI pr, iI ix, iI po, iI sd, iI gn, iI tk, .ref sb, lI hs])], [(nu, cI u 12 nm)]] (fun v_ w_ => ∃ (r : Int), r = (if w = 0 then (mu : Int) else if w = 1 then (la : Int) else tSum (n, gr, pw, pr, hB nm, hF nm) (mu + la) (po, ix, sd) - tSum (n, gr, pw, pr, hB nm, hF nm) mu (po, ix, sd)) ∧ (0 ≤ w ∧ w ≤ 2) ∧ v_ = some (iI r) ∧ w_ = [[(x0, jO 0 [iI n, .ref nu, iI gr, iI pw, iI pr, iI ix, iI po, iI sd, iI gn, iI tk, .ref sb, lI hs])], [(nu, cI u 12 nm)]]) (fun E_ w_ => (E_ = "java/lang/IllegalArgumentException" ∧ (¬ (0 ≤ w ∧ w ≤ 2)) ∧ w_ = [[(x0, jO 0 [iI n, .ref nu, iI gr, iI pw, iI pr, iI ix, iI po, iI sd, iI gn, iI tk, .ref sb, lI hs])], [(nu, cI u 12 nm)]])) := by
  refine jCX.of "FlashRatchet" (by decide +kernel) rfl (Nat.le_of_ble_eq_true rfl) [(0, .ref x0), (1, iI w)] rfl (fun X G EX => ?_)
  have E := EX.E
  refine j_iload_n G 1 rfl dX1_cycle_0 ?_
  refine j_iconst G dX1_cycle_1 ?_
  refine j_iconst G dX1_cycle_2 ?_
  refine j_callS (wr := [[(x0, jO 0 [iI n, .ref nu, iI gr, iI pw, iI pr, iI ix, iI po, iI sd, iI gn, iI tk, .ref sb, lI hs])], [(nu, cI u 12 nm)]]) (k' := 0) (n' := 0) G (c_X1_inRange l u w 0 2 hRw (by unfold iR; omega) (by unfold iR; omega)) hY_X1_inRange q658 q659 q85 q660 (jcut 2 [0, 1] (by decide) rfl rfl) ⟨by omega, by omega, by omega, by omega, by omega, by omega⟩ (Nat.le_of_ble_eq_true rfl) dX1_cycle_3 rfl (fun v_ w_ hp => ?_)
  obtain ⟨r_3, h3_1, rfl, rfl⟩ := hp
  show jJ X u 2 [[(x0, jO 0 [iI n, .ref nu, iI gr, iI pw, iI pr, iI ix, iI po, iI sd, iI gn, iI tk, .ref sb, lI hs])], [(nu, cI u 12 nm)]] [(0, .ref x0), (1, iI w)] 0 0 6 [iI r_3]
  refine jx_callS (wr := [[(x0, jO 0 [iI n, .ref nu, iI gr, iI pw, iI pr, iI ix, iI po, iI sd, iI gn, iI tk, .ref sb, lI hs])], [(nu, cI u 12 nm)]]) (k' := 1) (n' := 6) G (c_X1_require l u r_3 hl0 (by (try unfold iR at *); omega)) hY_X1_require q1614 q1615 q85 q1616 (jcut 2 [0, 1] (by decide) rfl rfl) ⟨by omega, by omega, by omega, by omega, by omega, by omega⟩ (Nat.le_of_ble_eq_true rfl) dX1_cycle_6 rfl (fun E_ w_ hp => ?_) (fun v_ w_ hp => ?_)
  · skip
    rcases hp with ⟨rfl, x6_1, rfl⟩
    · skip
      exact jx_out G EX ⟨rfl, (by (try unfold iR at *); omega), rfl⟩ ⟨by omega, by omega⟩
  · skip
    obtain ⟨h6_1, rfl, rfl⟩ := hp
    show jJ X u 2 [[(x0, jO 0 [iI n, .ref nu, iI gr, iI pw, iI pr, iI ix, iI po, iI sd, iI gn, iI tk, .ref sb, lI hs])], [(nu, cI u 12 nm)]] [(0, .ref x0), (1, iI w)] 1 6 9 []
    refine j_aload_n G 0 rfl dX1_cycle_9 ?_
    refine j_iload_n G 1 rfl dX1_cycle_10 ?_
    refine j_callV (wr := []) (k' := 5) (n' := 26) G FX1 (c_X1_told l u mu la x0 nu sb n gr pw pr ix po sd gn tk hs nm w hn hg hw hp hN hq hc hml hRw) (jAt_1 0 rfl) ⟨rfl, hY_X1_told⟩ q1198 q1200 qs27 q85 q1201 (jcut 2 [0, 1] (by decide) rfl rfl) ⟨by omega, by omega, by omega, by omega, by omega, by omega⟩ (Nat.le_of_ble_eq_true rfl) dX1_cycle_11 rfl (fun v_ w_ hp => ?_)
    obtain ⟨r_11, h11_1, rfl, rfl⟩ := hp
    show jJ X u 2 [[(x0, jO 0 [iI n, .ref nu, iI gr, iI pw, iI pr, iI ix, iI po, iI sd, iI gn, iI tk, .ref sb, lI hs])], [(nu, cI u 12 nm)]] [(0, .ref x0), (1, iI w)] 5 26 14 [iI r_11]
    exact j_iret G E ⟨r_11, h11_1, (by omega), rfl, rfl⟩ ⟨by omega, by omega⟩ dX1_cycle_14
