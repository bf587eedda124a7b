theorem hY_J0_isLatin1 : jY yJ0_isLatin1 0 := ⟨by decide +kernel, by decide +kernel, by decide +kernel⟩
set_option maxHeartbeats 4000000 in
set_option maxRecDepth 100000 in
theorem c_J0_isLatin1 (l : Launch) (u : jU) (sb vb : Nat) (ml ct : Int)  : jC l u yJ0_isLatin1 cJ0_isLatin1 1 (some .boolean) 0 0 0 0 [.ref sb] [[(sb, jO 9 [.ref vb, iI 0, iI ml, iI ct])]] (fun v_ w_ => v_ = some (iI 1) ∧ w_ = [[(sb, jO 9 [.ref vb, iI 0, iI ml, iI ct])]]) := by
  refine jC.of "java/lang/AbstractStringBuilder" (by decide +kernel) rfl (Nat.le_of_ble_eq_true rfl) [(0, .ref sb)] rfl (fun X G E I => ?_)
  refine j_getsi 1 G q147 q148 (lw_all_tbl q88) jE1 dJ0_isLatin1_0 ?_
  refine j_if_eq 17 G (by unfold iR; omega) dJ0_isLatin1_3 (by decide) (fun c_3 => ?_) (fun c_3 => ?_)
  · exact absurd c_3 (by decide)
  · skip
    refine j_aload_n G 0 rfl dJ0_isLatin1_6 ?_
    refine j_get G FJ1 (jAt_1 0 rfl) 1 (by decide) q157 rfl dJ0_isLatin1_7 ?_
    refine j_if_ne 17 G (by unfold iR; omega) dJ0_isLatin1_10 (by decide) (fun c_10 => ?_) (fun c_10 => ?_)
    · exact absurd c_10 (by decide)
    · skip
      refine j_iconst G dJ0_isLatin1_13 ?_
      refine j_goto 18 G dJ0_isLatin1_14 (by decide) ?_
      exact j_zret G E (by (try unfold iR at *); omega) ⟨rfl, rfl⟩ ⟨by omega, by omega⟩ dJ0_isLatin1_18
theorem hY_J0_ensureCapacityInternal : jY yJ0_ensureCapacityInternal 1 := ⟨by decide +kernel, by decide +kernel, by decide +kernel⟩
set_option maxHeartbeats 4000000 in
set_option maxRecDepth 100000 in
theorem c_J0_ensureCapacityInternal (l : Launch) (u : jU) (sb vb : Nat) (ml ct : Int) (tx : Int → Int) (c : Int) (hc : 0 ≤ c ∧ c ≤ 60) : jC l u yJ0_ensureCapacityInternal cJ0_ensureCapacityInternal 3 none 0 0 0 0 [.ref sb, iI c] [[(sb, jO 9 [.ref vb, iI 0, iI ml, iI ct])], [(vb, cB u 60 tx)]] (fun v_ w_ => v_ = none ∧ w_ = [[(sb, jO 9 [.ref vb, iI 0, iI ml, iI ct])], [(vb, cB u 60 tx)]]) := by
  refine jC.of "java/lang/AbstractStringBuilder" (by decide +kernel) rfl (Nat.le_of_ble_eq_true rfl) [(0, .ref sb), (1, iI c)] rfl (fun X G E I => ?_)
  refine j_aload_n G 0 rfl dJ0_ensureCapacityInternal_0 ?_
  refine j_get G FJ1 (jAt_1 0 rfl) 0 (by decide) q156 rfl dJ0_ensureCapacityInternal_1 ?_
  refine j_alen_b G (jAt_1 1 rfl) dJ0_ensureCapacityInternal_4 ?_
  refine j_aload_n G 0 rfl dJ0_ensureCapacityInternal_5 ?_
  refine j_get G FJ1 (jAt_1 0 rfl) 1 (by decide) q157 rfl dJ0_ensureCapacityInternal_6 ?_
  refine j_ishr G dJ0_ensureCapacityInternal_9 ?_
  refine j_eq (st' := [iI 60]) (by rw [show (((60 : Nat) : Int)) = 60 from rfl, jShr_60]) ?_
  refine j_istore_n G [(2, iI 60), (0, .ref sb), (1, iI c)] rfl (by decide) dJ0_ensureCapacityInternal_10 ?_
  refine j_iload_n G 2 rfl dJ0_ensureCapacityInternal_11 ?_
  refine j_iload_n G 0 rfl dJ0_ensureCapacityInternal_12 ?_
  refine j_isub G dJ0_ensureCapacityInternal_13 ?_
  refine j_if_le 38 G (by unfold iR at *; omega) dJ0_ensureCapacityInternal_14 (by decide) (fun c_14 => ?_) (fun c_14 => ?_)
  · skip
    exact j_vret G E ⟨rfl, rfl⟩ ⟨by omega, by omega⟩ dJ0_ensureCapacityInternal_38
  · skip
    exact absurd c_14 (by omega)
theorem hY_J16_canEncode : jY yJ16_canEncode 1 := ⟨by decide +kernel, by decide +kernel, by decide +kernel⟩
set_option maxHeartbeats 4000000 in
set_option maxRecDepth 100000 in
theorem c_J16_canEncode (l : Launch) (u : jU) (c : Int) (hc : 0 ≤ c ∧ c ≤ 127) : jC l u yJ16_canEncode cJ16_canEncode 1 (some .boolean) 0 0 0 0 [iI c] [] (fun v_ w_ => v_ = some (iI 1) ∧ w_ = []) := by
  refine jC.of "java/lang/StringLatin1" (by decide +kernel) rfl (Nat.le_of_ble_eq_true rfl) [(0, iI c)] rfl (fun X G E I => ?_)
  refine j_iload_n G 0 rfl dJ16_canEncode_0 ?_
  refine j_sipush G (by decide) dJ16_canEncode_1 ?_
  refine j_icmp_gt 11 G (by unfold iR at *; omega) (by unfold iR; omega) dJ16_canEncode_4 (by decide) (fun c_4 => ?_) (fun c_4 => ?_)
  · skip
    exact absurd c_4 (by omega)
  · skip
    refine j_iconst G dJ16_canEncode_7 ?_
    refine j_goto 12 G dJ16_canEncode_8 (by decide) ?_
    exact j_zret G E (by (try unfold iR at *); omega) ⟨rfl, rfl⟩ ⟨by omega, by omega⟩ dJ16_canEncode_12
theorem hY_J0_append_3 : jY yJ0_append_3 1 := ⟨by decide +kernel, by decide +kernel, by decide +kernel⟩
set_option maxHeartbeats 4000000 in
set_option maxRecDepth 100000 in
theorem c_J0_append_3 (l : Launch) (u : jU) (sb vb : Nat) (ml ct : Int) (tx : Int → Int) (c : Int) (hct : 0 ≤ ct ∧ ct < 60) (hc : 33 ≤ c ∧ c ≤ 126) : jC l u yJ0_append_3 cJ0_append_3 2 (some (.object "java/lang/AbstractStringBuilder")) 1 22 0 0 [.ref sb, iI c] [[(sb, jO 9 [.ref vb, iI 0, iI ml, iI ct])], [(vb, cB u 60 tx)]] (fun v_ w_ => v_ = some (.ref sb) ∧ w_ = [[(sb, jO 9 [.ref vb, iI 0, iI ml, iI (ct + 1)])], [(vb, cB u 60 (uZ tx ct c))]]) := by
  refine jC.of "java/lang/AbstractStringBuilder" (by decide +kernel) rfl (Nat.le_of_ble_eq_true rfl) [(0, .ref sb), (1, iI c)] rfl (fun X G E I => ?_)
  refine j_aload_n G 0 rfl dJ0_append_3_0 ?_
  refine j_aload_n G 0 rfl dJ0_append_3_1 ?_
  refine j_get G FJ1 (jAt_1 0 rfl) 3 (by decide) q160 rfl dJ0_append_3_2 ?_
  refine j_iconst G dJ0_append_3_5 ?_
  refine j_iadd G dJ0_append_3_6 ?_
  refine j_callP (z := ⟨"java/lang/AbstractStringBuilder", "isLatin1", "()Z"⟩) (wr := []) (k' := 0) (n' := 0) G FJ1 (c_J0_ensureCapacityInternal l u sb vb ml ct tx (ct + 1) (by (try unfold iR at *); omega)) (jAt_1 0 rfl) hY_J0_ensureCapacityInternal q261 q262 ⟨rfl, q299⟩ q263 q86 q264 q2265 (jcut 2 [0, 1] (by decide) rfl rfl) ⟨by omega, by omega, by omega, by omega, by omega, by omega⟩ (Nat.le_of_ble_eq_true rfl) dJ0_append_3_7 rfl (fun v_ w_ hp => ?_)
  obtain ⟨rfl, rfl⟩ := hp
  show jJ X u 2 [[(sb, jO 9 [.ref vb, iI 0, iI ml, iI ct])], [(vb, cB u 60 tx)]] [(0, .ref sb), (1, iI c)] 0 0 10 []
  refine j_aload_n G 0 rfl dJ0_append_3_10 ?_
  refine j_callU (wr := [[(vb, cB u 60 tx)]]) (k' := 0) (n' := 0) G FJ1 (c_J0_isLatin1 l u sb vb ml ct ) (jAt_1 0 rfl) ⟨rfl, hY_J0_isLatin1⟩ q296 q298 q299 q297 q86 q300 (jcut 2 [0, 1] (by decide) rfl rfl) ⟨by omega, by omega, by omega, by omega, by omega, by omega⟩ (Nat.le_of_ble_eq_true rfl) dJ0_append_3_11 rfl (fun v_ w_ hp => ?_)
  obtain ⟨rfl, rfl⟩ := hp
  show jJ X u 2 [[(sb, jO 9 [.ref vb, iI 0, iI ml, iI ct])], [(vb, cB u 60 tx)]] [(0, .ref sb), (1, iI c)] 0 0 14 [iI 1]
  refine j_if_eq 45 G (by unfold iR; omega) dJ0_append_3_14 (by decide) (fun c_14 => ?_) (fun c_14 => ?_)
  · exact absurd c_14 (by decide)
  · skip
    refine j_iload_n G 1 rfl dJ0_append_3_17 ?_
    refine j_callS (wr := [[(sb, jO 9 [.ref vb, iI 0, iI ml, iI ct])], [(vb, cB u 60 tx)]]) (k' := 0) (n' := 0) G (c_J16_canEncode l u c (by (try unfold iR at *); omega)) hY_J16_canEncode q1730 q1731 q105 q1732 (jcut 2 [0, 1] (by decide) rfl rfl) ⟨by omega, by omega, by omega, by omega, by omega, by omega⟩ (Nat.le_of_ble_eq_true rfl) dJ0_append_3_18 rfl (fun v_ w_ hp => ?_)
    obtain ⟨rfl, rfl⟩ := hp
    show jJ X u 2 [[(sb, jO 9 [.ref vb, iI 0, iI ml, iI ct])], [(vb, cB u 60 tx)]] [(0, .ref sb), (1, iI c)] 0 0 21 [iI 1]
    refine j_if_eq 45 G (by unfold iR; omega) dJ0_append_3_21 (by decide) (fun c_21 => ?_) (fun c_21 => ?_)
    · exact absurd c_21 (by decide)
    · skip
      refine j_aload_n G 0 rfl dJ0_append_3_24 ?_
      refine j_get G FJ1 (jAt_1 0 rfl) 0 (by decide) q156 rfl dJ0_append_3_25 ?_
      refine j_aload_n G 0 rfl dJ0_append_3_28 ?_
      refine j_dup G rfl dJ0_append_3_29 ?_
      refine j_get G FJ1 (jAt_1 0 rfl) 3 (by decide) q160 rfl dJ0_append_3_30 ?_
      refine j_dup_x1 G rfl rfl dJ0_append_3_33 ?_
      refine j_iconst G dJ0_append_3_34 ?_
      refine j_iadd G dJ0_append_3_35 ?_
      refine j_put (ws' := [[(sb, jO 9 [.ref vb, iI 0, iI ml, iI (ct + 1)])], [(vb, cB u 60 tx)]]) G FJ1 (jAt_1 0 rfl) 3 (by decide) q160 rfl rfl rfl (Nat.le_of_ble_eq_true rfl) dJ0_append_3_36 rfl ?_
      refine j_iload_n G 1 rfl dJ0_append_3_39 ?_
      refine j_i2b G dJ0_append_3_40 ?_
      refine j_eq (st' := [iI c, iI ct, .ref vb]) (by rw [jByt_c (by omega)]) ?_
      refine j_bastore (ws' := [[(sb, jO 9 [.ref vb, iI 0, iI ml, iI (ct + 1)])], [(vb, cB u 60 (uZ tx ct c))]]) G (jAt_1 1 rfl) (by (try unfold iR at *); omega) (by (try unfold iR at *); omega) (by (try unfold iR at *); omega) (jNar_c (by omega)) dJ0_append_3_41 rfl ?_
      refine j_goto 75 G dJ0_append_3_42 (by decide) ?_
      refine j_aload_n G 0 rfl dJ0_append_3_75 ?_
      exact j_aret (o := (some sb)) G E (Or.inl ⟨_, rfl⟩) ⟨rfl, rfl⟩ ⟨by omega, by omega⟩ dJ0_append_3_76
theorem hY_J1_append_3 : jY yJ1_append_3 1 := ⟨by decide +kernel, by decide +kernel, by decide +kernel⟩
set_option maxHeartbeats 4000000 in
set_option maxRecDepth 100000 in
theorem c_J1_append_3 (l : Launch) (u : jU) (sb vb : Nat) (ml ct : Int) (tx : Int → Int) (c : Int) (hct : 0 ≤ ct ∧ ct < 60) (hc : 33 ≤ c ∧ c ≤ 126) : jC l u yJ1_append_3 cJ1_append_3 2 (some (.object "java/lang/StringBuilder")) 2 43 0 0 [.ref sb, iI c] [[(sb, jO 9 [.ref vb, iI 0, iI ml, iI ct])], [(vb, cB u 60 tx)]] (fun v_ w_ => v_ = some (.ref sb) ∧ w_ = [[(sb, jO 9 [.ref vb, iI 0, iI ml, iI (ct + 1)])], [(vb, cB u 60 (uZ tx ct c))]]) := by
  refine jC.of "java/lang/StringBuilder" (by decide +kernel) rfl (Nat.le_of_ble_eq_true rfl) [(0, .ref sb), (1, iI c)] rfl (fun X G E I => ?_)
  refine j_aload_n G 0 rfl dJ1_append_3_0 ?_
  refine j_iload_n G 1 rfl dJ1_append_3_1 ?_
  refine j_callSU (wr := []) (k' := 0) (n' := 0) G FJ1 (c_J0_append_3 l u sb vb ml ct tx c hct hc) (jAt_1 0 rfl) ⟨by decide, hY_J0_append_3.2.2⟩ q1727 q2275 q169 q1728 q86 q1729 (jcut 2 [0, 1] (by decide) rfl rfl) ⟨by omega, by omega, by omega, by omega, by omega, by omega⟩ (Nat.le_of_ble_eq_true rfl) dJ1_append_3_2 rfl (fun v_ w_ hp => ?_)
  obtain ⟨rfl, rfl⟩ := hp
  show jJ X u 2 [[(sb, jO 9 [.ref vb, iI 0, iI ml, iI (ct + 1)])], [(vb, cB u 60 (uZ tx ct c))]] [(0, .ref sb), (1, iI c)] 0 0 5 [.ref sb]
  refine j_pop G rfl dJ1_append_3_5 ?_
  refine j_aload_n G 0 rfl dJ1_append_3_6 ?_
  exact j_aret (o := (some sb)) G E (Or.inl ⟨_, rfl⟩) ⟨rfl, rfl⟩ ⟨by omega, by omega⟩ dJ1_append_3_7
theorem hY_J0_length : jY yJ0_length 0 := ⟨by decide +kernel, by decide +kernel, by decide +kernel⟩
set_option maxHeartbeats 4000000 in
set_option maxRecDepth 100000 in
theorem c_J0_length (l : Launch) (u : jU) (sb vb : Nat) (ml ct : Int)  : jC l u yJ0_length cJ0_length 1 (some .int) 0 0 0 0 [.ref sb] [[(sb, jO 9 [.ref vb, iI 0, iI ml, iI ct])]] (fun v_ w_ => v_ = some (iI ct) ∧ w_ = [[(sb, jO 9 [.ref vb, iI 0, iI ml, iI ct])]]) := by
  refine jC.of "java/lang/AbstractStringBuilder" (by decide +kernel) rfl (Nat.le_of_ble_eq_true rfl) [(0, .ref sb)] rfl (fun X G E I => ?_)
  refine j_aload_n G 0 rfl dJ0_length_0 ?_
  refine j_get G FJ1 (jAt_1 0 rfl) 3 (by decide) q160 rfl dJ0_length_1 ?_
  exact j_iret G E ⟨rfl, rfl⟩ ⟨by omega, by omega⟩ dJ0_length_4
theorem hY_J1_length : jY yJ1_length 0 := ⟨by decide +kernel, by decide +kernel, by decide +kernel⟩
set_option maxHeartbeats 4000000 in
set_option maxRecDepth 100000 in
theorem c_J1_length (l : Launch) (u : jU) (sb vb : Nat) (ml ct : Int)  : jC l u yJ1_length cJ1_length 1 (some .int) 1 20 0 0 [.ref sb] [[(sb, jO 9 [.ref vb, iI 0, iI ml, iI ct])]] (fun v_ w_ => v_ = some (iI ct) ∧ w_ = [[(sb, jO 9 [.ref vb, iI 0, iI ml, iI ct])]]) := by
  refine jC.of "java/lang/StringBuilder" (by decide +kernel) rfl (Nat.le_of_ble_eq_true rfl) [(0, .ref sb)] rfl (fun X G E I => ?_)
  refine j_aload_n G 0 rfl dJ1_length_0 ?_
  refine j_callSU (wr := []) (k' := 0) (n' := 0) G FJ1 (c_J0_length l u sb vb ml ct ) (jAt_1 0 rfl) ⟨by decide, hY_J0_length.2.2⟩ q230 q2261 q169 q231 q86 q232 (jcut 1 [0] (by decide) rfl rfl) ⟨by omega, by omega, by omega, by omega, by omega, by omega⟩ (Nat.le_of_ble_eq_true rfl) dJ1_length_1 rfl (fun v_ w_ hp => ?_)
  obtain ⟨rfl, rfl⟩ := hp
  show jJ X u 1 [[(sb, jO 9 [.ref vb, iI 0, iI ml, iI ct])]] [(0, .ref sb)] 0 0 4 [iI ct]
  exact j_iret G E ⟨rfl, rfl⟩ ⟨by omega, by omega⟩ dJ1_length_4
theorem hY_J0_setLength : jY yJ0_setLength 1 := ⟨by decide +kernel, by decide +kernel, by decide +kernel⟩
set_option maxHeartbeats 4000000 in
set_option maxRecDepth 100000 in
theorem c_J0_setLength (l : Launch) (u : jU) (sb vb : Nat) (ml ct : Int) (tx : Int → Int) (hct : 0 ≤ ct ∧ ct ≤ 60) : jC l u yJ0_setLength cJ0_setLength 2 none 1 22 0 0 [.ref sb, iI 0] [[(sb, jO 9 [.ref vb, iI 0, iI ml, iI ct])], [(vb, cB u 60 tx)]] (fun v_ w_ => ∃ (ml2 : Int), v_ = none ∧ w_ = [[(sb, jO 9 [.ref vb, iI 0, iI ml2, iI 0])], [(vb, cB u 60 tx)]]) := by
  refine jC.of "java/lang/AbstractStringBuilder" (by decide +kernel) rfl (Nat.le_of_ble_eq_true rfl) [(0, .ref sb), (1, iI 0)] rfl (fun X G E I => ?_)
  refine j_iload_n G 1 rfl dJ0_setLength_0 ?_
  refine j_if_ge 13 G (by unfold iR; omega) dJ0_setLength_1 (by decide) (fun c_1 => ?_) (fun c_1 => ?_)
  · skip
    refine j_aload_n G 0 rfl dJ0_setLength_13 ?_
    refine j_iload_n G 1 rfl dJ0_setLength_14 ?_
    refine j_callP (z := ⟨"java/lang/AbstractStringBuilder", "isLatin1", "()Z"⟩) (wr := []) (k' := 0) (n' := 0) G FJ1 (c_J0_ensureCapacityInternal l u sb vb ml ct tx 0 (by (try unfold iR at *); omega)) (jAt_1 0 rfl) hY_J0_ensureCapacityInternal q261 q262 ⟨rfl, q299⟩ q263 q86 q264 q2265 (jcut 2 [0, 1] (by decide) rfl rfl) ⟨by omega, by omega, by omega, by omega, by omega, by omega⟩ (Nat.le_of_ble_eq_true rfl) dJ0_setLength_15 rfl (fun v_ w_ hp => ?_)
    obtain ⟨rfl, rfl⟩ := hp
    show jJ X u 2 [[(sb, jO 9 [.ref vb, iI 0, iI ml, iI ct])], [(vb, cB u 60 tx)]] [(0, .ref sb), (1, iI 0)] 0 0 18 []
    refine j_aload_n G 0 rfl dJ0_setLength_18 ?_
    refine j_get G FJ1 (jAt_1 0 rfl) 3 (by decide) q160 rfl dJ0_setLength_19 ?_
    refine j_iload_n G 1 rfl dJ0_setLength_22 ?_
    refine j_icmp_ge 63 G (by unfold iR at *; omega) (by unfold iR; omega) dJ0_setLength_23 (by decide) (fun c_23 => ?_) (fun c_23 => ?_)
    · skip
      refine j_aload_n G 0 rfl dJ0_setLength_63 ?_
      refine j_get G FJ1 (jAt_1 0 rfl) 3 (by decide) q160 rfl dJ0_setLength_64 ?_
      refine j_iload_n G 1 rfl dJ0_setLength_67 ?_
      refine j_icmp_le 76 G (by unfold iR at *; omega) (by unfold iR; omega) dJ0_setLength_68 (by decide) (fun c_68 => ?_) (fun c_68 => ?_)
      · skip
        refine j_aload_n G 0 rfl dJ0_setLength_76 ?_
        refine j_iload_n G 1 rfl dJ0_setLength_77 ?_
        refine j_put (ws' := [[(sb, jO 9 [.ref vb, iI 0, iI ml, iI 0])], [(vb, cB u 60 tx)]]) G FJ1 (jAt_1 0 rfl) 3 (by decide) q160 rfl rfl rfl (Nat.le_of_ble_eq_true rfl) dJ0_setLength_78 rfl ?_
        exact j_vret G E ⟨ml, rfl, rfl⟩ ⟨by omega, by omega⟩ dJ0_setLength_81
      · skip
        refine j_aload_n G 0 rfl dJ0_setLength_71 ?_
        refine j_iconst G dJ0_setLength_72 ?_
        refine j_put (ws' := [[(sb, jO 9 [.ref vb, iI 0, iI 1, iI ct])], [(vb, cB u 60 tx)]]) G FJ1 (jAt_1 0 rfl) 2 (by decide) q158 rfl rfl rfl (Nat.le_of_ble_eq_true rfl) dJ0_setLength_73 rfl ?_
        refine j_aload_n G 0 rfl dJ0_setLength_76 ?_
        refine j_iload_n G 1 rfl dJ0_setLength_77 ?_
        refine j_put (ws' := [[(sb, jO 9 [.ref vb, iI 0, iI 1, iI 0])], [(vb, cB u 60 tx)]]) G FJ1 (jAt_1 0 rfl) 3 (by decide) q160 rfl rfl rfl (Nat.le_of_ble_eq_true rfl) dJ0_setLength_78 rfl ?_
        exact j_vret G E ⟨1, rfl, rfl⟩ ⟨by omega, by omega⟩ dJ0_setLength_81
    · skip
      exact absurd c_23 (by omega)
  · exact absurd c_1 (by decide)
theorem hY_J1_setLength : jY yJ1_setLength 1 := ⟨by decide +kernel, by decide +kernel, by decide +kernel⟩
set_option maxHeartbeats 4000000 in
set_option maxRecDepth 100000 in
theorem c_J1_setLength (l : Launch) (u : jU) (sb vb : Nat) (ml ct : Int) (tx : Int → Int) (hct : 0 ≤ ct ∧ ct ≤ 60) : jC l u yJ1_setLength cJ1_setLength 2 none 2 43 0 0 [.ref sb, iI 0] [[(sb, jO 9 [.ref vb, iI 0, iI ml, iI ct])], [(vb, cB u 60 tx)]] (fun v_ w_ => ∃ (ml2 : Int), v_ = none ∧ w_ = [[(sb, jO 9 [.ref vb, iI 0, iI ml2, iI 0])], [(vb, cB u 60 tx)]]) := by
  refine jC.of "java/lang/StringBuilder" (by decide +kernel) rfl (Nat.le_of_ble_eq_true rfl) [(0, .ref sb), (1, iI 0)] rfl (fun X G E I => ?_)
  refine j_aload_n G 0 rfl dJ1_setLength_0 ?_
  refine j_iload_n G 1 rfl dJ1_setLength_1 ?_
  refine j_callSU (wr := []) (k' := 0) (n' := 0) G FJ1 (c_J0_setLength l u sb vb ml ct tx hct) (jAt_1 0 rfl) ⟨by decide, hY_J0_setLength.2.2⟩ q237 q2262 q169 q238 q86 q239 (jcut 2 [0, 1] (by decide) rfl rfl) ⟨by omega, by omega, by omega, by omega, by omega, by omega⟩ (Nat.le_of_ble_eq_true rfl) dJ1_setLength_2 rfl (fun v_ w_ hp => ?_)
  obtain ⟨ml2_2, rfl, rfl⟩ := hp
  show jJ X u 2 [[(sb, jO 9 [.ref vb, iI 0, iI ml2_2, iI 0])], [(vb, cB u 60 tx)]] [(0, .ref sb), (1, iI 0)] 0 0 5 []
  exact j_vret G E ⟨ml2_2, rfl, rfl⟩ ⟨by omega, by omega⟩ dJ1_setLength_5
theorem hY_J17_checkIndex : jY yJ17_checkIndex 3 := ⟨by decide +kernel, by decide +kernel, by decide +kernel⟩
set_option maxHeartbeats 4000000 in
set_option maxRecDepth 100000 in
theorem c_J17_checkIndex (l : Launch) (u : jU) (a b : Int) (o : Option Nat) (hab : 0 ≤ a ∧ a < b) (hb : iR b) : jC l u yJ17_checkIndex cJ17_checkIndex 3 (some .int) 0 0 0 0 [iI a, iI b, va_rf o] [] (fun v_ w_ => v_ = some (iI a) ∧ w_ = []) := by
  refine jC.of "jdk/internal/util/Preconditions" (by decide +kernel) rfl (by cases o <;> exact Nat.le_of_ble_eq_true rfl) [(0, iI a), (1, iI b), (2, va_rf o)] (by cases o <;> rfl) (fun X G E I => ?_)
  refine j_iload_n G 0 rfl dJ17_checkIndex_0 ?_
  refine j_if_lt 9 G (by unfold iR at *; omega) dJ17_checkIndex_1 (by decide) (fun c_1 => ?_) (fun c_1 => ?_)
  · skip
    exact absurd c_1 (by omega)
  · skip
    refine j_iload_n G 0 rfl dJ17_checkIndex_4 ?_
    refine j_iload_n G 1 rfl dJ17_checkIndex_5 ?_
    refine j_icmp_lt 16 G (by unfold iR at *; omega) hb dJ17_checkIndex_6 (by decide) (fun c_6 => ?_) (fun c_6 => ?_)
    · skip
      refine j_iload_n G 0 rfl dJ17_checkIndex_16 ?_
      exact j_iret G E ⟨rfl, rfl⟩ ⟨by omega, by omega⟩ dJ17_checkIndex_17
    · skip
      exact absurd c_6 (by omega)
theorem hY_J2_checkIndex : jY yJ2_checkIndex 2 := ⟨by decide +kernel, by decide +kernel, by decide +kernel⟩
set_option maxHeartbeats 4000000 in
set_option maxRecDepth 100000 in
theorem c_J2_checkIndex (l : Launch) (u : jU) (a b : Int) (hab : 0 ≤ a ∧ a < b) (hb : iR b) : jC l u yJ2_checkIndex cJ2_checkIndex 2 none 1 22 0 0 [iI a, iI b] [] (fun v_ w_ => v_ = none ∧ w_ = []) := by
  refine jC.of "java/lang/String" (by decide +kernel) rfl (Nat.le_of_ble_eq_true rfl) [(0, iI a), (1, iI b)] rfl (fun X G E I => ?_)
  refine j_iload_n G 0 rfl dJ2_checkIndex_0 ?_
  refine j_iload_n G 1 rfl dJ2_checkIndex_1 ?_
  refine j_getsq G q313 q314 (lw_all_tbl q106) jE2 dJ2_checkIndex_2 (fun s2 => ?_)
  refine j_callS (wr := []) (k' := 0) (n' := 0) G (c_J17_checkIndex l u a b s2 hab hb) hY_J17_checkIndex q631 q632 q106 q633 (jcut 0 [] (by decide) rfl rfl) ⟨by omega, by omega, by omega, by omega, by omega, by omega⟩ (Nat.le_of_ble_eq_true rfl) dJ2_checkIndex_5 rfl (fun v_ w_ hp => ?_)
  obtain ⟨rfl, rfl⟩ := hp
  show jJ X u 2 [] [(0, iI a), (1, iI b)] 0 0 8 [iI a]
  refine j_pop G rfl dJ2_checkIndex_8 ?_
  exact j_vret G E ⟨rfl, rfl⟩ ⟨by omega, by omega⟩ dJ2_checkIndex_9
theorem hY_J0_charAt : jY yJ0_charAt 1 := ⟨by decide +kernel, by decide +kernel, by decide +kernel⟩
set_option maxHeartbeats 4000000 in
set_option maxRecDepth 100000 in
theorem c_J0_charAt (l : Launch) (u : jU) (sb vb : Nat) (ml ct : Int) (tx : Int → Int) (a : Int) (hct : 0 ≤ ct ∧ ct ≤ 60) (hab : 0 ≤ a ∧ a < ct) (htx : 33 ≤ tx a ∧ tx a ≤ 126) : jC l u yJ0_charAt cJ0_charAt 5 (some .char) 2 43 0 0 [.ref sb, iI a] [[(sb, jO 9 [.ref vb, iI 0, iI ml, iI ct])], [(vb, cB u 60 tx)]] (fun v_ w_ => v_ = some (iI (tx a)) ∧ w_ = [[(sb, jO 9 [.ref vb, iI 0, iI ml, iI ct])], [(vb, cB u 60 tx)]]) := by
  refine jC.of "java/lang/AbstractStringBuilder" (by decide +kernel) rfl (Nat.le_of_ble_eq_true rfl) [(0, .ref sb), (1, iI a)] rfl (fun X G E I => ?_)
  refine j_aload_n G 0 rfl dJ0_charAt_0 ?_
  refine j_get G FJ1 (jAt_1 0 rfl) 1 (by decide) q157 rfl dJ0_charAt_1 ?_
  refine j_istore_n G [(2, iI 0), (0, .ref sb), (1, iI a)] rfl (by decide) dJ0_charAt_4 ?_
  refine j_aload_n G 1 rfl dJ0_charAt_5 ?_
  refine j_get G FJ1 (jAt_1 0 rfl) 0 (by decide) q156 rfl dJ0_charAt_6 ?_
  refine j_astore_n G [(3, .ref vb), (2, iI 0), (0, .ref sb), (1, iI a)] rfl (by decide) dJ0_charAt_9 ?_
  refine j_aload_n G 2 rfl dJ0_charAt_10 ?_
  refine j_get G FJ1 (jAt_1 0 rfl) 3 (by decide) q160 rfl dJ0_charAt_11 ?_
  refine j_aload_n G 0 rfl dJ0_charAt_14 ?_
  refine j_alen_b G (jAt_1 1 rfl) dJ0_charAt_15 ?_
  refine j_iload_n G 1 rfl dJ0_charAt_16 ?_
  refine j_ishr G dJ0_charAt_17 ?_
  refine j_eq (st' := [iI 60, iI ct]) (by rw [show (((60 : Nat) : Int)) = 60 from rfl, jShr_60]) ?_
  refine j_mmin G (by unfold iR at *; omega) (by unfold iR; omega) q627 q291 q102 ⟨by omega, by omega, by omega, by omega⟩ (Nat.le_of_ble_eq_true rfl) dJ0_charAt_18 ?_
  refine j_eq (st' := [iI ct]) (by rw [if_neg (by omega)]) ?_
  refine j_istore G [(4, iI ct), (3, .ref vb), (2, iI 0), (0, .ref sb), (1, iI a)] rfl (by decide) dJ0_charAt_21 ?_
  refine j_iload_n G 4 rfl dJ0_charAt_23 ?_
  refine j_iload G 0 rfl dJ0_charAt_24 ?_
  refine j_callS (wr := [[(sb, jO 9 [.ref vb, iI 0, iI ml, iI ct])], [(vb, cB u 60 tx)]]) (k' := 0) (n' := 0) G (c_J2_checkIndex l u a ct hab (by unfold iR at *; omega)) hY_J2_checkIndex q628 q629 q88 q630 (jcut 2 [0, 1] (by decide) rfl rfl) ⟨by omega, by omega, by omega, by omega, by omega, by omega⟩ (Nat.le_of_ble_eq_true rfl) dJ0_charAt_26 rfl (fun v_ w_ hp => ?_)
  obtain ⟨rfl, rfl⟩ := hp
  show jJ X u 5 [[(sb, jO 9 [.ref vb, iI 0, iI ml, iI ct])], [(vb, cB u 60 tx)]] [(4, iI ct), (3, .ref vb), (2, iI 0), (0, .ref sb), (1, iI a)] 0 0 29 []
  refine j_iload_n G 2 rfl dJ0_charAt_29 ?_
  refine j_if_ne 42 G (by unfold iR; omega) dJ0_charAt_30 (by decide) (fun c_30 => ?_) (fun c_30 => ?_)
  · exact absurd c_30 (by decide)
  · skip
    refine j_aload_n G 1 rfl dJ0_charAt_33 ?_
    refine j_iload_n G 4 rfl dJ0_charAt_34 ?_
    refine j_baload G (jAt_1 1 rfl) (by (try unfold iR at *); omega) (by (try unfold iR at *); omega) (by (try unfold iR at *); omega) dJ0_charAt_35 ?_
    refine j_sipush G (by decide) dJ0_charAt_36 ?_
    refine j_iand G dJ0_charAt_39 ?_
    refine j_i2c G dJ0_charAt_40 ?_
    refine j_eq (st' := [iI (tx a)]) (by rw [(jChr_c (by omega)).1]) ?_
    exact j_cret G E (jNarC_c (by omega)) ⟨rfl, rfl⟩ ⟨by omega, by omega⟩ dJ0_charAt_41
theorem hY_J1_charAt : jY yJ1_charAt 1 := ⟨by decide +kernel, by decide +kernel, by decide +kernel⟩
set_option maxHeartbeats 4000000 in
set_option maxRecDepth 100000 in
theorem c_J1_charAt (l : Launch) (u : jU) (sb vb : Nat) (ml ct : Int) (tx : Int → Int) (a : Int) (hct : 0 ≤ ct ∧ ct ≤ 60) (hab : 0 ≤ a ∧ a < ct) (htx : 33 ≤ tx a ∧ tx a ≤ 126) : jC l u yJ1_charAt cJ1_charAt 2 (some .char) 3 67 0 0 [.ref sb, iI a] [[(sb, jO 9 [.ref vb, iI 0, iI ml, iI ct])], [(vb, cB u 60 tx)]] (fun v_ w_ => v_ = some (iI (tx a)) ∧ w_ = [[(sb, jO 9 [.ref vb, iI 0, iI ml, iI ct])], [(vb, cB u 60 tx)]]) := by
  refine jC.of "java/lang/StringBuilder" (by decide +kernel) rfl (Nat.le_of_ble_eq_true rfl) [(0, .ref sb), (1, iI a)] rfl (fun X G E I => ?_)
  refine j_aload_n G 0 rfl dJ1_charAt_0 ?_
  refine j_iload_n G 1 rfl dJ1_charAt_1 ?_
  refine j_callSU (wr := []) (k' := 0) (n' := 0) G FJ1 (c_J0_charAt l u sb vb ml ct tx a hct hab htx) (jAt_1 0 rfl) ⟨by decide, hY_J0_charAt.2.2⟩ q624 q2273 q169 q625 q86 q626 (jcut 2 [0, 1] (by decide) rfl rfl) ⟨by omega, by omega, by omega, by omega, by omega, by omega⟩ (Nat.le_of_ble_eq_true rfl) dJ1_charAt_2 rfl (fun v_ w_ hp => ?_)
  obtain ⟨rfl, rfl⟩ := hp
  show jJ X u 2 [[(sb, jO 9 [.ref vb, iI 0, iI ml, iI ct])], [(vb, cB u 60 tx)]] [(0, .ref sb), (1, iI a)] 0 0 5 [iI (tx a)]
  exact j_cret G E (jNarC_c (by omega)) ⟨rfl, rfl⟩ ⟨by omega, by omega⟩ dJ1_charAt_5
theorem hY_J0_init : jY yJ0_init 1 := ⟨by decide +kernel, by decide +kernel, by decide +kernel⟩
set_option maxHeartbeats 4000000 in
set_option maxRecDepth 100000 in
theorem c_J0_init (l : Launch) (u : jU) (sb : Nat)  : jC l u yJ0_init cJ0_init 2 none 1 20 1 60 [.ref sb, iI 60] [[(sb, jO 9 [.null, iI 0, iI 0, iI 0])]] (fun v_ w_ => ∃ (vb : Nat), v_ = none ∧ w_ = [[(sb, jO 9 [.ref vb, iI 0, iI 0, iI 0])], [(vb, cB u 60 (fun _ => 0))]]) := by
  refine jC.of "java/lang/AbstractStringBuilder" (by decide +kernel) rfl (Nat.le_of_ble_eq_true rfl) [(0, .ref sb), (1, iI 60)] rfl (fun X G E I => ?_)
  have I := I rfl
  refine j_aload_n G 0 rfl dJ0_init_0 ?_
  refine j_objInit G q146 q136 q137 ⟨by omega, by omega⟩ (Nat.le_of_ble_eq_true rfl) dJ0_init_1 ?_
  refine j_getsi 1 G q147 q148 (lw_all_tbl q88) jE1 dJ0_init_4 ?_
  refine j_if_eq 25 G (by unfold iR; omega) dJ0_init_7 (by decide) (fun c_7 => ?_) (fun c_7 => ?_)
  · exact absurd c_7 (by decide)
  · skip
    refine j_aload_n G 0 rfl dJ0_init_10 ?_
    refine j_iload_n G 1 rfl dJ0_init_11 ?_
    refine j_newarr_b (k' := 1) (n' := 60) 60 G q171 rfl (by (try unfold iR at *); omega) ⟨by omega, by omega, by omega, by omega⟩ dJ0_init_12 (fun o12 => ?_)
    refine j_put (ws' := [[(o12, cB u 60 (fun _ => 0))], [(sb, jO 9 [.ref o12, iI 0, iI 0, iI 0])]]) G FJ1 (jAt_1 1 rfl) 0 (by decide) q156 rfl rfl rfl (Nat.le_of_ble_eq_true rfl) dJ0_init_14 rfl ?_
    refine j_aload_n G 0 rfl dJ0_init_17 ?_
    refine j_iconst G dJ0_init_18 ?_
    refine j_put (ws' := [[(o12, cB u 60 (fun _ => 0))], [(sb, jO 9 [.ref o12, iI 0, iI 0, iI 0])]]) G FJ1 (jAt_1 1 rfl) 1 (by decide) q157 rfl rfl rfl (Nat.le_of_ble_eq_true rfl) dJ0_init_19 rfl ?_
    refine j_goto 38 G dJ0_init_22 (by decide) ?_
    refine j_ws (ws' := [[(sb, jO 9 [.ref o12, iI 0, iI 0, iI 0])], [(o12, cB u 60 (fun _ => 0))]]) (jperm 2 [1, 0] (by decide) rfl rfl) ?_
    exact j_vret G E ⟨o12, rfl, rfl⟩ ⟨by omega, by omega⟩ dJ0_init_38
theorem hY_J1_init : jY yJ1_init 1 := ⟨by decide +kernel, by decide +kernel, by decide +kernel⟩
set_option maxHeartbeats 4000000 in
set_option maxRecDepth 100000 in
theorem c_J1_init (l : Launch) (u : jU) (sb : Nat)  : jC l u yJ1_init cJ1_init 2 none 2 41 1 60 [.ref sb, iI 60] [[(sb, jO 9 [.null, iI 0, iI 0, iI 0])]] (fun v_ w_ => ∃ (vb : Nat), v_ = none ∧ w_ = [[(sb, jO 9 [.ref vb, iI 0, iI 0, iI 0])], [(vb, cB u 60 (fun _ => 0))]]) := by
  refine jC.of "java/lang/StringBuilder" (by decide +kernel) rfl (Nat.le_of_ble_eq_true rfl) [(0, .ref sb), (1, iI 60)] rfl (fun X G E I => ?_)
  have I := I rfl
  refine j_aload_n G 0 rfl dJ1_init_0 ?_
  refine j_iload_n G 1 rfl dJ1_init_1 ?_
  refine j_callI (wr := []) (k' := 1) (n' := 60) G (c_J0_init l u sb ) ⟨rfl, hY_J0_init⟩ q143 q144 q86 q145 (jcut 1 [0] (by decide) rfl rfl) ⟨by omega, by omega, by omega, by omega, by omega, by omega⟩ (Nat.le_of_ble_eq_true rfl) dJ1_init_2 rfl (fun v_ w_ hp => ?_)
  obtain ⟨vb_2, rfl, rfl⟩ := hp
  show jJ X u 2 [[(sb, jO 9 [.ref vb_2, iI 0, iI 0, iI 0])], [(vb_2, cB u 60 (fun _ => 0))]] [(0, .ref sb), (1, iI 60)] 1 60 5 []
  exact j_vret G E ⟨vb_2, rfl, rfl⟩ ⟨by omega, by omega⟩ dJ1_init_5
