theorem hY_X1_require : jY yX1_require 1 := ⟨by decide +kernel, by decide +kernel, by decide +kernel⟩
set_option maxHeartbeats 4000000 in
set_option maxRecDepth 100000 in
theorem c_X1_require (l : Launch) (u : jU) (b : Int) (hl0 : l.stackTraces = false) (hb : b = 0 ∨ b = 1) : jCX l u yX1_require cX1_require 1 none 6 89 1 6 [iI b] [] (fun v_ w_ => b = 1 ∧ v_ = none ∧ w_ = []) (fun E_ w_ => (E_ = "java/lang/IllegalArgumentException" ∧ b = 0 ∧ w_ = [])) := by
  refine jCX.of "FlashRatchet" (by decide +kernel) rfl (Nat.le_of_ble_eq_true rfl) [(0, iI b)] rfl (fun X G EX => ?_)
  have E := EX.E
  refine j_iload_n G 0 rfl dX1_require_0 ?_
  refine j_if_ne 12 G (by unfold iR at *; omega) dX1_require_1 (by decide) (fun c_1 => ?_) (fun c_1 => ?_)
  · skip
    exact j_vret G E ⟨(by omega), rfl, rfl⟩ ⟨by omega, by omega⟩ dX1_require_12
  · skip
    exact j_throw0 (cls := "java/lang/IllegalArgumentException") (ik := 1) (ic := 3) G EX hl0 jTw_iae (jTg_iae _) q1617 q94 dX1_require_4 dX1_require_7 dX1_require_8 dX1_require_11 (Nat.le_of_ble_eq_true rfl) ⟨by omega, by omega, by omega, by omega, by omega, by omega⟩ ⟨rfl, (by (try unfold iR at *); omega), rfl⟩
theorem hY_X1_requireState : jY yX1_requireState 1 := ⟨by decide +kernel, by decide +kernel, by decide +kernel⟩
set_option maxHeartbeats 4000000 in
set_option maxRecDepth 100000 in
theorem c_X1_requireState (l : Launch) (u : jU) (b : Int) (hl0 : l.stackTraces = false) (hb : b = 0 ∨ b = 1) : jCX l u yX1_requireState cX1_requireState 1 none 6 89 1 6 [iI b] [] (fun v_ w_ => b = 1 ∧ v_ = none ∧ w_ = []) (fun E_ w_ => (E_ = "java/lang/IllegalStateException" ∧ b = 0 ∧ w_ = [])) := by
  refine jCX.of "FlashRatchet" (by decide +kernel) rfl (Nat.le_of_ble_eq_true rfl) [(0, iI b)] rfl (fun X G EX => ?_)
  have E := EX.E
  refine j_iload_n G 0 rfl dX1_requireState_0 ?_
  refine j_if_ne 12 G (by unfold iR at *; omega) dX1_requireState_1 (by decide) (fun c_1 => ?_) (fun c_1 => ?_)
  · skip
    exact j_vret G E ⟨(by omega), rfl, rfl⟩ ⟨by omega, by omega⟩ dX1_requireState_12
  · skip
    exact j_throw0 (cls := "java/lang/IllegalStateException") (ik := 7) (ic := 9) G EX hl0 jTw_ise (jTg_ise _) q1701 q99 dX1_requireState_4 dX1_requireState_7 dX1_requireState_8 dX1_requireState_11 (Nat.le_of_ble_eq_true rfl) ⟨by omega, by omega, by omega, by omega, by omega, by omega⟩ ⟨rfl, (by (try unfold iR at *); omega), rfl⟩
theorem hY_X1_requireIndex : jY yX1_requireIndex 1 := ⟨by decide +kernel, by decide +kernel, by decide +kernel⟩
set_option maxHeartbeats 4000000 in
set_option maxRecDepth 100000 in
theorem c_X1_requireIndex (l : Launch) (u : jU) (b : Int) (hl0 : l.stackTraces = false) (hb : b = 0 ∨ b = 1) : jCX l u yX1_requireIndex cX1_requireIndex 1 none 6 89 1 6 [iI b] [] (fun v_ w_ => b = 1 ∧ v_ = none ∧ w_ = []) (fun E_ w_ => (E_ = "java/lang/IndexOutOfBoundsException" ∧ b = 0 ∧ w_ = [])) := by
  refine jCX.of "FlashRatchet" (by decide +kernel) rfl (Nat.le_of_ble_eq_true rfl) [(0, iI b)] rfl (fun X G EX => ?_)
  have E := EX.E
  refine j_iload_n G 0 rfl dX1_requireIndex_0 ?_
  refine j_if_ne 12 G (by unfold iR at *; omega) dX1_requireIndex_1 (by decide) (fun c_1 => ?_) (fun c_1 => ?_)
  · skip
    exact j_vret G E ⟨(by omega), rfl, rfl⟩ ⟨by omega, by omega⟩ dX1_requireIndex_12
  · skip
    exact j_throw0 (cls := "java/lang/IndexOutOfBoundsException") (ik := 10) (ic := 12) G EX hl0 jTw_iob (jTg_iob _) q1637 q95 dX1_requireIndex_4 dX1_requireIndex_7 dX1_requireIndex_8 dX1_requireIndex_11 (Nat.le_of_ble_eq_true rfl) ⟨by omega, by omega, by omega, by omega, by omega, by omega⟩ ⟨rfl, (by (try unfold iR at *); omega), rfl⟩
theorem hY_J11_bitCount : jY yJ11_bitCount 1 := ⟨by decide +kernel, by decide +kernel, by decide +kernel⟩
theorem bc_fin : ∀ a : Fin 16, (jAnd (((jAnd (((jAnd (((a : Nat) : Int) - (jAnd (jUshr ((a : Nat) : Int) 1) 1431655765)) 858993459) + (jAnd (jUshr (((a : Nat) : Int) - (jAnd (jUshr ((a : Nat) : Int) 1) 1431655765)) 2) 858993459)) + (jUshr ((jAnd (((a : Nat) : Int) - (jAnd (jUshr ((a : Nat) : Int) 1) 1431655765)) 858993459) + (jAnd (jUshr (((a : Nat) : Int) - (jAnd (jUshr ((a : Nat) : Int) 1) 1431655765)) 2) 858993459)) 4)) 252645135) + (jUshr (jAnd (((jAnd (((a : Nat) : Int) - (jAnd (jUshr ((a : Nat) : Int) 1) 1431655765)) 858993459) + (jAnd (jUshr (((a : Nat) : Int) - (jAnd (jUshr ((a : Nat) : Int) 1) 1431655765)) 2) 858993459)) + (jUshr ((jAnd (((a : Nat) : Int) - (jAnd (jUshr ((a : Nat) : Int) 1) 1431655765)) 858993459) + (jAnd (jUshr (((a : Nat) : Int) - (jAnd (jUshr ((a : Nat) : Int) 1) 1431655765)) 2) 858993459)) 4)) 252645135) 8)) + (jUshr ((jAnd (((jAnd (((a : Nat) : Int) - (jAnd (jUshr ((a : Nat) : Int) 1) 1431655765)) 858993459) + (jAnd (jUshr (((a : Nat) : Int) - (jAnd (jUshr ((a : Nat) : Int) 1) 1431655765)) 2) 858993459)) + (jUshr ((jAnd (((a : Nat) : Int) - (jAnd (jUshr ((a : Nat) : Int) 1) 1431655765)) 858993459) + (jAnd (jUshr (((a : Nat) : Int) - (jAnd (jUshr ((a : Nat) : Int) 1) 1431655765)) 2) 858993459)) 4)) 252645135) + (jUshr (jAnd (((jAnd (((a : Nat) : Int) - (jAnd (jUshr ((a : Nat) : Int) 1) 1431655765)) 858993459) + (jAnd (jUshr (((a : Nat) : Int) - (jAnd (jUshr ((a : Nat) : Int) 1) 1431655765)) 2) 858993459)) + (jUshr ((jAnd (((a : Nat) : Int) - (jAnd (jUshr ((a : Nat) : Int) 1) 1431655765)) 858993459) + (jAnd (jUshr (((a : Nat) : Int) - (jAnd (jUshr ((a : Nat) : Int) 1) 1431655765)) 2) 858993459)) 4)) 252645135) 8)) 16)) 63) = sBits ((a : Nat) : Int) := by decide +kernel
theorem bc_eq {s : Int} (hs : 0 ≤ s ∧ s < 16) : (jAnd (((jAnd (((jAnd (s - (jAnd (jUshr s 1) 1431655765)) 858993459) + (jAnd (jUshr (s - (jAnd (jUshr s 1) 1431655765)) 2) 858993459)) + (jUshr ((jAnd (s - (jAnd (jUshr s 1) 1431655765)) 858993459) + (jAnd (jUshr (s - (jAnd (jUshr s 1) 1431655765)) 2) 858993459)) 4)) 252645135) + (jUshr (jAnd (((jAnd (s - (jAnd (jUshr s 1) 1431655765)) 858993459) + (jAnd (jUshr (s - (jAnd (jUshr s 1) 1431655765)) 2) 858993459)) + (jUshr ((jAnd (s - (jAnd (jUshr s 1) 1431655765)) 858993459) + (jAnd (jUshr (s - (jAnd (jUshr s 1) 1431655765)) 2) 858993459)) 4)) 252645135) 8)) + (jUshr ((jAnd (((jAnd (s - (jAnd (jUshr s 1) 1431655765)) 858993459) + (jAnd (jUshr (s - (jAnd (jUshr s 1) 1431655765)) 2) 858993459)) + (jUshr ((jAnd (s - (jAnd (jUshr s 1) 1431655765)) 858993459) + (jAnd (jUshr (s - (jAnd (jUshr s 1) 1431655765)) 2) 858993459)) 4)) 252645135) + (jUshr (jAnd (((jAnd (s - (jAnd (jUshr s 1) 1431655765)) 858993459) + (jAnd (jUshr (s - (jAnd (jUshr s 1) 1431655765)) 2) 858993459)) + (jUshr ((jAnd (s - (jAnd (jUshr s 1) 1431655765)) 858993459) + (jAnd (jUshr (s - (jAnd (jUshr s 1) 1431655765)) 2) 858993459)) 4)) 252645135) 8)) 16)) 63) = sBits s := by
  obtain ⟨a, rfl⟩ := fin_of (n := 16) hs.1 hs.2
  exact bc_fin a
set_option maxHeartbeats 4000000 in
set_option maxRecDepth 100000 in
theorem c_J11_bitCount (l : Launch) (u : jU) (s : Int) (hs : 0 ≤ s ∧ s < 16) : jC l u yJ11_bitCount cJ11_bitCount 1 (some .int) 0 0 0 0 [iI s] [] (fun v_ w_ => v_ = some (iI (sBits s)) ∧ w_ = []) := by
  refine jC.of "java/lang/Integer" (by decide +kernel) rfl (Nat.le_of_ble_eq_true rfl) [(0, iI s)] rfl (fun X G E I => ?_)
  refine j_iload_n G 0 rfl dJ11_bitCount_0 ?_
  refine j_iload_n G 0 rfl dJ11_bitCount_1 ?_
  refine j_iconst G dJ11_bitCount_2 ?_
  refine j_iushr G dJ11_bitCount_3 ?_
  refine j_ldcw 1431655765 G q1665 (by decide) dJ11_bitCount_4 ?_
  refine j_iand G dJ11_bitCount_7 ?_
  refine j_isub G dJ11_bitCount_8 ?_
  refine j_istore_n G [(0, iI (s - (jAnd (jUshr s 1) 1431655765)))] rfl (by decide) dJ11_bitCount_9 ?_
  refine j_iload_n G 0 rfl dJ11_bitCount_10 ?_
  refine j_ldcw 858993459 G q1666 (by decide) dJ11_bitCount_11 ?_
  refine j_iand G dJ11_bitCount_14 ?_
  refine j_iload_n G 0 rfl dJ11_bitCount_15 ?_
  refine j_iconst G dJ11_bitCount_16 ?_
  refine j_iushr G dJ11_bitCount_17 ?_
  refine j_ldcw 858993459 G q1666 (by decide) dJ11_bitCount_18 ?_
  refine j_iand G dJ11_bitCount_21 ?_
  refine j_iadd G dJ11_bitCount_22 ?_
  refine j_istore_n G [(0, iI ((jAnd (s - (jAnd (jUshr s 1) 1431655765)) 858993459) + (jAnd (jUshr (s - (jAnd (jUshr s 1) 1431655765)) 2) 858993459)))] rfl (by decide) dJ11_bitCount_23 ?_
  refine j_iload_n G 0 rfl dJ11_bitCount_24 ?_
  refine j_iload_n G 0 rfl dJ11_bitCount_25 ?_
  refine j_iconst G dJ11_bitCount_26 ?_
  refine j_iushr G dJ11_bitCount_27 ?_
  refine j_iadd G dJ11_bitCount_28 ?_
  refine j_ldcw 252645135 G q1667 (by decide) dJ11_bitCount_29 ?_
  refine j_iand G dJ11_bitCount_32 ?_
  refine j_istore_n G [(0, iI (jAnd (((jAnd (s - (jAnd (jUshr s 1) 1431655765)) 858993459) + (jAnd (jUshr (s - (jAnd (jUshr s 1) 1431655765)) 2) 858993459)) + (jUshr ((jAnd (s - (jAnd (jUshr s 1) 1431655765)) 858993459) + (jAnd (jUshr (s - (jAnd (jUshr s 1) 1431655765)) 2) 858993459)) 4)) 252645135))] rfl (by decide) dJ11_bitCount_33 ?_
  refine j_iload_n G 0 rfl dJ11_bitCount_34 ?_
  refine j_iload_n G 0 rfl dJ11_bitCount_35 ?_
  refine j_bipush G (by decide) dJ11_bitCount_36 ?_
  refine j_iushr G dJ11_bitCount_38 ?_
  refine j_iadd G dJ11_bitCount_39 ?_
  refine j_istore_n G [(0, iI ((jAnd (((jAnd (s - (jAnd (jUshr s 1) 1431655765)) 858993459) + (jAnd (jUshr (s - (jAnd (jUshr s 1) 1431655765)) 2) 858993459)) + (jUshr ((jAnd (s - (jAnd (jUshr s 1) 1431655765)) 858993459) + (jAnd (jUshr (s - (jAnd (jUshr s 1) 1431655765)) 2) 858993459)) 4)) 252645135) + (jUshr (jAnd (((jAnd (s - (jAnd (jUshr s 1) 1431655765)) 858993459) + (jAnd (jUshr (s - (jAnd (jUshr s 1) 1431655765)) 2) 858993459)) + (jUshr ((jAnd (s - (jAnd (jUshr s 1) 1431655765)) 858993459) + (jAnd (jUshr (s - (jAnd (jUshr s 1) 1431655765)) 2) 858993459)) 4)) 252645135) 8)))] rfl (by decide) dJ11_bitCount_40 ?_
  refine j_iload_n G 0 rfl dJ11_bitCount_41 ?_
  refine j_iload_n G 0 rfl dJ11_bitCount_42 ?_
  refine j_bipush G (by decide) dJ11_bitCount_43 ?_
  refine j_iushr G dJ11_bitCount_45 ?_
  refine j_iadd G dJ11_bitCount_46 ?_
  refine j_istore_n G [(0, iI (((jAnd (((jAnd (s - (jAnd (jUshr s 1) 1431655765)) 858993459) + (jAnd (jUshr (s - (jAnd (jUshr s 1) 1431655765)) 2) 858993459)) + (jUshr ((jAnd (s - (jAnd (jUshr s 1) 1431655765)) 858993459) + (jAnd (jUshr (s - (jAnd (jUshr s 1) 1431655765)) 2) 858993459)) 4)) 252645135) + (jUshr (jAnd (((jAnd (s - (jAnd (jUshr s 1) 1431655765)) 858993459) + (jAnd (jUshr (s - (jAnd (jUshr s 1) 1431655765)) 2) 858993459)) + (jUshr ((jAnd (s - (jAnd (jUshr s 1) 1431655765)) 858993459) + (jAnd (jUshr (s - (jAnd (jUshr s 1) 1431655765)) 2) 858993459)) 4)) 252645135) 8)) + (jUshr ((jAnd (((jAnd (s - (jAnd (jUshr s 1) 1431655765)) 858993459) + (jAnd (jUshr (s - (jAnd (jUshr s 1) 1431655765)) 2) 858993459)) + (jUshr ((jAnd (s - (jAnd (jUshr s 1) 1431655765)) 858993459) + (jAnd (jUshr (s - (jAnd (jUshr s 1) 1431655765)) 2) 858993459)) 4)) 252645135) + (jUshr (jAnd (((jAnd (s - (jAnd (jUshr s 1) 1431655765)) 858993459) + (jAnd (jUshr (s - (jAnd (jUshr s 1) 1431655765)) 2) 858993459)) + (jUshr ((jAnd (s - (jAnd (jUshr s 1) 1431655765)) 858993459) + (jAnd (jUshr (s - (jAnd (jUshr s 1) 1431655765)) 2) 858993459)) 4)) 252645135) 8)) 16)))] rfl (by decide) dJ11_bitCount_47 ?_
  refine j_iload_n G 0 rfl dJ11_bitCount_48 ?_
  refine j_bipush G (by decide) dJ11_bitCount_49 ?_
  refine j_iand G dJ11_bitCount_51 ?_
  refine j_eq (st' := [iI (sBits s)]) (by rw [bc_eq hs]) ?_
  exact j_iret G E ⟨rfl, rfl⟩ ⟨by omega, by omega⟩ dJ11_bitCount_52
theorem hY_X1_with : jY yX1_with 3 := ⟨by decide +kernel, by decide +kernel, by decide +kernel⟩
set_option maxHeartbeats 4000000 in
set_option maxRecDepth 100000 in
theorem c_X1_with (l : Launch) (u : jU) (s i b : Int) (hs : 0 ≤ s ∧ s < 16) (hi : 0 ≤ i ∧ i < 4) (hb : iR b) : jC l u yX1_with cX1_with 3 (some .int) 0 0 0 0 [iI s, iI i, iI b] [] (fun v_ w_ => ∃ (r : Int), r = sWith s i b ∧ (0 ≤ r ∧ r < 16) ∧ v_ = some (iI r) ∧ w_ = []) := by
  refine jC.of "FlashRatchet" (by decide +kernel) rfl (Nat.le_of_ble_eq_true rfl) [(0, iI s), (1, iI i), (2, iI b)] rfl (fun X G E I => ?_)
  have hq := sWith_eq hs hi
  have hr := sWith_R (on := b) hs hi
  refine j_iload_n G 2 rfl dX1_with_0 ?_
  refine j_if_eq 12 G hb dX1_with_1 (by decide) (fun c_1 => ?_) (fun c_1 => ?_)
  · skip
    refine j_iload_n G 0 rfl dX1_with_12 ?_
    refine j_iconst G dX1_with_13 ?_
    refine j_iload_n G 1 rfl dX1_with_14 ?_
    refine j_ishl G dX1_with_15 ?_
    refine j_iconst G dX1_with_16 ?_
    refine j_ixor G dX1_with_17 ?_
    refine j_iand G dX1_with_18 ?_
    exact j_iret G E ⟨(jAnd s (jXor (jShl 1 i) (-1))), (by first | (subst c_1; exact hq.2) | (rw [sWith_on c_1]; exact hq.1)), (by first | (subst c_1; rw [hq.2]; exact hr) | (rw [hq.1, ← sWith_on c_1]; exact hr)), rfl, rfl⟩ ⟨by omega, by omega⟩ dX1_with_19
  · skip
    refine j_iload_n G 0 rfl dX1_with_4 ?_
    refine j_iconst G dX1_with_5 ?_
    refine j_iload_n G 1 rfl dX1_with_6 ?_
    refine j_ishl G dX1_with_7 ?_
    refine j_ior G dX1_with_8 ?_
    refine j_goto 19 G dX1_with_9 (by decide) ?_
    exact j_iret G E ⟨(jOr s (jShl 1 i)), (by first | (subst c_1; exact hq.2) | (rw [sWith_on c_1]; exact hq.1)), (by first | (subst c_1; rw [hq.2]; exact hr) | (rw [hq.1, ← sWith_on c_1]; exact hr)), rfl, rfl⟩ ⟨by omega, by omega⟩ dX1_with_19
theorem hY_X1_begin : jY yX1_begin 1 := ⟨by decide +kernel, by decide +kernel, by decide +kernel⟩
set_option maxHeartbeats 4000000 in
set_option maxRecDepth 100000 in
theorem c_X1_begin (l : Launch) (u : jU) (x0 nu sb : Nat) (n gr pw pr ix po sd gn tk hs : Int)(nm : Int → Int) (v : Int) (hl0 : l.stackTraces = false) (hv : iR v) : jCX l u yX1_begin cX1_begin 4 (some .int) 7 109 1 6 [.ref x0, iI v] [[(x0, jO 0 [iI n, .ref nu, iI gr, iI pw, iI pr, iI ix, iI po, iI sd, iI gn, iI tk, .ref sb, lI hs])], [(nu, cI u 12 nm)]] (fun v_ w_ => ∃ (nm2 : Int → Int), (2 ≤ v ∧ v ≤ 4) ∧ (∀ k : Int, 0 ≤ k → k < 12 → nm2 k = 0) ∧ v_ = some (iI n) ∧ w_ = [[(x0, jO 0 [iI v, .ref nu, iI 7, iI 0, iI 1, iI 0, iI 0, iI 0, iI 0, iI 0, .ref sb, lI hs])], [(nu, cI u 12 nm2)]]) (fun E_ w_ => (E_ = "java/lang/IllegalArgumentException" ∧ (¬ (2 ≤ v ∧ v ≤ 4)) ∧ w_ = [[(x0, jO 0 [iI n, .ref nu, iI gr, iI pw, iI pr, iI ix, iI po, iI sd, iI gn, iI tk, .ref sb, lI hs])], [(nu, cI u 12 nm)]])) := by
  refine jCX.of "FlashRatchet" (by decide +kernel) rfl (Nat.le_of_ble_eq_true rfl) [(0, .ref x0), (1, iI v)] rfl (fun X G EX => ?_)
  have E := EX.E
  refine j_iload_n G 1 rfl dX1_begin_0 ?_
  refine j_iconst G dX1_begin_1 ?_
  refine j_iconst G dX1_begin_2 ?_
  refine j_callS (wr := [[(x0, jO 0 [iI n, .ref nu, iI gr, iI pw, iI pr, iI ix, iI po, iI sd, iI gn, iI tk, .ref sb, lI hs])], [(nu, cI u 12 nm)]]) (k' := 0) (n' := 0) G (c_X1_inRange l u v 2 4 hv (by unfold iR; omega) (by unfold iR; omega)) hY_X1_inRange q658 q659 q85 q660 (jcut 2 [0, 1] (by decide) rfl rfl) ⟨by omega, by omega, by omega, by omega, by omega, by omega⟩ (Nat.le_of_ble_eq_true rfl) dX1_begin_3 rfl (fun v_ w_ hp => ?_)
  obtain ⟨r_3, h3_1, rfl, rfl⟩ := hp
  show jJ X u 4 [[(x0, jO 0 [iI n, .ref nu, iI gr, iI pw, iI pr, iI ix, iI po, iI sd, iI gn, iI tk, .ref sb, lI hs])], [(nu, cI u 12 nm)]] [(0, .ref x0), (1, iI v)] 0 0 6 [iI r_3]
  refine jx_callS (wr := [[(x0, jO 0 [iI n, .ref nu, iI gr, iI pw, iI pr, iI ix, iI po, iI sd, iI gn, iI tk, .ref sb, lI hs])], [(nu, cI u 12 nm)]]) (k' := 1) (n' := 6) G (c_X1_require l u r_3 hl0 (by (try unfold iR at *); omega)) hY_X1_require q1614 q1615 q85 q1616 (jcut 2 [0, 1] (by decide) rfl rfl) ⟨by omega, by omega, by omega, by omega, by omega, by omega⟩ (Nat.le_of_ble_eq_true rfl) dX1_begin_6 rfl (fun E_ w_ hp => ?_) (fun v_ w_ hp => ?_)
  · skip
    rcases hp with ⟨rfl, x6_1, rfl⟩
    · skip
      exact jx_out G EX ⟨rfl, (by (try unfold iR at *); omega), rfl⟩ ⟨by omega, by omega⟩
  · skip
    obtain ⟨h6_1, rfl, rfl⟩ := hp
    show jJ X u 4 [[(x0, jO 0 [iI n, .ref nu, iI gr, iI pw, iI pr, iI ix, iI po, iI sd, iI gn, iI tk, .ref sb, lI hs])], [(nu, cI u 12 nm)]] [(0, .ref x0), (1, iI v)] 1 6 9 []
    refine j_aload_n G 0 rfl dX1_begin_9 ?_
    refine j_get G FX1 (jAt_1 0 rfl) 0 (by decide) q173 rfl dX1_begin_10 ?_
    refine j_istore_n G [(2, iI n), (0, .ref x0), (1, iI v)] rfl (by decide) dX1_begin_13 ?_
    refine j_aload_n G 1 rfl dX1_begin_14 ?_
    refine j_iload_n G 2 rfl dX1_begin_15 ?_
    refine j_put (ws' := [[(x0, jO 0 [iI v, .ref nu, iI gr, iI pw, iI pr, iI ix, iI po, iI sd, iI gn, iI tk, .ref sb, lI hs])], [(nu, cI u 12 nm)]]) G FX1 (jAt_1 0 rfl) 0 (by decide) q173 rfl rfl rfl (Nat.le_of_ble_eq_true rfl) dX1_begin_16 rfl ?_
    refine j_iconst G dX1_begin_19 ?_
    refine j_istore_n G [(3, iI 0), (2, iI n), (0, .ref x0), (1, iI v)] rfl (by decide) dX1_begin_20 ?_
    have L21 : ∀ (m : Nat) (j : Nat) (g : Int → Int) (i : Int), 12 - j < m → i = j → (∀ q : Int, 0 ≤ q → q < i → g q = 0) → j ≤ 12 → jJ X u 4 [[(x0, jO 0 [iI v, .ref nu, iI gr, iI pw, iI pr, iI ix, iI po, iI sd, iI gn, iI tk, .ref sb, lI hs])], [(nu, cI u 12 g)]] [(0, .ref x0), (2, iI n), (3, iI i)] 1 6 21 [] := by
      intro m
      induction m with
      | zero =>
        intro j g i g1 g2 g3 g4
        exfalso
        omega
      | succ m ih_L21 =>
        intro j g i g1 g2 g3 g4
        refine j_iload_n G 2 rfl dX1_begin_21 ?_
        refine j_aload_n G 0 rfl dX1_begin_22 ?_
        refine j_get G FX1 (jAt_1 0 rfl) 1 (by decide) q175 rfl dX1_begin_23 ?_
        refine j_alen_i G (jAt_1 1 rfl) dX1_begin_26 ?_
        refine j_icmp_ge 43 G (by unfold iR at *; omega) (by unfold iR at *; omega) dX1_begin_27 (by decide) (fun c_27 => ?_) (fun c_27 => ?_)
        · skip
          refine j_aload_n G 0 rfl dX1_begin_43 ?_
          refine j_bipush G (by decide) dX1_begin_44 ?_
          refine j_put (ws' := [[(x0, jO 0 [iI v, .ref nu, iI 7, iI pw, iI pr, iI ix, iI po, iI sd, iI gn, iI tk, .ref sb, lI hs])], [(nu, cI u 12 g)]]) G FX1 (jAt_1 0 rfl) 2 (by decide) q177 rfl rfl rfl (Nat.le_of_ble_eq_true rfl) dX1_begin_46 rfl ?_
          refine j_aload_n G 0 rfl dX1_begin_49 ?_
          refine j_iconst G dX1_begin_50 ?_
          refine j_put (ws' := [[(x0, jO 0 [iI v, .ref nu, iI 7, iI 0, iI pr, iI ix, iI po, iI sd, iI gn, iI tk, .ref sb, lI hs])], [(nu, cI u 12 g)]]) G FX1 (jAt_1 0 rfl) 3 (by decide) q178 rfl rfl rfl (Nat.le_of_ble_eq_true rfl) dX1_begin_51 rfl ?_
          refine j_aload_n G 0 rfl dX1_begin_54 ?_
          refine j_iconst G dX1_begin_55 ?_
          refine j_put (ws' := [[(x0, jO 0 [iI v, .ref nu, iI 7, iI 0, iI 1, iI ix, iI po, iI sd, iI gn, iI tk, .ref sb, lI hs])], [(nu, cI u 12 g)]]) G FX1 (jAt_1 0 rfl) 4 (by decide) q181 rfl rfl rfl (Nat.le_of_ble_eq_true rfl) dX1_begin_56 rfl ?_
          refine j_aload_n G 0 rfl dX1_begin_59 ?_
          refine j_iconst G dX1_begin_60 ?_
          refine j_put (ws' := [[(x0, jO 0 [iI v, .ref nu, iI 7, iI 0, iI 1, iI 0, iI po, iI sd, iI gn, iI tk, .ref sb, lI hs])], [(nu, cI u 12 g)]]) G FX1 (jAt_1 0 rfl) 5 (by decide) q186 rfl rfl rfl (Nat.le_of_ble_eq_true rfl) dX1_begin_61 rfl ?_
          refine j_aload_n G 0 rfl dX1_begin_64 ?_
          refine j_iconst G dX1_begin_65 ?_
          refine j_put (ws' := [[(x0, jO 0 [iI v, .ref nu, iI 7, iI 0, iI 1, iI 0, iI 0, iI sd, iI gn, iI tk, .ref sb, lI hs])], [(nu, cI u 12 g)]]) G FX1 (jAt_1 0 rfl) 6 (by decide) q189 rfl rfl rfl (Nat.le_of_ble_eq_true rfl) dX1_begin_66 rfl ?_
          refine j_aload_n G 0 rfl dX1_begin_69 ?_
          refine j_iconst G dX1_begin_70 ?_
          refine j_put (ws' := [[(x0, jO 0 [iI v, .ref nu, iI 7, iI 0, iI 1, iI 0, iI 0, iI 0, iI gn, iI tk, .ref sb, lI hs])], [(nu, cI u 12 g)]]) G FX1 (jAt_1 0 rfl) 7 (by decide) q191 rfl rfl rfl (Nat.le_of_ble_eq_true rfl) dX1_begin_71 rfl ?_
          refine j_aload_n G 0 rfl dX1_begin_74 ?_
          refine j_iconst G dX1_begin_75 ?_
          refine j_put (ws' := [[(x0, jO 0 [iI v, .ref nu, iI 7, iI 0, iI 1, iI 0, iI 0, iI 0, iI 0, iI tk, .ref sb, lI hs])], [(nu, cI u 12 g)]]) G FX1 (jAt_1 0 rfl) 8 (by decide) q192 rfl rfl rfl (Nat.le_of_ble_eq_true rfl) dX1_begin_76 rfl ?_
          refine j_aload_n G 0 rfl dX1_begin_79 ?_
          refine j_iconst G dX1_begin_80 ?_
          refine j_put (ws' := [[(x0, jO 0 [iI v, .ref nu, iI 7, iI 0, iI 1, iI 0, iI 0, iI 0, iI 0, iI 0, .ref sb, lI hs])], [(nu, cI u 12 g)]]) G FX1 (jAt_1 0 rfl) 9 (by decide) q193 rfl rfl rfl (Nat.le_of_ble_eq_true rfl) dX1_begin_81 rfl ?_
          refine j_iload_n G 1 rfl dX1_begin_84 ?_
          exact j_iret G E ⟨g, (by omega), (fun q h0 h1 => g3 q h0 (by omega)), rfl, rfl⟩ ⟨by omega, by omega⟩ dX1_begin_85
        · skip
          refine j_aload_n G 0 rfl dX1_begin_30 ?_
          refine j_get G FX1 (jAt_1 0 rfl) 1 (by decide) q175 rfl dX1_begin_31 ?_
          refine j_iload_n G 2 rfl dX1_begin_34 ?_
          refine j_iconst G dX1_begin_35 ?_
          refine j_iastore (ws' := [[(x0, jO 0 [iI v, .ref nu, iI gr, iI pw, iI pr, iI ix, iI po, iI sd, iI gn, iI tk, .ref sb, lI hs])], [(nu, cI u 12 (uZ g i 0))]]) G (jAt_1 1 rfl) (by (try unfold iR at *); omega) (by (try unfold iR at *); omega) (by (try unfold iR at *); omega) dX1_begin_36 rfl ?_
          refine j_iinc G 2 rfl [(3, iI (i + 1)), (0, .ref x0), (2, iI n)] rfl (by decide) dX1_begin_37 ?_
          refine j_goto 21 G dX1_begin_40 (by decide) ?_
          refine j_lv [1, 2, 0] rfl ?_
          exact ih_L21 (j + 1) (uZ g i 0) (i + 1) (by (try unfold iR at *); omega) (by (try unfold iR at *); omega) (fun q h0 h1 => by unfold uZ; split <;> first | rfl | exact g3 q h0 (by omega)) (by (try unfold iR at *); omega)
    refine j_lv [2, 1, 0] rfl ?_
    exact L21 13 0 nm 0 (by (try unfold iR at *); omega) rfl (fun q h0 h1 => absurd h1 (by omega)) (by (try unfold iR at *); omega)
theorem hY_X1_setTable : jY yX1_setTable 4 := ⟨by decide +kernel, by decide +kernel, by decide +kernel⟩
set_option maxHeartbeats 4000000 in
set_option maxRecDepth 100000 in
theorem c_X1_setTable (l : Launch) (u : jU) (x0 nu sb : Nat) (n gr pw pr ix po sd gn tk hs : Int)(nm : Int → Int) (lv p b f : Int) (hl0 : l.stackTraces = false) (hRlv : iR lv) (hRp : iR p) (hRb : iR b) (hRf : iR f) (hn : 2 ≤ n ∧ n ≤ 4) : jCX l u yX1_setTable cX1_setTable 6 (some .int) 7 109 2 12 [.ref x0, iI lv, iI p, iI b, iI f] [[(x0, jO 0 [iI n, .ref nu, iI gr, iI pw, iI pr, iI ix, iI po, iI sd, iI gn, iI tk, .ref sb, lI hs])], [(nu, cI u 12 nm)]] (fun v_ w_ => (0 ≤ lv ∧ lv ≤ 2 ∧ 0 ≤ p ∧ p < n) ∧ (0 ≤ b ∧ 0 ≤ f ∧ b + f ≤ 10) ∧ v_ = some (iI (nm (4 * lv + p))) ∧ w_ = [[(x0, jO 0 [iI n, .ref nu, iI gr, iI pw, iI pr, iI ix, iI po, iI sd, iI gn, iI tk, .ref sb, lI hs])], [(nu, cI u 12 (uZ nm (4 * lv + p) (100 * b + f)))]]) (fun E_ w_ => (E_ = "java/lang/IndexOutOfBoundsException" ∧ (¬ (0 ≤ lv ∧ lv ≤ 2 ∧ 0 ≤ p ∧ p < n)) ∧ w_ = [[(x0, jO 0 [iI n, .ref nu, iI gr, iI pw, iI pr, iI ix, iI po, iI sd, iI gn, iI tk, .ref sb, lI hs])], [(nu, cI u 12 nm)]]) ∨ (E_ = "java/lang/IllegalArgumentException" ∧ (0 ≤ lv ∧ lv ≤ 2 ∧ 0 ≤ p ∧ p < n) ∧ (¬ (0 ≤ b ∧ 0 ≤ f ∧ b + f ≤ 10)) ∧ w_ = [[(x0, jO 0 [iI n, .ref nu, iI gr, iI pw, iI pr, iI ix, iI po, iI sd, iI gn, iI tk, .ref sb, lI hs])], [(nu, cI u 12 nm)]])) := by
  refine jCX.of "FlashRatchet" (by decide +kernel) rfl (Nat.le_of_ble_eq_true rfl) [(0, .ref x0), (1, iI lv), (2, iI p), (3, iI b), (4, iI f)] rfl (fun X G EX => ?_)
  have E := EX.E
  refine j_iload_n G 1 rfl dX1_setTable_0 ?_
  refine j_callS (wr := [[(x0, jO 0 [iI n, .ref nu, iI gr, iI pw, iI pr, iI ix, iI po, iI sd, iI gn, iI tk, .ref sb, lI hs])], [(nu, cI u 12 nm)]]) (k' := 0) (n' := 0) G (c_X1_isLever l u lv hRlv) hY_X1_isLever q1629 q656 q85 q657 (jcut 2 [0, 1] (by decide) rfl rfl) ⟨by omega, by omega, by omega, by omega, by omega, by omega⟩ (Nat.le_of_ble_eq_true rfl) dX1_setTable_1 rfl (fun v_ w_ hp => ?_)
  obtain ⟨r_1, h1_1, rfl, rfl⟩ := hp
  show jJ X u 6 [[(x0, jO 0 [iI n, .ref nu, iI gr, iI pw, iI pr, iI ix, iI po, iI sd, iI gn, iI tk, .ref sb, lI hs])], [(nu, cI u 12 nm)]] [(0, .ref x0), (1, iI lv), (2, iI p), (3, iI b), (4, iI f)] 0 0 4 [iI r_1]
  refine j_if_eq 19 G (by unfold iR at *; omega) dX1_setTable_4 (by decide) (fun c_4 => ?_) (fun c_4 => ?_)
  · skip
    refine j_iconst G dX1_setTable_19 ?_
    refine jx_callS (wr := [[(x0, jO 0 [iI n, .ref nu, iI gr, iI pw, iI pr, iI ix, iI po, iI sd, iI gn, iI tk, .ref sb, lI hs])], [(nu, cI u 12 nm)]]) (k' := 1) (n' := 6) G (c_X1_requireIndex l u 0 hl0 (by (try unfold iR at *); omega)) hY_X1_requireIndex q1634 q1635 q85 q1636 (jcut 2 [0, 1] (by decide) rfl rfl) ⟨by omega, by omega, by omega, by omega, by omega, by omega⟩ (Nat.le_of_ble_eq_true rfl) dX1_setTable_20 rfl (fun E_ w_ hp => ?_) (fun v_ w_ hp => ?_)
    · skip
      rcases hp with ⟨rfl, x20_1, rfl⟩
      · skip
        exact jx_out G EX (Or.inl ⟨rfl, (by (try unfold iR at *); omega), rfl⟩) ⟨by omega, by omega⟩
    · skip
      obtain ⟨h20_1, rfl, rfl⟩ := hp
      show jJ X u 6 [[(x0, jO 0 [iI n, .ref nu, iI gr, iI pw, iI pr, iI ix, iI po, iI sd, iI gn, iI tk, .ref sb, lI hs])], [(nu, cI u 12 nm)]] [(0, .ref x0), (1, iI lv), (2, iI p), (3, iI b), (4, iI f)] 1 6 23 []
      refine j_iload_n G 3 rfl dX1_setTable_23 ?_
      refine j_iconst G dX1_setTable_24 ?_
      refine j_bipush G (by decide) dX1_setTable_25 ?_
      refine j_callS (wr := [[(x0, jO 0 [iI n, .ref nu, iI gr, iI pw, iI pr, iI ix, iI po, iI sd, iI gn, iI tk, .ref sb, lI hs])], [(nu, cI u 12 nm)]]) (k' := 1) (n' := 6) G (c_X1_inRange l u b 0 10 hRb (by unfold iR; omega) (by unfold iR; omega)) hY_X1_inRange q658 q659 q85 q660 (jcut 2 [0, 1] (by decide) rfl rfl) ⟨by omega, by omega, by omega, by omega, by omega, by omega⟩ (Nat.le_of_ble_eq_true rfl) dX1_setTable_27 rfl (fun v_ w_ hp => ?_)
      obtain ⟨r_27, h27_1, rfl, rfl⟩ := hp
      show jJ X u 6 [[(x0, jO 0 [iI n, .ref nu, iI gr, iI pw, iI pr, iI ix, iI po, iI sd, iI gn, iI tk, .ref sb, lI hs])], [(nu, cI u 12 nm)]] [(0, .ref x0), (1, iI lv), (2, iI p), (3, iI b), (4, iI f)] 1 6 30 [iI r_27]
      refine j_if_eq 50 G (by unfold iR at *; omega) dX1_setTable_30 (by decide) (fun c_30 => ?_) (fun c_30 => ?_)
      · skip
        refine j_iconst G dX1_setTable_50 ?_
        refine jx_callS (wr := [[(x0, jO 0 [iI n, .ref nu, iI gr, iI pw, iI pr, iI ix, iI po, iI sd, iI gn, iI tk, .ref sb, lI hs])], [(nu, cI u 12 nm)]]) (k' := 2) (n' := 12) G (c_X1_require l u 0 hl0 (by (try unfold iR at *); omega)) hY_X1_require q1614 q1615 q85 q1616 (jcut 2 [0, 1] (by decide) rfl rfl) ⟨by omega, by omega, by omega, by omega, by omega, by omega⟩ (Nat.le_of_ble_eq_true rfl) dX1_setTable_51 rfl (fun E_ w_ hp => ?_) (fun v_ w_ hp => ?_)
        · skip
          rcases hp with ⟨rfl, x51_1, rfl⟩
          · skip
            exact jx_out G EX (Or.inr ⟨rfl, (by (try unfold iR at *); omega), (by (try unfold iR at *); omega), rfl⟩) ⟨by omega, by omega⟩
        · skip
          obtain ⟨h51_1, rfl, rfl⟩ := hp
          show jJ X u 6 [[(x0, jO 0 [iI n, .ref nu, iI gr, iI pw, iI pr, iI ix, iI po, iI sd, iI gn, iI tk, .ref sb, lI hs])], [(nu, cI u 12 nm)]] [(0, .ref x0), (1, iI lv), (2, iI p), (3, iI b), (4, iI f)] 2 12 54 []
          refine j_aload_n G 0 rfl dX1_setTable_54 ?_
          refine j_iload_n G 1 rfl dX1_setTable_55 ?_
          refine j_iload_n G 2 rfl dX1_setTable_56 ?_
          refine j_callV (wr := []) (k' := 2) (n' := 12) G FX1 (c_X1_number l u x0 nu sb n gr pw pr ix po sd gn tk hs nm lv p (by (try unfold iR at *); omega) (by (try unfold iR at *); omega)) (jAt_1 0 rfl) ⟨rfl, hY_X1_number⟩ q724 q726 qs15 q85 q727 (jcut 2 [0, 1] (by decide) rfl rfl) ⟨by omega, by omega, by omega, by omega, by omega, by omega⟩ (Nat.le_of_ble_eq_true rfl) dX1_setTable_57 rfl (fun v_ w_ hp => ?_)
          obtain ⟨rfl, rfl⟩ := hp
          show jJ X u 6 [[(x0, jO 0 [iI n, .ref nu, iI gr, iI pw, iI pr, iI ix, iI po, iI sd, iI gn, iI tk, .ref sb, lI hs])], [(nu, cI u 12 nm)]] [(0, .ref x0), (1, iI lv), (2, iI p), (3, iI b), (4, iI f)] 2 12 60 [iI (nm (4 * lv + p))]
          refine j_istore G [(5, iI (nm (4 * lv + p))), (0, .ref x0), (1, iI lv), (2, iI p), (3, iI b), (4, iI f)] rfl (by decide) dX1_setTable_60 ?_
          refine j_aload_n G 1 rfl dX1_setTable_62 ?_
          refine j_get G FX1 (jAt_1 0 rfl) 1 (by decide) q175 rfl dX1_setTable_63 ?_
          refine j_iconst G dX1_setTable_66 ?_
          refine j_iload_n G 2 rfl dX1_setTable_67 ?_
          refine j_imul G dX1_setTable_68 ?_
          refine j_iload_n G 3 rfl dX1_setTable_69 ?_
          refine j_iadd G dX1_setTable_70 ?_
          refine j_bipush G (by decide) dX1_setTable_71 ?_
          refine j_iload_n G 4 rfl dX1_setTable_73 ?_
          refine j_imul G dX1_setTable_74 ?_
          refine j_iload G 5 rfl dX1_setTable_75 ?_
          refine j_iadd G dX1_setTable_77 ?_
          refine j_iastore (ws' := [[(x0, jO 0 [iI n, .ref nu, iI gr, iI pw, iI pr, iI ix, iI po, iI sd, iI gn, iI tk, .ref sb, lI hs])], [(nu, cI u 12 (uZ nm ((4 * lv) + p) ((100 * b) + f)))]]) G (jAt_1 1 rfl) (by (try unfold iR at *); omega) (by (try unfold iR at *); omega) (by (try unfold iR at *); omega) dX1_setTable_78 rfl ?_
          refine j_iload G 0 rfl dX1_setTable_79 ?_
          exact j_iret G E ⟨(by omega), (by omega), rfl, rfl⟩ ⟨by omega, by omega⟩ dX1_setTable_81
      · skip
        refine j_iload G 4 rfl dX1_setTable_33 ?_
        refine j_iconst G dX1_setTable_35 ?_
        refine j_bipush G (by decide) dX1_setTable_36 ?_
        refine j_iload_n G 3 rfl dX1_setTable_38 ?_
        refine j_isub G dX1_setTable_39 ?_
        refine j_callS (wr := [[(x0, jO 0 [iI n, .ref nu, iI gr, iI pw, iI pr, iI ix, iI po, iI sd, iI gn, iI tk, .ref sb, lI hs])], [(nu, cI u 12 nm)]]) (k' := 1) (n' := 6) G (c_X1_inRange l u f 0 (10 - b) hRf (by unfold iR; omega) (by unfold iR at *; omega)) hY_X1_inRange q658 q659 q85 q660 (jcut 2 [0, 1] (by decide) rfl rfl) ⟨by omega, by omega, by omega, by omega, by omega, by omega⟩ (Nat.le_of_ble_eq_true rfl) dX1_setTable_40 rfl (fun v_ w_ hp => ?_)
        obtain ⟨r_40, h40_1, rfl, rfl⟩ := hp
        show jJ X u 6 [[(x0, jO 0 [iI n, .ref nu, iI gr, iI pw, iI pr, iI ix, iI po, iI sd, iI gn, iI tk, .ref sb, lI hs])], [(nu, cI u 12 nm)]] [(0, .ref x0), (1, iI lv), (2, iI p), (3, iI b), (4, iI f)] 1 6 43 [iI r_40]
        refine j_if_eq 50 G (by unfold iR at *; omega) dX1_setTable_43 (by decide) (fun c_43 => ?_) (fun c_43 => ?_)
        · skip
          refine j_iconst G dX1_setTable_50 ?_
          refine jx_callS (wr := [[(x0, jO 0 [iI n, .ref nu, iI gr, iI pw, iI pr, iI ix, iI po, iI sd, iI gn, iI tk, .ref sb, lI hs])], [(nu, cI u 12 nm)]]) (k' := 2) (n' := 12) G (c_X1_require l u 0 hl0 (by (try unfold iR at *); omega)) hY_X1_require q1614 q1615 q85 q1616 (jcut 2 [0, 1] (by decide) rfl rfl) ⟨by omega, by omega, by omega, by omega, by omega, by omega⟩ (Nat.le_of_ble_eq_true rfl) dX1_setTable_51 rfl (fun E_ w_ hp => ?_) (fun v_ w_ hp => ?_)
          · skip
            rcases hp with ⟨rfl, x51_1, rfl⟩
            · skip
              exact jx_out G EX (Or.inr ⟨rfl, (by (try unfold iR at *); omega), (by (try unfold iR at *); omega), rfl⟩) ⟨by omega, by omega⟩
          · skip
            obtain ⟨h51_1, rfl, rfl⟩ := hp
            show jJ X u 6 [[(x0, jO 0 [iI n, .ref nu, iI gr, iI pw, iI pr, iI ix, iI po, iI sd, iI gn, iI tk, .ref sb, lI hs])], [(nu, cI u 12 nm)]] [(0, .ref x0), (1, iI lv), (2, iI p), (3, iI b), (4, iI f)] 2 12 54 []
            refine j_aload_n G 0 rfl dX1_setTable_54 ?_
            refine j_iload_n G 1 rfl dX1_setTable_55 ?_
            refine j_iload_n G 2 rfl dX1_setTable_56 ?_
            refine j_callV (wr := []) (k' := 2) (n' := 12) G FX1 (c_X1_number l u x0 nu sb n gr pw pr ix po sd gn tk hs nm lv p (by (try unfold iR at *); omega) (by (try unfold iR at *); omega)) (jAt_1 0 rfl) ⟨rfl, hY_X1_number⟩ q724 q726 qs15 q85 q727 (jcut 2 [0, 1] (by decide) rfl rfl) ⟨by omega, by omega, by omega, by omega, by omega, by omega⟩ (Nat.le_of_ble_eq_true rfl) dX1_setTable_57 rfl (fun v_ w_ hp => ?_)
            obtain ⟨rfl, rfl⟩ := hp
            show jJ X u 6 [[(x0, jO 0 [iI n, .ref nu, iI gr, iI pw, iI pr, iI ix, iI po, iI sd, iI gn, iI tk, .ref sb, lI hs])], [(nu, cI u 12 nm)]] [(0, .ref x0), (1, iI lv), (2, iI p), (3, iI b), (4, iI f)] 2 12 60 [iI (nm (4 * lv + p))]
            refine j_istore G [(5, iI (nm (4 * lv + p))), (0, .ref x0), (1, iI lv), (2, iI p), (3, iI b), (4, iI f)] rfl (by decide) dX1_setTable_60 ?_
            refine j_aload_n G 1 rfl dX1_setTable_62 ?_
            refine j_get G FX1 (jAt_1 0 rfl) 1 (by decide) q175 rfl dX1_setTable_63 ?_
            refine j_iconst G dX1_setTable_66 ?_
            refine j_iload_n G 2 rfl dX1_setTable_67 ?_
            refine j_imul G dX1_setTable_68 ?_
            refine j_iload_n G 3 rfl dX1_setTable_69 ?_
            refine j_iadd G dX1_setTable_70 ?_
            refine j_bipush G (by decide) dX1_setTable_71 ?_
            refine j_iload_n G 4 rfl dX1_setTable_73 ?_
            refine j_imul G dX1_setTable_74 ?_
            refine j_iload G 5 rfl dX1_setTable_75 ?_
            refine j_iadd G dX1_setTable_77 ?_
            refine j_iastore (ws' := [[(x0, jO 0 [iI n, .ref nu, iI gr, iI pw, iI pr, iI ix, iI po, iI sd, iI gn, iI tk, .ref sb, lI hs])], [(nu, cI u 12 (uZ nm ((4 * lv) + p) ((100 * b) + f)))]]) G (jAt_1 1 rfl) (by (try unfold iR at *); omega) (by (try unfold iR at *); omega) (by (try unfold iR at *); omega) dX1_setTable_78 rfl ?_
            refine j_iload G 0 rfl dX1_setTable_79 ?_
            exact j_iret G E ⟨(by omega), (by omega), rfl, rfl⟩ ⟨by omega, by omega⟩ dX1_setTable_81
        · skip
          refine j_iconst G dX1_setTable_46 ?_
          refine j_goto 51 G dX1_setTable_47 (by decide) ?_
          refine jx_callS (wr := [[(x0, jO 0 [iI n, .ref nu, iI gr, iI pw, iI pr, iI ix, iI po, iI sd, iI gn, iI tk, .ref sb, lI hs])], [(nu, cI u 12 nm)]]) (k' := 2) (n' := 12) G (c_X1_require l u 1 hl0 (by (try unfold iR at *); omega)) hY_X1_require q1614 q1615 q85 q1616 (jcut 2 [0, 1] (by decide) rfl rfl) ⟨by omega, by omega, by omega, by omega, by omega, by omega⟩ (Nat.le_of_ble_eq_true rfl) dX1_setTable_51 rfl (fun E_ w_ hp => ?_) (fun v_ w_ hp => ?_)
          · skip
            rcases hp with ⟨rfl, x51_1, rfl⟩
            · skip
              exact jx_out G EX (Or.inr ⟨rfl, (by (try unfold iR at *); omega), (by (try unfold iR at *); omega), rfl⟩) ⟨by omega, by omega⟩
          · skip
            obtain ⟨h51_1, rfl, rfl⟩ := hp
            show jJ X u 6 [[(x0, jO 0 [iI n, .ref nu, iI gr, iI pw, iI pr, iI ix, iI po, iI sd, iI gn, iI tk, .ref sb, lI hs])], [(nu, cI u 12 nm)]] [(0, .ref x0), (1, iI lv), (2, iI p), (3, iI b), (4, iI f)] 2 12 54 []
            refine j_aload_n G 0 rfl dX1_setTable_54 ?_
            refine j_iload_n G 1 rfl dX1_setTable_55 ?_
            refine j_iload_n G 2 rfl dX1_setTable_56 ?_
            refine j_callV (wr := []) (k' := 2) (n' := 12) G FX1 (c_X1_number l u x0 nu sb n gr pw pr ix po sd gn tk hs nm lv p (by (try unfold iR at *); omega) (by (try unfold iR at *); omega)) (jAt_1 0 rfl) ⟨rfl, hY_X1_number⟩ q724 q726 qs15 q85 q727 (jcut 2 [0, 1] (by decide) rfl rfl) ⟨by omega, by omega, by omega, by omega, by omega, by omega⟩ (Nat.le_of_ble_eq_true rfl) dX1_setTable_57 rfl (fun v_ w_ hp => ?_)
            obtain ⟨rfl, rfl⟩ := hp
            show jJ X u 6 [[(x0, jO 0 [iI n, .ref nu, iI gr, iI pw, iI pr, iI ix, iI po, iI sd, iI gn, iI tk, .ref sb, lI hs])], [(nu, cI u 12 nm)]] [(0, .ref x0), (1, iI lv), (2, iI p), (3, iI b), (4, iI f)] 2 12 60 [iI (nm (4 * lv + p))]
            refine j_istore G [(5, iI (nm (4 * lv + p))), (0, .ref x0), (1, iI lv), (2, iI p), (3, iI b), (4, iI f)] rfl (by decide) dX1_setTable_60 ?_
            refine j_aload_n G 1 rfl dX1_setTable_62 ?_
            refine j_get G FX1 (jAt_1 0 rfl) 1 (by decide) q175 rfl dX1_setTable_63 ?_
            refine j_iconst G dX1_setTable_66 ?_
            refine j_iload_n G 2 rfl dX1_setTable_67 ?_
            refine j_imul G dX1_setTable_68 ?_
            refine j_iload_n G 3 rfl dX1_setTable_69 ?_
            refine j_iadd G dX1_setTable_70 ?_
            refine j_bipush G (by decide) dX1_setTable_71 ?_
            refine j_iload_n G 4 rfl dX1_setTable_73 ?_
            refine j_imul G dX1_setTable_74 ?_
            refine j_iload G 5 rfl dX1_setTable_75 ?_
            refine j_iadd G dX1_setTable_77 ?_
            refine j_iastore (ws' := [[(x0, jO 0 [iI n, .ref nu, iI gr, iI pw, iI pr, iI ix, iI po, iI sd, iI gn, iI tk, .ref sb, lI hs])], [(nu, cI u 12 (uZ nm ((4 * lv) + p) ((100 * b) + f)))]]) G (jAt_1 1 rfl) (by (try unfold iR at *); omega) (by (try unfold iR at *); omega) (by (try unfold iR at *); omega) dX1_setTable_78 rfl ?_
            refine j_iload G 0 rfl dX1_setTable_79 ?_
            exact j_iret G E ⟨(by omega), (by omega), rfl, rfl⟩ ⟨by omega, by omega⟩ dX1_setTable_81
  · skip
    refine j_aload_n G 0 rfl dX1_setTable_7 ?_
    refine j_iload_n G 2 rfl dX1_setTable_8 ?_
    refine j_callV (wr := [[(nu, cI u 12 nm)]]) (k' := 0) (n' := 0) G FX1 (c_X1_isPosition l u x0 nu sb n gr pw pr ix po sd gn tk hs p hRp hn) (jAt_1 0 rfl) ⟨rfl, hY_X1_isPosition⟩ q1630 q1632 qs42 q85 q1633 (jcut 2 [0, 1] (by decide) rfl rfl) ⟨by omega, by omega, by omega, by omega, by omega, by omega⟩ (Nat.le_of_ble_eq_true rfl) dX1_setTable_9 rfl (fun v_ w_ hp => ?_)
    obtain ⟨r_9, h9_1, rfl, rfl⟩ := hp
    show jJ X u 6 [[(x0, jO 0 [iI n, .ref nu, iI gr, iI pw, iI pr, iI ix, iI po, iI sd, iI gn, iI tk, .ref sb, lI hs])], [(nu, cI u 12 nm)]] [(0, .ref x0), (1, iI lv), (2, iI p), (3, iI b), (4, iI f)] 0 0 12 [iI r_9]
    refine j_if_eq 19 G (by unfold iR at *; omega) dX1_setTable_12 (by decide) (fun c_12 => ?_) (fun c_12 => ?_)
    · skip
      refine j_iconst G dX1_setTable_19 ?_
      refine jx_callS (wr := [[(x0, jO 0 [iI n, .ref nu, iI gr, iI pw, iI pr, iI ix, iI po, iI sd, iI gn, iI tk, .ref sb, lI hs])], [(nu, cI u 12 nm)]]) (k' := 1) (n' := 6) G (c_X1_requireIndex l u 0 hl0 (by (try unfold iR at *); omega)) hY_X1_requireIndex q1634 q1635 q85 q1636 (jcut 2 [0, 1] (by decide) rfl rfl) ⟨by omega, by omega, by omega, by omega, by omega, by omega⟩ (Nat.le_of_ble_eq_true rfl) dX1_setTable_20 rfl (fun E_ w_ hp => ?_) (fun v_ w_ hp => ?_)
      · skip
        rcases hp with ⟨rfl, x20_1, rfl⟩
        · skip
          exact jx_out G EX (Or.inl ⟨rfl, (by (try unfold iR at *); omega), rfl⟩) ⟨by omega, by omega⟩
      · skip
        obtain ⟨h20_1, rfl, rfl⟩ := hp
        show jJ X u 6 [[(x0, jO 0 [iI n, .ref nu, iI gr, iI pw, iI pr, iI ix, iI po, iI sd, iI gn, iI tk, .ref sb, lI hs])], [(nu, cI u 12 nm)]] [(0, .ref x0), (1, iI lv), (2, iI p), (3, iI b), (4, iI f)] 1 6 23 []
        refine j_iload_n G 3 rfl dX1_setTable_23 ?_
        refine j_iconst G dX1_setTable_24 ?_
        refine j_bipush G (by decide) dX1_setTable_25 ?_
        refine j_callS (wr := [[(x0, jO 0 [iI n, .ref nu, iI gr, iI pw, iI pr, iI ix, iI po, iI sd, iI gn, iI tk, .ref sb, lI hs])], [(nu, cI u 12 nm)]]) (k' := 1) (n' := 6) G (c_X1_inRange l u b 0 10 hRb (by unfold iR; omega) (by unfold iR; omega)) hY_X1_inRange q658 q659 q85 q660 (jcut 2 [0, 1] (by decide) rfl rfl) ⟨by omega, by omega, by omega, by omega, by omega, by omega⟩ (Nat.le_of_ble_eq_true rfl) dX1_setTable_27 rfl (fun v_ w_ hp => ?_)
        obtain ⟨r_27, h27_1, rfl, rfl⟩ := hp
        show jJ X u 6 [[(x0, jO 0 [iI n, .ref nu, iI gr, iI pw, iI pr, iI ix, iI po, iI sd, iI gn, iI tk, .ref sb, lI hs])], [(nu, cI u 12 nm)]] [(0, .ref x0), (1, iI lv), (2, iI p), (3, iI b), (4, iI f)] 1 6 30 [iI r_27]
        refine j_if_eq 50 G (by unfold iR at *; omega) dX1_setTable_30 (by decide) (fun c_30 => ?_) (fun c_30 => ?_)
        · skip
          refine j_iconst G dX1_setTable_50 ?_
          refine jx_callS (wr := [[(x0, jO 0 [iI n, .ref nu, iI gr, iI pw, iI pr, iI ix, iI po, iI sd, iI gn, iI tk, .ref sb, lI hs])], [(nu, cI u 12 nm)]]) (k' := 2) (n' := 12) G (c_X1_require l u 0 hl0 (by (try unfold iR at *); omega)) hY_X1_require q1614 q1615 q85 q1616 (jcut 2 [0, 1] (by decide) rfl rfl) ⟨by omega, by omega, by omega, by omega, by omega, by omega⟩ (Nat.le_of_ble_eq_true rfl) dX1_setTable_51 rfl (fun E_ w_ hp => ?_) (fun v_ w_ hp => ?_)
          · skip
            rcases hp with ⟨rfl, x51_1, rfl⟩
            · skip
              exact jx_out G EX (Or.inr ⟨rfl, (by (try unfold iR at *); omega), (by (try unfold iR at *); omega), rfl⟩) ⟨by omega, by omega⟩
          · skip
            obtain ⟨h51_1, rfl, rfl⟩ := hp
            show jJ X u 6 [[(x0, jO 0 [iI n, .ref nu, iI gr, iI pw, iI pr, iI ix, iI po, iI sd, iI gn, iI tk, .ref sb, lI hs])], [(nu, cI u 12 nm)]] [(0, .ref x0), (1, iI lv), (2, iI p), (3, iI b), (4, iI f)] 2 12 54 []
            refine j_aload_n G 0 rfl dX1_setTable_54 ?_
            refine j_iload_n G 1 rfl dX1_setTable_55 ?_
            refine j_iload_n G 2 rfl dX1_setTable_56 ?_
            refine j_callV (wr := []) (k' := 2) (n' := 12) G FX1 (c_X1_number l u x0 nu sb n gr pw pr ix po sd gn tk hs nm lv p (by (try unfold iR at *); omega) (by (try unfold iR at *); omega)) (jAt_1 0 rfl) ⟨rfl, hY_X1_number⟩ q724 q726 qs15 q85 q727 (jcut 2 [0, 1] (by decide) rfl rfl) ⟨by omega, by omega, by omega, by omega, by omega, by omega⟩ (Nat.le_of_ble_eq_true rfl) dX1_setTable_57 rfl (fun v_ w_ hp => ?_)
            obtain ⟨rfl, rfl⟩ := hp
            show jJ X u 6 [[(x0, jO 0 [iI n, .ref nu, iI gr, iI pw, iI pr, iI ix, iI po, iI sd, iI gn, iI tk, .ref sb, lI hs])], [(nu, cI u 12 nm)]] [(0, .ref x0), (1, iI lv), (2, iI p), (3, iI b), (4, iI f)] 2 12 60 [iI (nm (4 * lv + p))]
            refine j_istore G [(5, iI (nm (4 * lv + p))), (0, .ref x0), (1, iI lv), (2, iI p), (3, iI b), (4, iI f)] rfl (by decide) dX1_setTable_60 ?_
            refine j_aload_n G 1 rfl dX1_setTable_62 ?_
            refine j_get G FX1 (jAt_1 0 rfl) 1 (by decide) q175 rfl dX1_setTable_63 ?_
            refine j_iconst G dX1_setTable_66 ?_
            refine j_iload_n G 2 rfl dX1_setTable_67 ?_
            refine j_imul G dX1_setTable_68 ?_
            refine j_iload_n G 3 rfl dX1_setTable_69 ?_
            refine j_iadd G dX1_setTable_70 ?_
            refine j_bipush G (by decide) dX1_setTable_71 ?_
            refine j_iload_n G 4 rfl dX1_setTable_73 ?_
            refine j_imul G dX1_setTable_74 ?_
            refine j_iload G 5 rfl dX1_setTable_75 ?_
            refine j_iadd G dX1_setTable_77 ?_
            refine j_iastore (ws' := [[(x0, jO 0 [iI n, .ref nu, iI gr, iI pw, iI pr, iI ix, iI po, iI sd, iI gn, iI tk, .ref sb, lI hs])], [(nu, cI u 12 (uZ nm ((4 * lv) + p) ((100 * b) + f)))]]) G (jAt_1 1 rfl) (by (try unfold iR at *); omega) (by (try unfold iR at *); omega) (by (try unfold iR at *); omega) dX1_setTable_78 rfl ?_
            refine j_iload G 0 rfl dX1_setTable_79 ?_
            exact j_iret G E ⟨(by omega), (by omega), rfl, rfl⟩ ⟨by omega, by omega⟩ dX1_setTable_81
        · skip
          refine j_iload G 4 rfl dX1_setTable_33 ?_
          refine j_iconst G dX1_setTable_35 ?_
          refine j_bipush G (by decide) dX1_setTable_36 ?_
          refine j_iload_n G 3 rfl dX1_setTable_38 ?_
          refine j_isub G dX1_setTable_39 ?_
          refine j_callS (wr := [[(x0, jO 0 [iI n, .ref nu, iI gr, iI pw, iI pr, iI ix, iI po, iI sd, iI gn, iI tk, .ref sb, lI hs])], [(nu, cI u 12 nm)]]) (k' := 1) (n' := 6) G (c_X1_inRange l u f 0 (10 - b) hRf (by unfold iR; omega) (by unfold iR at *; omega)) hY_X1_inRange q658 q659 q85 q660 (jcut 2 [0, 1] (by decide) rfl rfl) ⟨by omega, by omega, by omega, by omega, by omega, by omega⟩ (Nat.le_of_ble_eq_true rfl) dX1_setTable_40 rfl (fun v_ w_ hp => ?_)
          obtain ⟨r_40, h40_1, rfl, rfl⟩ := hp
          show jJ X u 6 [[(x0, jO 0 [iI n, .ref nu, iI gr, iI pw, iI pr, iI ix, iI po, iI sd, iI gn, iI tk, .ref sb, lI hs])], [(nu, cI u 12 nm)]] [(0, .ref x0), (1, iI lv), (2, iI p), (3, iI b), (4, iI f)] 1 6 43 [iI r_40]
          refine j_if_eq 50 G (by unfold iR at *; omega) dX1_setTable_43 (by decide) (fun c_43 => ?_) (fun c_43 => ?_)
          · skip
            refine j_iconst G dX1_setTable_50 ?_
            refine jx_callS (wr := [[(x0, jO 0 [iI n, .ref nu, iI gr, iI pw, iI pr, iI ix, iI po, iI sd, iI gn, iI tk, .ref sb, lI hs])], [(nu, cI u 12 nm)]]) (k' := 2) (n' := 12) G (c_X1_require l u 0 hl0 (by (try unfold iR at *); omega)) hY_X1_require q1614 q1615 q85 q1616 (jcut 2 [0, 1] (by decide) rfl rfl) ⟨by omega, by omega, by omega, by omega, by omega, by omega⟩ (Nat.le_of_ble_eq_true rfl) dX1_setTable_51 rfl (fun E_ w_ hp => ?_) (fun v_ w_ hp => ?_)
            · skip
              rcases hp with ⟨rfl, x51_1, rfl⟩
              · skip
                exact jx_out G EX (Or.inr ⟨rfl, (by (try unfold iR at *); omega), (by (try unfold iR at *); omega), rfl⟩) ⟨by omega, by omega⟩
            · skip
              obtain ⟨h51_1, rfl, rfl⟩ := hp
              show jJ X u 6 [[(x0, jO 0 [iI n, .ref nu, iI gr, iI pw, iI pr, iI ix, iI po, iI sd, iI gn, iI tk, .ref sb, lI hs])], [(nu, cI u 12 nm)]] [(0, .ref x0), (1, iI lv), (2, iI p), (3, iI b), (4, iI f)] 2 12 54 []
              refine j_aload_n G 0 rfl dX1_setTable_54 ?_
              refine j_iload_n G 1 rfl dX1_setTable_55 ?_
              refine j_iload_n G 2 rfl dX1_setTable_56 ?_
              refine j_callV (wr := []) (k' := 2) (n' := 12) G FX1 (c_X1_number l u x0 nu sb n gr pw pr ix po sd gn tk hs nm lv p (by (try unfold iR at *); omega) (by (try unfold iR at *); omega)) (jAt_1 0 rfl) ⟨rfl, hY_X1_number⟩ q724 q726 qs15 q85 q727 (jcut 2 [0, 1] (by decide) rfl rfl) ⟨by omega, by omega, by omega, by omega, by omega, by omega⟩ (Nat.le_of_ble_eq_true rfl) dX1_setTable_57 rfl (fun v_ w_ hp => ?_)
              obtain ⟨rfl, rfl⟩ := hp
              show jJ X u 6 [[(x0, jO 0 [iI n, .ref nu, iI gr, iI pw, iI pr, iI ix, iI po, iI sd, iI gn, iI tk, .ref sb, lI hs])], [(nu, cI u 12 nm)]] [(0, .ref x0), (1, iI lv), (2, iI p), (3, iI b), (4, iI f)] 2 12 60 [iI (nm (4 * lv + p))]
              refine j_istore G [(5, iI (nm (4 * lv + p))), (0, .ref x0), (1, iI lv), (2, iI p), (3, iI b), (4, iI f)] rfl (by decide) dX1_setTable_60 ?_
              refine j_aload_n G 1 rfl dX1_setTable_62 ?_
              refine j_get G FX1 (jAt_1 0 rfl) 1 (by decide) q175 rfl dX1_setTable_63 ?_
              refine j_iconst G dX1_setTable_66 ?_
              refine j_iload_n G 2 rfl dX1_setTable_67 ?_
              refine j_imul G dX1_setTable_68 ?_
              refine j_iload_n G 3 rfl dX1_setTable_69 ?_
              refine j_iadd G dX1_setTable_70 ?_
              refine j_bipush G (by decide) dX1_setTable_71 ?_
              refine j_iload_n G 4 rfl dX1_setTable_73 ?_
              refine j_imul G dX1_setTable_74 ?_
              refine j_iload G 5 rfl dX1_setTable_75 ?_
              refine j_iadd G dX1_setTable_77 ?_
              refine j_iastore (ws' := [[(x0, jO 0 [iI n, .ref nu, iI gr, iI pw, iI pr, iI ix, iI po, iI sd, iI gn, iI tk, .ref sb, lI hs])], [(nu, cI u 12 (uZ nm ((4 * lv) + p) ((100 * b) + f)))]]) G (jAt_1 1 rfl) (by (try unfold iR at *); omega) (by (try unfold iR at *); omega) (by (try unfold iR at *); omega) dX1_setTable_78 rfl ?_
              refine j_iload G 0 rfl dX1_setTable_79 ?_
              exact j_iret G E ⟨(by omega), (by omega), rfl, rfl⟩ ⟨by omega, by omega⟩ dX1_setTable_81
          · skip
            refine j_iconst G dX1_setTable_46 ?_
            refine j_goto 51 G dX1_setTable_47 (by decide) ?_
            refine jx_callS (wr := [[(x0, jO 0 [iI n, .ref nu, iI gr, iI pw, iI pr, iI ix, iI po, iI sd, iI gn, iI tk, .ref sb, lI hs])], [(nu, cI u 12 nm)]]) (k' := 2) (n' := 12) G (c_X1_require l u 1 hl0 (by (try unfold iR at *); omega)) hY_X1_require q1614 q1615 q85 q1616 (jcut 2 [0, 1] (by decide) rfl rfl) ⟨by omega, by omega, by omega, by omega, by omega, by omega⟩ (Nat.le_of_ble_eq_true rfl) dX1_setTable_51 rfl (fun E_ w_ hp => ?_) (fun v_ w_ hp => ?_)
            · skip
              rcases hp with ⟨rfl, x51_1, rfl⟩
              · skip
                exact jx_out G EX (Or.inr ⟨rfl, (by (try unfold iR at *); omega), (by (try unfold iR at *); omega), rfl⟩) ⟨by omega, by omega⟩
            · skip
              obtain ⟨h51_1, rfl, rfl⟩ := hp
              show jJ X u 6 [[(x0, jO 0 [iI n, .ref nu, iI gr, iI pw, iI pr, iI ix, iI po, iI sd, iI gn, iI tk, .ref sb, lI hs])], [(nu, cI u 12 nm)]] [(0, .ref x0), (1, iI lv), (2, iI p), (3, iI b), (4, iI f)] 2 12 54 []
              refine j_aload_n G 0 rfl dX1_setTable_54 ?_
              refine j_iload_n G 1 rfl dX1_setTable_55 ?_
              refine j_iload_n G 2 rfl dX1_setTable_56 ?_
              refine j_callV (wr := []) (k' := 2) (n' := 12) G FX1 (c_X1_number l u x0 nu sb n gr pw pr ix po sd gn tk hs nm lv p (by (try unfold iR at *); omega) (by (try unfold iR at *); omega)) (jAt_1 0 rfl) ⟨rfl, hY_X1_number⟩ q724 q726 qs15 q85 q727 (jcut 2 [0, 1] (by decide) rfl rfl) ⟨by omega, by omega, by omega, by omega, by omega, by omega⟩ (Nat.le_of_ble_eq_true rfl) dX1_setTable_57 rfl (fun v_ w_ hp => ?_)
              obtain ⟨rfl, rfl⟩ := hp
              show jJ X u 6 [[(x0, jO 0 [iI n, .ref nu, iI gr, iI pw, iI pr, iI ix, iI po, iI sd, iI gn, iI tk, .ref sb, lI hs])], [(nu, cI u 12 nm)]] [(0, .ref x0), (1, iI lv), (2, iI p), (3, iI b), (4, iI f)] 2 12 60 [iI (nm (4 * lv + p))]
              refine j_istore G [(5, iI (nm (4 * lv + p))), (0, .ref x0), (1, iI lv), (2, iI p), (3, iI b), (4, iI f)] rfl (by decide) dX1_setTable_60 ?_
              refine j_aload_n G 1 rfl dX1_setTable_62 ?_
              refine j_get G FX1 (jAt_1 0 rfl) 1 (by decide) q175 rfl dX1_setTable_63 ?_
              refine j_iconst G dX1_setTable_66 ?_
              refine j_iload_n G 2 rfl dX1_setTable_67 ?_
              refine j_imul G dX1_setTable_68 ?_
              refine j_iload_n G 3 rfl dX1_setTable_69 ?_
              refine j_iadd G dX1_setTable_70 ?_
              refine j_bipush G (by decide) dX1_setTable_71 ?_
              refine j_iload_n G 4 rfl dX1_setTable_73 ?_
              refine j_imul G dX1_setTable_74 ?_
              refine j_iload G 5 rfl dX1_setTable_75 ?_
              refine j_iadd G dX1_setTable_77 ?_
              refine j_iastore (ws' := [[(x0, jO 0 [iI n, .ref nu, iI gr, iI pw, iI pr, iI ix, iI po, iI sd, iI gn, iI tk, .ref sb, lI hs])], [(nu, cI u 12 (uZ nm ((4 * lv) + p) ((100 * b) + f)))]]) G (jAt_1 1 rfl) (by (try unfold iR at *); omega) (by (try unfold iR at *); omega) (by (try unfold iR at *); omega) dX1_setTable_78 rfl ?_
              refine j_iload G 0 rfl dX1_setTable_79 ?_
              exact j_iret G E ⟨(by omega), (by omega), rfl, rfl⟩ ⟨by omega, by omega⟩ dX1_setTable_81
    · skip
      refine j_iconst G dX1_setTable_15 ?_
      refine j_goto 20 G dX1_setTable_16 (by decide) ?_
      refine jx_callS (wr := [[(x0, jO 0 [iI n, .ref nu, iI gr, iI pw, iI pr, iI ix, iI po, iI sd, iI gn, iI tk, .ref sb, lI hs])], [(nu, cI u 12 nm)]]) (k' := 1) (n' := 6) G (c_X1_requireIndex l u 1 hl0 (by (try unfold iR at *); omega)) hY_X1_requireIndex q1634 q1635 q85 q1636 (jcut 2 [0, 1] (by decide) rfl rfl) ⟨by omega, by omega, by omega, by omega, by omega, by omega⟩ (Nat.le_of_ble_eq_true rfl) dX1_setTable_20 rfl (fun E_ w_ hp => ?_) (fun v_ w_ hp => ?_)
      · skip
        rcases hp with ⟨rfl, x20_1, rfl⟩
        · skip
          exact jx_out G EX (Or.inl ⟨rfl, (by (try unfold iR at *); omega), rfl⟩) ⟨by omega, by omega⟩
      · skip
        obtain ⟨h20_1, rfl, rfl⟩ := hp
        show jJ X u 6 [[(x0, jO 0 [iI n, .ref nu, iI gr, iI pw, iI pr, iI ix, iI po, iI sd, iI gn, iI tk, .ref sb, lI hs])], [(nu, cI u 12 nm)]] [(0, .ref x0), (1, iI lv), (2, iI p), (3, iI b), (4, iI f)] 1 6 23 []
        refine j_iload_n G 3 rfl dX1_setTable_23 ?_
        refine j_iconst G dX1_setTable_24 ?_
        refine j_bipush G (by decide) dX1_setTable_25 ?_
        refine j_callS (wr := [[(x0, jO 0 [iI n, .ref nu, iI gr, iI pw, iI pr, iI ix, iI po, iI sd, iI gn, iI tk, .ref sb, lI hs])], [(nu, cI u 12 nm)]]) (k' := 1) (n' := 6) G (c_X1_inRange l u b 0 10 hRb (by unfold iR; omega) (by unfold iR; omega)) hY_X1_inRange q658 q659 q85 q660 (jcut 2 [0, 1] (by decide) rfl rfl) ⟨by omega, by omega, by omega, by omega, by omega, by omega⟩ (Nat.le_of_ble_eq_true rfl) dX1_setTable_27 rfl (fun v_ w_ hp => ?_)
        obtain ⟨r_27, h27_1, rfl, rfl⟩ := hp
        show jJ X u 6 [[(x0, jO 0 [iI n, .ref nu, iI gr, iI pw, iI pr, iI ix, iI po, iI sd, iI gn, iI tk, .ref sb, lI hs])], [(nu, cI u 12 nm)]] [(0, .ref x0), (1, iI lv), (2, iI p), (3, iI b), (4, iI f)] 1 6 30 [iI r_27]
        refine j_if_eq 50 G (by unfold iR at *; omega) dX1_setTable_30 (by decide) (fun c_30 => ?_) (fun c_30 => ?_)
        · skip
          refine j_iconst G dX1_setTable_50 ?_
          refine jx_callS (wr := [[(x0, jO 0 [iI n, .ref nu, iI gr, iI pw, iI pr, iI ix, iI po, iI sd, iI gn, iI tk, .ref sb, lI hs])], [(nu, cI u 12 nm)]]) (k' := 2) (n' := 12) G (c_X1_require l u 0 hl0 (by (try unfold iR at *); omega)) hY_X1_require q1614 q1615 q85 q1616 (jcut 2 [0, 1] (by decide) rfl rfl) ⟨by omega, by omega, by omega, by omega, by omega, by omega⟩ (Nat.le_of_ble_eq_true rfl) dX1_setTable_51 rfl (fun E_ w_ hp => ?_) (fun v_ w_ hp => ?_)
          · skip
            rcases hp with ⟨rfl, x51_1, rfl⟩
            · skip
              exact jx_out G EX (Or.inr ⟨rfl, (by (try unfold iR at *); omega), (by (try unfold iR at *); omega), rfl⟩) ⟨by omega, by omega⟩
          · skip
            obtain ⟨h51_1, rfl, rfl⟩ := hp
            show jJ X u 6 [[(x0, jO 0 [iI n, .ref nu, iI gr, iI pw, iI pr, iI ix, iI po, iI sd, iI gn, iI tk, .ref sb, lI hs])], [(nu, cI u 12 nm)]] [(0, .ref x0), (1, iI lv), (2, iI p), (3, iI b), (4, iI f)] 2 12 54 []
            refine j_aload_n G 0 rfl dX1_setTable_54 ?_
            refine j_iload_n G 1 rfl dX1_setTable_55 ?_
            refine j_iload_n G 2 rfl dX1_setTable_56 ?_
            refine j_callV (wr := []) (k' := 2) (n' := 12) G FX1 (c_X1_number l u x0 nu sb n gr pw pr ix po sd gn tk hs nm lv p (by (try unfold iR at *); omega) (by (try unfold iR at *); omega)) (jAt_1 0 rfl) ⟨rfl, hY_X1_number⟩ q724 q726 qs15 q85 q727 (jcut 2 [0, 1] (by decide) rfl rfl) ⟨by omega, by omega, by omega, by omega, by omega, by omega⟩ (Nat.le_of_ble_eq_true rfl) dX1_setTable_57 rfl (fun v_ w_ hp => ?_)
            obtain ⟨rfl, rfl⟩ := hp
            show jJ X u 6 [[(x0, jO 0 [iI n, .ref nu, iI gr, iI pw, iI pr, iI ix, iI po, iI sd, iI gn, iI tk, .ref sb, lI hs])], [(nu, cI u 12 nm)]] [(0, .ref x0), (1, iI lv), (2, iI p), (3, iI b), (4, iI f)] 2 12 60 [iI (nm (4 * lv + p))]
            refine j_istore G [(5, iI (nm (4 * lv + p))), (0, .ref x0), (1, iI lv), (2, iI p), (3, iI b), (4, iI f)] rfl (by decide) dX1_setTable_60 ?_
            refine j_aload_n G 1 rfl dX1_setTable_62 ?_
            refine j_get G FX1 (jAt_1 0 rfl) 1 (by decide) q175 rfl dX1_setTable_63 ?_
            refine j_iconst G dX1_setTable_66 ?_
            refine j_iload_n G 2 rfl dX1_setTable_67 ?_
            refine j_imul G dX1_setTable_68 ?_
            refine j_iload_n G 3 rfl dX1_setTable_69 ?_
            refine j_iadd G dX1_setTable_70 ?_
            refine j_bipush G (by decide) dX1_setTable_71 ?_
            refine j_iload_n G 4 rfl dX1_setTable_73 ?_
            refine j_imul G dX1_setTable_74 ?_
            refine j_iload G 5 rfl dX1_setTable_75 ?_
            refine j_iadd G dX1_setTable_77 ?_
            refine j_iastore (ws' := [[(x0, jO 0 [iI n, .ref nu, iI gr, iI pw, iI pr, iI ix, iI po, iI sd, iI gn, iI tk, .ref sb, lI hs])], [(nu, cI u 12 (uZ nm ((4 * lv) + p) ((100 * b) + f)))]]) G (jAt_1 1 rfl) (by (try unfold iR at *); omega) (by (try unfold iR at *); omega) (by (try unfold iR at *); omega) dX1_setTable_78 rfl ?_
            refine j_iload G 0 rfl dX1_setTable_79 ?_
            exact j_iret G E ⟨(by omega), (by omega), rfl, rfl⟩ ⟨by omega, by omega⟩ dX1_setTable_81
        · skip
          refine j_iload G 4 rfl dX1_setTable_33 ?_
          refine j_iconst G dX1_setTable_35 ?_
          refine j_bipush G (by decide) dX1_setTable_36 ?_
          refine j_iload_n G 3 rfl dX1_setTable_38 ?_
          refine j_isub G dX1_setTable_39 ?_
          refine j_callS (wr := [[(x0, jO 0 [iI n, .ref nu, iI gr, iI pw, iI pr, iI ix, iI po, iI sd, iI gn, iI tk, .ref sb, lI hs])], [(nu, cI u 12 nm)]]) (k' := 1) (n' := 6) G (c_X1_inRange l u f 0 (10 - b) hRf (by unfold iR; omega) (by unfold iR at *; omega)) hY_X1_inRange q658 q659 q85 q660 (jcut 2 [0, 1] (by decide) rfl rfl) ⟨by omega, by omega, by omega, by omega, by omega, by omega⟩ (Nat.le_of_ble_eq_true rfl) dX1_setTable_40 rfl (fun v_ w_ hp => ?_)
          obtain ⟨r_40, h40_1, rfl, rfl⟩ := hp
          show jJ X u 6 [[(x0, jO 0 [iI n, .ref nu, iI gr, iI pw, iI pr, iI ix, iI po, iI sd, iI gn, iI tk, .ref sb, lI hs])], [(nu, cI u 12 nm)]] [(0, .ref x0), (1, iI lv), (2, iI p), (3, iI b), (4, iI f)] 1 6 43 [iI r_40]
          refine j_if_eq 50 G (by unfold iR at *; omega) dX1_setTable_43 (by decide) (fun c_43 => ?_) (fun c_43 => ?_)
          · skip
            refine j_iconst G dX1_setTable_50 ?_
            refine jx_callS (wr := [[(x0, jO 0 [iI n, .ref nu, iI gr, iI pw, iI pr, iI ix, iI po, iI sd, iI gn, iI tk, .ref sb, lI hs])], [(nu, cI u 12 nm)]]) (k' := 2) (n' := 12) G (c_X1_require l u 0 hl0 (by (try unfold iR at *); omega)) hY_X1_require q1614 q1615 q85 q1616 (jcut 2 [0, 1] (by decide) rfl rfl) ⟨by omega, by omega, by omega, by omega, by omega, by omega⟩ (Nat.le_of_ble_eq_true rfl) dX1_setTable_51 rfl (fun E_ w_ hp => ?_) (fun v_ w_ hp => ?_)
            · skip
              rcases hp with ⟨rfl, x51_1, rfl⟩
              · skip
                exact jx_out G EX (Or.inr ⟨rfl, (by (try unfold iR at *); omega), (by (try unfold iR at *); omega), rfl⟩) ⟨by omega, by omega⟩
            · skip
              obtain ⟨h51_1, rfl, rfl⟩ := hp
              show jJ X u 6 [[(x0, jO 0 [iI n, .ref nu, iI gr, iI pw, iI pr, iI ix, iI po, iI sd, iI gn, iI tk, .ref sb, lI hs])], [(nu, cI u 12 nm)]] [(0, .ref x0), (1, iI lv), (2, iI p), (3, iI b), (4, iI f)] 2 12 54 []
              refine j_aload_n G 0 rfl dX1_setTable_54 ?_
              refine j_iload_n G 1 rfl dX1_setTable_55 ?_
              refine j_iload_n G 2 rfl dX1_setTable_56 ?_
              refine j_callV (wr := []) (k' := 2) (n' := 12) G FX1 (c_X1_number l u x0 nu sb n gr pw pr ix po sd gn tk hs nm lv p (by (try unfold iR at *); omega) (by (try unfold iR at *); omega)) (jAt_1 0 rfl) ⟨rfl, hY_X1_number⟩ q724 q726 qs15 q85 q727 (jcut 2 [0, 1] (by decide) rfl rfl) ⟨by omega, by omega, by omega, by omega, by omega, by omega⟩ (Nat.le_of_ble_eq_true rfl) dX1_setTable_57 rfl (fun v_ w_ hp => ?_)
              obtain ⟨rfl, rfl⟩ := hp
              show jJ X u 6 [[(x0, jO 0 [iI n, .ref nu, iI gr, iI pw, iI pr, iI ix, iI po, iI sd, iI gn, iI tk, .ref sb, lI hs])], [(nu, cI u 12 nm)]] [(0, .ref x0), (1, iI lv), (2, iI p), (3, iI b), (4, iI f)] 2 12 60 [iI (nm (4 * lv + p))]
              refine j_istore G [(5, iI (nm (4 * lv + p))), (0, .ref x0), (1, iI lv), (2, iI p), (3, iI b), (4, iI f)] rfl (by decide) dX1_setTable_60 ?_
              refine j_aload_n G 1 rfl dX1_setTable_62 ?_
              refine j_get G FX1 (jAt_1 0 rfl) 1 (by decide) q175 rfl dX1_setTable_63 ?_
              refine j_iconst G dX1_setTable_66 ?_
              refine j_iload_n G 2 rfl dX1_setTable_67 ?_
              refine j_imul G dX1_setTable_68 ?_
              refine j_iload_n G 3 rfl dX1_setTable_69 ?_
              refine j_iadd G dX1_setTable_70 ?_
              refine j_bipush G (by decide) dX1_setTable_71 ?_
              refine j_iload_n G 4 rfl dX1_setTable_73 ?_
              refine j_imul G dX1_setTable_74 ?_
              refine j_iload G 5 rfl dX1_setTable_75 ?_
              refine j_iadd G dX1_setTable_77 ?_
              refine j_iastore (ws' := [[(x0, jO 0 [iI n, .ref nu, iI gr, iI pw, iI pr, iI ix, iI po, iI sd, iI gn, iI tk, .ref sb, lI hs])], [(nu, cI u 12 (uZ nm ((4 * lv) + p) ((100 * b) + f)))]]) G (jAt_1 1 rfl) (by (try unfold iR at *); omega) (by (try unfold iR at *); omega) (by (try unfold iR at *); omega) dX1_setTable_78 rfl ?_
              refine j_iload G 0 rfl dX1_setTable_79 ?_
              exact j_iret G E ⟨(by omega), (by omega), rfl, rfl⟩ ⟨by omega, by omega⟩ dX1_setTable_81
          · skip
            refine j_iconst G dX1_setTable_46 ?_
            refine j_goto 51 G dX1_setTable_47 (by decide) ?_
            refine jx_callS (wr := [[(x0, jO 0 [iI n, .ref nu, iI gr, iI pw, iI pr, iI ix, iI po, iI sd, iI gn, iI tk, .ref sb, lI hs])], [(nu, cI u 12 nm)]]) (k' := 2) (n' := 12) G (c_X1_require l u 1 hl0 (by (try unfold iR at *); omega)) hY_X1_require q1614 q1615 q85 q1616 (jcut 2 [0, 1] (by decide) rfl rfl) ⟨by omega, by omega, by omega, by omega, by omega, by omega⟩ (Nat.le_of_ble_eq_true rfl) dX1_setTable_51 rfl (fun E_ w_ hp => ?_) (fun v_ w_ hp => ?_)
            · skip
              rcases hp with ⟨rfl, x51_1, rfl⟩
              · skip
                exact jx_out G EX (Or.inr ⟨rfl, (by (try unfold iR at *); omega), (by (try unfold iR at *); omega), rfl⟩) ⟨by omega, by omega⟩
            · skip
              obtain ⟨h51_1, rfl, rfl⟩ := hp
              show jJ X u 6 [[(x0, jO 0 [iI n, .ref nu, iI gr, iI pw, iI pr, iI ix, iI po, iI sd, iI gn, iI tk, .ref sb, lI hs])], [(nu, cI u 12 nm)]] [(0, .ref x0), (1, iI lv), (2, iI p), (3, iI b), (4, iI f)] 2 12 54 []
              refine j_aload_n G 0 rfl dX1_setTable_54 ?_
              refine j_iload_n G 1 rfl dX1_setTable_55 ?_
              refine j_iload_n G 2 rfl dX1_setTable_56 ?_
              refine j_callV (wr := []) (k' := 2) (n' := 12) G FX1 (c_X1_number l u x0 nu sb n gr pw pr ix po sd gn tk hs nm lv p (by (try unfold iR at *); omega) (by (try unfold iR at *); omega)) (jAt_1 0 rfl) ⟨rfl, hY_X1_number⟩ q724 q726 qs15 q85 q727 (jcut 2 [0, 1] (by decide) rfl rfl) ⟨by omega, by omega, by omega, by omega, by omega, by omega⟩ (Nat.le_of_ble_eq_true rfl) dX1_setTable_57 rfl (fun v_ w_ hp => ?_)
              obtain ⟨rfl, rfl⟩ := hp
              show jJ X u 6 [[(x0, jO 0 [iI n, .ref nu, iI gr, iI pw, iI pr, iI ix, iI po, iI sd, iI gn, iI tk, .ref sb, lI hs])], [(nu, cI u 12 nm)]] [(0, .ref x0), (1, iI lv), (2, iI p), (3, iI b), (4, iI f)] 2 12 60 [iI (nm (4 * lv + p))]
              refine j_istore G [(5, iI (nm (4 * lv + p))), (0, .ref x0), (1, iI lv), (2, iI p), (3, iI b), (4, iI f)] rfl (by decide) dX1_setTable_60 ?_
              refine j_aload_n G 1 rfl dX1_setTable_62 ?_
              refine j_get G FX1 (jAt_1 0 rfl) 1 (by decide) q175 rfl dX1_setTable_63 ?_
              refine j_iconst G dX1_setTable_66 ?_
              refine j_iload_n G 2 rfl dX1_setTable_67 ?_
              refine j_imul G dX1_setTable_68 ?_
              refine j_iload_n G 3 rfl dX1_setTable_69 ?_
              refine j_iadd G dX1_setTable_70 ?_
              refine j_bipush G (by decide) dX1_setTable_71 ?_
              refine j_iload_n G 4 rfl dX1_setTable_73 ?_
              refine j_imul G dX1_setTable_74 ?_
              refine j_iload G 5 rfl dX1_setTable_75 ?_
              refine j_iadd G dX1_setTable_77 ?_
              refine j_iastore (ws' := [[(x0, jO 0 [iI n, .ref nu, iI gr, iI pw, iI pr, iI ix, iI po, iI sd, iI gn, iI tk, .ref sb, lI hs])], [(nu, cI u 12 (uZ nm ((4 * lv) + p) ((100 * b) + f)))]]) G (jAt_1 1 rfl) (by (try unfold iR at *); omega) (by (try unfold iR at *); omega) (by (try unfold iR at *); omega) dX1_setTable_78 rfl ?_
              refine j_iload G 0 rfl dX1_setTable_79 ?_
              exact j_iret G E ⟨(by omega), (by omega), rfl, rfl⟩ ⟨by omega, by omega⟩ dX1_setTable_81
theorem hY_X1_gear : jY yX1_gear 2 := ⟨by decide +kernel, by decide +kernel, by decide +kernel⟩
set_option maxHeartbeats 4000000 in
set_option maxRecDepth 100000 in
theorem c_X1_gear (l : Launch) (u : jU) (x0 nu sb : Nat) (n gr pw pr ix po sd gn tk hs : Int) (lv b : Int) (hl0 : l.stackTraces = false) (hRlv : iR lv) (hRb : iR b) (hg : 0 ≤ gr ∧ gr ≤ 7) : jCX l u yX1_gear cX1_gear 3 (some .int) 7 109 1 6 [.ref x0, iI lv, iI b] [[(x0, jO 0 [iI n, .ref nu, iI gr, iI pw, iI pr, iI ix, iI po, iI sd, iI gn, iI tk, .ref sb, lI hs])]] (fun v_ w_ => (0 ≤ lv ∧ lv ≤ 2) ∧ v_ = some (iI (sBits (sWith gr lv b))) ∧ w_ = [[(x0, jO 0 [iI n, .ref nu, iI (sWith gr lv b), iI pw, iI pr, iI ix, iI po, iI sd, iI gn, iI tk, .ref sb, lI hs])]]) (fun E_ w_ => (E_ = "java/lang/IndexOutOfBoundsException" ∧ (¬ (0 ≤ lv ∧ lv ≤ 2)) ∧ w_ = [[(x0, jO 0 [iI n, .ref nu, iI gr, iI pw, iI pr, iI ix, iI po, iI sd, iI gn, iI tk, .ref sb, lI hs])]])) := by
  refine jCX.of "FlashRatchet" (by decide +kernel) rfl (Nat.le_of_ble_eq_true rfl) [(0, .ref x0), (1, iI lv), (2, iI b)] rfl (fun X G EX => ?_)
  have E := EX.E
  refine j_iload_n G 1 rfl dX1_gear_0 ?_
  refine j_callS (wr := [[(x0, jO 0 [iI n, .ref nu, iI gr, iI pw, iI pr, iI ix, iI po, iI sd, iI gn, iI tk, .ref sb, lI hs])]]) (k' := 0) (n' := 0) G (c_X1_isLever l u lv hRlv) hY_X1_isLever q1629 q656 q85 q657 (jcut 1 [0] (by decide) rfl rfl) ⟨by omega, by omega, by omega, by omega, by omega, by omega⟩ (Nat.le_of_ble_eq_true rfl) dX1_gear_1 rfl (fun v_ w_ hp => ?_)
  obtain ⟨r_1, h1_1, rfl, rfl⟩ := hp
  show jJ X u 3 [[(x0, jO 0 [iI n, .ref nu, iI gr, iI pw, iI pr, iI ix, iI po, iI sd, iI gn, iI tk, .ref sb, lI hs])]] [(0, .ref x0), (1, iI lv), (2, iI b)] 0 0 4 [iI r_1]
  refine jx_callS (wr := [[(x0, jO 0 [iI n, .ref nu, iI gr, iI pw, iI pr, iI ix, iI po, iI sd, iI gn, iI tk, .ref sb, lI hs])]]) (k' := 1) (n' := 6) G (c_X1_requireIndex l u r_1 hl0 (by (try unfold iR at *); omega)) hY_X1_requireIndex q1634 q1635 q85 q1636 (jcut 1 [0] (by decide) rfl rfl) ⟨by omega, by omega, by omega, by omega, by omega, by omega⟩ (Nat.le_of_ble_eq_true rfl) dX1_gear_4 rfl (fun E_ w_ hp => ?_) (fun v_ w_ hp => ?_)
  · skip
    rcases hp with ⟨rfl, x4_1, rfl⟩
    · skip
      exact jx_out G EX ⟨rfl, (by (try unfold iR at *); omega), rfl⟩ ⟨by omega, by omega⟩
  · skip
    obtain ⟨h4_1, rfl, rfl⟩ := hp
    show jJ X u 3 [[(x0, jO 0 [iI n, .ref nu, iI gr, iI pw, iI pr, iI ix, iI po, iI sd, iI gn, iI tk, .ref sb, lI hs])]] [(0, .ref x0), (1, iI lv), (2, iI b)] 1 6 7 []
    refine j_aload_n G 0 rfl dX1_gear_7 ?_
    refine j_aload_n G 0 rfl dX1_gear_8 ?_
    refine j_get G FX1 (jAt_1 0 rfl) 2 (by decide) q177 rfl dX1_gear_9 ?_
    refine j_iload_n G 1 rfl dX1_gear_12 ?_
    refine j_iload_n G 2 rfl dX1_gear_13 ?_
    refine j_callS (wr := [[(x0, jO 0 [iI n, .ref nu, iI gr, iI pw, iI pr, iI ix, iI po, iI sd, iI gn, iI tk, .ref sb, lI hs])]]) (k' := 1) (n' := 6) G (c_X1_with l u gr lv b (by (try unfold iR at *); omega) (by (try unfold iR at *); omega) hRb) hY_X1_with q1659 q1660 q85 q1661 (jcut 1 [0] (by decide) rfl rfl) ⟨by omega, by omega, by omega, by omega, by omega, by omega⟩ (Nat.le_of_ble_eq_true rfl) dX1_gear_14 rfl (fun v_ w_ hp => ?_)
    obtain ⟨r_14, h14_1, h14_2, rfl, rfl⟩ := hp
    subst h14_1
    show jJ X u 3 [[(x0, jO 0 [iI n, .ref nu, iI gr, iI pw, iI pr, iI ix, iI po, iI sd, iI gn, iI tk, .ref sb, lI hs])]] [(0, .ref x0), (1, iI lv), (2, iI b)] 1 6 17 [iI (sWith gr lv b), .ref x0]
    refine j_put (ws' := [[(x0, jO 0 [iI n, .ref nu, iI (sWith gr lv b), iI pw, iI pr, iI ix, iI po, iI sd, iI gn, iI tk, .ref sb, lI hs])]]) G FX1 (jAt_1 0 rfl) 2 (by decide) q177 rfl rfl rfl (Nat.le_of_ble_eq_true rfl) dX1_gear_17 rfl ?_
    refine j_aload_n G 0 rfl dX1_gear_20 ?_
    refine j_get G FX1 (jAt_1 0 rfl) 2 (by decide) q177 rfl dX1_gear_21 ?_
    refine j_callS (wr := [[(x0, jO 0 [iI n, .ref nu, iI (sWith gr lv b), iI pw, iI pr, iI ix, iI po, iI sd, iI gn, iI tk, .ref sb, lI hs])]]) (k' := 1) (n' := 6) G (c_J11_bitCount l u (sWith gr lv b) (by (try unfold iR at *); omega)) hY_J11_bitCount q1662 q1663 q98 q1664 (jcut 1 [0] (by decide) rfl rfl) ⟨by omega, by omega, by omega, by omega, by omega, by omega⟩ (Nat.le_of_ble_eq_true rfl) dX1_gear_24 rfl (fun v_ w_ hp => ?_)
    obtain ⟨rfl, rfl⟩ := hp
    show jJ X u 3 [[(x0, jO 0 [iI n, .ref nu, iI (sWith gr lv b), iI pw, iI pr, iI ix, iI po, iI sd, iI gn, iI tk, .ref sb, lI hs])]] [(0, .ref x0), (1, iI lv), (2, iI b)] 1 6 27 [iI (sBits (sWith gr lv b))]
    exact j_iret G E ⟨(by omega), rfl, rfl⟩ ⟨by omega, by omega⟩ dX1_gear_27
theorem hY_X1_pawl : jY yX1_pawl 2 := ⟨by decide +kernel, by decide +kernel, by decide +kernel⟩
set_option maxHeartbeats 4000000 in
set_option maxRecDepth 100000 in
theorem c_X1_pawl (l : Launch) (u : jU) (x0 nu sb : Nat) (n gr pw pr ix po sd gn tk hs : Int) (p b : Int) (hl0 : l.stackTraces = false) (hRp : iR p) (hRb : iR b) (hn : 2 ≤ n ∧ n ≤ 4) (hw : 0 ≤ pw ∧ pw ≤ 15) : jCX l u yX1_pawl cX1_pawl 3 (some .int) 7 109 1 6 [.ref x0, iI p, iI b] [[(x0, jO 0 [iI n, .ref nu, iI gr, iI pw, iI pr, iI ix, iI po, iI sd, iI gn, iI tk, .ref sb, lI hs])]] (fun v_ w_ => (0 ≤ p ∧ p < n) ∧ v_ = some (iI (sBits (sWith pw p b))) ∧ w_ = [[(x0, jO 0 [iI n, .ref nu, iI gr, iI (sWith pw p b), iI pr, iI ix, iI po, iI sd, iI gn, iI tk, .ref sb, lI hs])]]) (fun E_ w_ => (E_ = "java/lang/IndexOutOfBoundsException" ∧ (¬ (0 ≤ p ∧ p < n)) ∧ w_ = [[(x0, jO 0 [iI n, .ref nu, iI gr, iI pw, iI pr, iI ix, iI po, iI sd, iI gn, iI tk, .ref sb, lI hs])]])) := by
  refine jCX.of "FlashRatchet" (by decide +kernel) rfl (Nat.le_of_ble_eq_true rfl) [(0, .ref x0), (1, iI p), (2, iI b)] rfl (fun X G EX => ?_)
  have E := EX.E
  refine j_aload_n G 0 rfl dX1_pawl_0 ?_
  refine j_iload_n G 1 rfl dX1_pawl_1 ?_
  refine j_callV (wr := []) (k' := 0) (n' := 0) G FX1 (c_X1_isPosition l u x0 nu sb n gr pw pr ix po sd gn tk hs p hRp hn) (jAt_1 0 rfl) ⟨rfl, hY_X1_isPosition⟩ q1630 q1632 qs42 q85 q1633 (jcut 1 [0] (by decide) rfl rfl) ⟨by omega, by omega, by omega, by omega, by omega, by omega⟩ (Nat.le_of_ble_eq_true rfl) dX1_pawl_2 rfl (fun v_ w_ hp => ?_)
  obtain ⟨r_2, h2_1, rfl, rfl⟩ := hp
  show jJ X u 3 [[(x0, jO 0 [iI n, .ref nu, iI gr, iI pw, iI pr, iI ix, iI po, iI sd, iI gn, iI tk, .ref sb, lI hs])]] [(0, .ref x0), (1, iI p), (2, iI b)] 0 0 5 [iI r_2]
  refine jx_callS (wr := [[(x0, jO 0 [iI n, .ref nu, iI gr, iI pw, iI pr, iI ix, iI po, iI sd, iI gn, iI tk, .ref sb, lI hs])]]) (k' := 1) (n' := 6) G (c_X1_requireIndex l u r_2 hl0 (by (try unfold iR at *); omega)) hY_X1_requireIndex q1634 q1635 q85 q1636 (jcut 1 [0] (by decide) rfl rfl) ⟨by omega, by omega, by omega, by omega, by omega, by omega⟩ (Nat.le_of_ble_eq_true rfl) dX1_pawl_5 rfl (fun E_ w_ hp => ?_) (fun v_ w_ hp => ?_)
  · skip
    rcases hp with ⟨rfl, x5_1, rfl⟩
    · skip
      exact jx_out G EX ⟨rfl, (by (try unfold iR at *); omega), rfl⟩ ⟨by omega, by omega⟩
  · skip
    obtain ⟨h5_1, rfl, rfl⟩ := hp
    show jJ X u 3 [[(x0, jO 0 [iI n, .ref nu, iI gr, iI pw, iI pr, iI ix, iI po, iI sd, iI gn, iI tk, .ref sb, lI hs])]] [(0, .ref x0), (1, iI p), (2, iI b)] 1 6 8 []
    refine j_aload_n G 0 rfl dX1_pawl_8 ?_
    refine j_aload_n G 0 rfl dX1_pawl_9 ?_
    refine j_get G FX1 (jAt_1 0 rfl) 3 (by decide) q178 rfl dX1_pawl_10 ?_
    refine j_iload_n G 1 rfl dX1_pawl_13 ?_
    refine j_iload_n G 2 rfl dX1_pawl_14 ?_
    refine j_callS (wr := [[(x0, jO 0 [iI n, .ref nu, iI gr, iI pw, iI pr, iI ix, iI po, iI sd, iI gn, iI tk, .ref sb, lI hs])]]) (k' := 1) (n' := 6) G (c_X1_with l u pw p b (by (try unfold iR at *); omega) (by (try unfold iR at *); omega) hRb) hY_X1_with q1659 q1660 q85 q1661 (jcut 1 [0] (by decide) rfl rfl) ⟨by omega, by omega, by omega, by omega, by omega, by omega⟩ (Nat.le_of_ble_eq_true rfl) dX1_pawl_15 rfl (fun v_ w_ hp => ?_)
    obtain ⟨r_15, h15_1, h15_2, rfl, rfl⟩ := hp
    subst h15_1
    show jJ X u 3 [[(x0, jO 0 [iI n, .ref nu, iI gr, iI pw, iI pr, iI ix, iI po, iI sd, iI gn, iI tk, .ref sb, lI hs])]] [(0, .ref x0), (1, iI p), (2, iI b)] 1 6 18 [iI (sWith pw p b), .ref x0]
    refine j_put (ws' := [[(x0, jO 0 [iI n, .ref nu, iI gr, iI (sWith pw p b), iI pr, iI ix, iI po, iI sd, iI gn, iI tk, .ref sb, lI hs])]]) G FX1 (jAt_1 0 rfl) 3 (by decide) q178 rfl rfl rfl (Nat.le_of_ble_eq_true rfl) dX1_pawl_18 rfl ?_
    refine j_aload_n G 0 rfl dX1_pawl_21 ?_
    refine j_get G FX1 (jAt_1 0 rfl) 3 (by decide) q178 rfl dX1_pawl_22 ?_
    refine j_callS (wr := [[(x0, jO 0 [iI n, .ref nu, iI gr, iI (sWith pw p b), iI pr, iI ix, iI po, iI sd, iI gn, iI tk, .ref sb, lI hs])]]) (k' := 1) (n' := 6) G (c_J11_bitCount l u (sWith pw p b) (by (try unfold iR at *); omega)) hY_J11_bitCount q1662 q1663 q98 q1664 (jcut 1 [0] (by decide) rfl rfl) ⟨by omega, by omega, by omega, by omega, by omega, by omega⟩ (Nat.le_of_ble_eq_true rfl) dX1_pawl_25 rfl (fun v_ w_ hp => ?_)
    obtain ⟨rfl, rfl⟩ := hp
    show jJ X u 3 [[(x0, jO 0 [iI n, .ref nu, iI gr, iI (sWith pw p b), iI pr, iI ix, iI po, iI sd, iI gn, iI tk, .ref sb, lI hs])]] [(0, .ref x0), (1, iI p), (2, iI b)] 1 6 28 [iI (sBits (sWith pw p b))]
    exact j_iret G E ⟨(by omega), rfl, rfl⟩ ⟨by omega, by omega⟩ dX1_pawl_28
theorem hY_X1_setProgram : jY yX1_setProgram 1 := ⟨by decide +kernel, by decide +kernel, by decide +kernel⟩
set_option maxHeartbeats 4000000 in
set_option maxRecDepth 100000 in
theorem c_X1_setProgram (l : Launch) (u : jU) (x0 nu sb : Nat) (n gr pw pr ix po sd gn tk hs : Int) (p : Int) (hl0 : l.stackTraces = false) (hRp : iR p) : jCX l u yX1_setProgram cX1_setProgram 3 (some .int) 7 109 1 6 [.ref x0, iI p] [[(x0, jO 0 [iI n, .ref nu, iI gr, iI pw, iI pr, iI ix, iI po, iI sd, iI gn, iI tk, .ref sb, lI hs])]] (fun v_ w_ => sProg p = 1 ∧ v_ = some (iI pr) ∧ w_ = [[(x0, jO 0 [iI n, .ref nu, iI gr, iI pw, iI p, iI 0, iI po, iI sd, iI gn, iI tk, .ref sb, lI hs])]]) (fun E_ w_ => (E_ = "java/lang/IllegalArgumentException" ∧ sProg p = 0 ∧ w_ = [[(x0, jO 0 [iI n, .ref nu, iI gr, iI pw, iI pr, iI ix, iI po, iI sd, iI gn, iI tk, .ref sb, lI hs])]])) := by
  refine jCX.of "FlashRatchet" (by decide +kernel) rfl (Nat.le_of_ble_eq_true rfl) [(0, .ref x0), (1, iI p)] rfl (fun X G EX => ?_)
  have E := EX.E
  refine j_iload_n G 1 rfl dX1_setProgram_0 ?_
  refine j_callS (wr := [[(x0, jO 0 [iI n, .ref nu, iI gr, iI pw, iI pr, iI ix, iI po, iI sd, iI gn, iI tk, .ref sb, lI hs])]]) (k' := 0) (n' := 0) G (c_X1_isProgram l u p hRp) hY_X1_isProgram q852 q853 q85 q854 (jcut 1 [0] (by decide) rfl rfl) ⟨by omega, by omega, by omega, by omega, by omega, by omega⟩ (Nat.le_of_ble_eq_true rfl) dX1_setProgram_1 rfl (fun v_ w_ hp => ?_)
  obtain ⟨r_1, h1_1, h1_2, rfl, rfl⟩ := hp
  show jJ X u 3 [[(x0, jO 0 [iI n, .ref nu, iI gr, iI pw, iI pr, iI ix, iI po, iI sd, iI gn, iI tk, .ref sb, lI hs])]] [(0, .ref x0), (1, iI p)] 0 0 4 [iI r_1]
  refine jx_callS (wr := [[(x0, jO 0 [iI n, .ref nu, iI gr, iI pw, iI pr, iI ix, iI po, iI sd, iI gn, iI tk, .ref sb, lI hs])]]) (k' := 1) (n' := 6) G (c_X1_require l u r_1 hl0 (by (try unfold iR at *); omega)) hY_X1_require q1614 q1615 q85 q1616 (jcut 1 [0] (by decide) rfl rfl) ⟨by omega, by omega, by omega, by omega, by omega, by omega⟩ (Nat.le_of_ble_eq_true rfl) dX1_setProgram_4 rfl (fun E_ w_ hp => ?_) (fun v_ w_ hp => ?_)
  · skip
    rcases hp with ⟨rfl, x4_1, rfl⟩
    · skip
      exact jx_out G EX ⟨rfl, (by (try unfold iR at *); omega), rfl⟩ ⟨by omega, by omega⟩
  · skip
    obtain ⟨h4_1, rfl, rfl⟩ := hp
    show jJ X u 3 [[(x0, jO 0 [iI n, .ref nu, iI gr, iI pw, iI pr, iI ix, iI po, iI sd, iI gn, iI tk, .ref sb, lI hs])]] [(0, .ref x0), (1, iI p)] 1 6 7 []
    refine j_aload_n G 0 rfl dX1_setProgram_7 ?_
    refine j_get G FX1 (jAt_1 0 rfl) 4 (by decide) q181 rfl dX1_setProgram_8 ?_
    refine j_istore_n G [(2, iI pr), (0, .ref x0), (1, iI p)] rfl (by decide) dX1_setProgram_11 ?_
    refine j_aload_n G 1 rfl dX1_setProgram_12 ?_
    refine j_iload_n G 2 rfl dX1_setProgram_13 ?_
    refine j_put (ws' := [[(x0, jO 0 [iI n, .ref nu, iI gr, iI pw, iI p, iI ix, iI po, iI sd, iI gn, iI tk, .ref sb, lI hs])]]) G FX1 (jAt_1 0 rfl) 4 (by decide) q181 rfl rfl rfl (Nat.le_of_ble_eq_true rfl) dX1_setProgram_14 rfl ?_
    refine j_aload_n G 1 rfl dX1_setProgram_17 ?_
    refine j_iconst G dX1_setProgram_18 ?_
    refine j_put (ws' := [[(x0, jO 0 [iI n, .ref nu, iI gr, iI pw, iI p, iI 0, iI po, iI sd, iI gn, iI tk, .ref sb, lI hs])]]) G FX1 (jAt_1 0 rfl) 5 (by decide) q186 rfl rfl rfl (Nat.le_of_ble_eq_true rfl) dX1_setProgram_19 rfl ?_
    refine j_iload_n G 0 rfl dX1_setProgram_22 ?_
    exact j_iret G E ⟨(by omega), rfl, rfl⟩ ⟨by omega, by omega⟩ dX1_setProgram_23
theorem hY_X1_restart : jY yX1_restart 2 := ⟨by decide +kernel, by decide +kernel, by decide +kernel⟩
set_option maxHeartbeats 4000000 in
set_option maxRecDepth 100000 in
theorem c_X1_restart (l : Launch) (u : jU) (x0 nu sb : Nat) (n gr pw pr ix po sd gn tk hs : Int) (p s : Int) (hl0 : l.stackTraces = false) (hRp : iR p) (hRs : iR s) (hn : 2 ≤ n ∧ n ≤ 4) : jCX l u yX1_restart cX1_restart 4 (some .int) 7 109 2 12 [.ref x0, iI p, iI s] [[(x0, jO 0 [iI n, .ref nu, iI gr, iI pw, iI pr, iI ix, iI po, iI sd, iI gn, iI tk, .ref sb, lI hs])]] (fun v_ w_ => (0 ≤ p ∧ p < n) ∧ (0 ≤ s ∧ s ≤ 999) ∧ v_ = some (iI gn) ∧ w_ = [[(x0, jO 0 [iI n, .ref nu, iI gr, iI pw, iI pr, iI 0, iI p, iI s, iI 0, iI 0, .ref sb, lI hs])]]) (fun E_ w_ => (E_ = "java/lang/IndexOutOfBoundsException" ∧ (¬ (0 ≤ p ∧ p < n)) ∧ w_ = [[(x0, jO 0 [iI n, .ref nu, iI gr, iI pw, iI pr, iI ix, iI po, iI sd, iI gn, iI tk, .ref sb, lI hs])]]) ∨ (E_ = "java/lang/IllegalArgumentException" ∧ (0 ≤ p ∧ p < n) ∧ (¬ (0 ≤ s ∧ s ≤ 999)) ∧ w_ = [[(x0, jO 0 [iI n, .ref nu, iI gr, iI pw, iI pr, iI ix, iI po, iI sd, iI gn, iI tk, .ref sb, lI hs])]])) := by
  refine jCX.of "FlashRatchet" (by decide +kernel) rfl (Nat.le_of_ble_eq_true rfl) [(0, .ref x0), (1, iI p), (2, iI s)] rfl (fun X G EX => ?_)
  have E := EX.E
  refine j_aload_n G 0 rfl dX1_restart_0 ?_
  refine j_iload_n G 1 rfl dX1_restart_1 ?_
  refine j_callV (wr := []) (k' := 0) (n' := 0) G FX1 (c_X1_isPosition l u x0 nu sb n gr pw pr ix po sd gn tk hs p hRp hn) (jAt_1 0 rfl) ⟨rfl, hY_X1_isPosition⟩ q1630 q1632 qs42 q85 q1633 (jcut 1 [0] (by decide) rfl rfl) ⟨by omega, by omega, by omega, by omega, by omega, by omega⟩ (Nat.le_of_ble_eq_true rfl) dX1_restart_2 rfl (fun v_ w_ hp => ?_)
  obtain ⟨r_2, h2_1, rfl, rfl⟩ := hp
  show jJ X u 4 [[(x0, jO 0 [iI n, .ref nu, iI gr, iI pw, iI pr, iI ix, iI po, iI sd, iI gn, iI tk, .ref sb, lI hs])]] [(0, .ref x0), (1, iI p), (2, iI s)] 0 0 5 [iI r_2]
  refine jx_callS (wr := [[(x0, jO 0 [iI n, .ref nu, iI gr, iI pw, iI pr, iI ix, iI po, iI sd, iI gn, iI tk, .ref sb, lI hs])]]) (k' := 1) (n' := 6) G (c_X1_requireIndex l u r_2 hl0 (by (try unfold iR at *); omega)) hY_X1_requireIndex q1634 q1635 q85 q1636 (jcut 1 [0] (by decide) rfl rfl) ⟨by omega, by omega, by omega, by omega, by omega, by omega⟩ (Nat.le_of_ble_eq_true rfl) dX1_restart_5 rfl (fun E_ w_ hp => ?_) (fun v_ w_ hp => ?_)
  · skip
    rcases hp with ⟨rfl, x5_1, rfl⟩
    · skip
      exact jx_out G EX (Or.inl ⟨rfl, (by (try unfold iR at *); omega), rfl⟩) ⟨by omega, by omega⟩
  · skip
    obtain ⟨h5_1, rfl, rfl⟩ := hp
    show jJ X u 4 [[(x0, jO 0 [iI n, .ref nu, iI gr, iI pw, iI pr, iI ix, iI po, iI sd, iI gn, iI tk, .ref sb, lI hs])]] [(0, .ref x0), (1, iI p), (2, iI s)] 1 6 8 []
    refine j_iload_n G 2 rfl dX1_restart_8 ?_
    refine j_iconst G dX1_restart_9 ?_
    refine j_sipush G (by decide) dX1_restart_10 ?_
    refine j_callS (wr := [[(x0, jO 0 [iI n, .ref nu, iI gr, iI pw, iI pr, iI ix, iI po, iI sd, iI gn, iI tk, .ref sb, lI hs])]]) (k' := 1) (n' := 6) G (c_X1_inRange l u s 0 999 hRs (by unfold iR; omega) (by unfold iR; omega)) hY_X1_inRange q658 q659 q85 q660 (jcut 1 [0] (by decide) rfl rfl) ⟨by omega, by omega, by omega, by omega, by omega, by omega⟩ (Nat.le_of_ble_eq_true rfl) dX1_restart_13 rfl (fun v_ w_ hp => ?_)
    obtain ⟨r_13, h13_1, rfl, rfl⟩ := hp
    show jJ X u 4 [[(x0, jO 0 [iI n, .ref nu, iI gr, iI pw, iI pr, iI ix, iI po, iI sd, iI gn, iI tk, .ref sb, lI hs])]] [(0, .ref x0), (1, iI p), (2, iI s)] 1 6 16 [iI r_13]
    refine jx_callS (wr := [[(x0, jO 0 [iI n, .ref nu, iI gr, iI pw, iI pr, iI ix, iI po, iI sd, iI gn, iI tk, .ref sb, lI hs])]]) (k' := 2) (n' := 12) G (c_X1_require l u r_13 hl0 (by (try unfold iR at *); omega)) hY_X1_require q1614 q1615 q85 q1616 (jcut 1 [0] (by decide) rfl rfl) ⟨by omega, by omega, by omega, by omega, by omega, by omega⟩ (Nat.le_of_ble_eq_true rfl) dX1_restart_16 rfl (fun E_ w_ hp => ?_) (fun v_ w_ hp => ?_)
    · skip
      rcases hp with ⟨rfl, x16_1, rfl⟩
      · skip
        exact jx_out G EX (Or.inr ⟨rfl, (by (try unfold iR at *); omega), (by (try unfold iR at *); omega), rfl⟩) ⟨by omega, by omega⟩
    · skip
      obtain ⟨h16_1, rfl, rfl⟩ := hp
      show jJ X u 4 [[(x0, jO 0 [iI n, .ref nu, iI gr, iI pw, iI pr, iI ix, iI po, iI sd, iI gn, iI tk, .ref sb, lI hs])]] [(0, .ref x0), (1, iI p), (2, iI s)] 2 12 19 []
      refine j_aload_n G 0 rfl dX1_restart_19 ?_
      refine j_get G FX1 (jAt_1 0 rfl) 8 (by decide) q192 rfl dX1_restart_20 ?_
      refine j_istore_n G [(3, iI gn), (0, .ref x0), (1, iI p), (2, iI s)] rfl (by decide) dX1_restart_23 ?_
      refine j_aload_n G 1 rfl dX1_restart_24 ?_
      refine j_iload_n G 2 rfl dX1_restart_25 ?_
      refine j_put (ws' := [[(x0, jO 0 [iI n, .ref nu, iI gr, iI pw, iI pr, iI ix, iI p, iI sd, iI gn, iI tk, .ref sb, lI hs])]]) G FX1 (jAt_1 0 rfl) 6 (by decide) q189 rfl rfl rfl (Nat.le_of_ble_eq_true rfl) dX1_restart_26 rfl ?_
      refine j_aload_n G 1 rfl dX1_restart_29 ?_
      refine j_iload_n G 3 rfl dX1_restart_30 ?_
      refine j_put (ws' := [[(x0, jO 0 [iI n, .ref nu, iI gr, iI pw, iI pr, iI ix, iI p, iI s, iI gn, iI tk, .ref sb, lI hs])]]) G FX1 (jAt_1 0 rfl) 7 (by decide) q191 rfl rfl rfl (Nat.le_of_ble_eq_true rfl) dX1_restart_31 rfl ?_
      refine j_aload_n G 1 rfl dX1_restart_34 ?_
      refine j_iconst G dX1_restart_35 ?_
      refine j_put (ws' := [[(x0, jO 0 [iI n, .ref nu, iI gr, iI pw, iI pr, iI 0, iI p, iI s, iI gn, iI tk, .ref sb, lI hs])]]) G FX1 (jAt_1 0 rfl) 5 (by decide) q186 rfl rfl rfl (Nat.le_of_ble_eq_true rfl) dX1_restart_36 rfl ?_
      refine j_aload_n G 1 rfl dX1_restart_39 ?_
      refine j_iconst G dX1_restart_40 ?_
      refine j_put (ws' := [[(x0, jO 0 [iI n, .ref nu, iI gr, iI pw, iI pr, iI 0, iI p, iI s, iI 0, iI tk, .ref sb, lI hs])]]) G FX1 (jAt_1 0 rfl) 8 (by decide) q192 rfl rfl rfl (Nat.le_of_ble_eq_true rfl) dX1_restart_41 rfl ?_
      refine j_aload_n G 1 rfl dX1_restart_44 ?_
      refine j_iconst G dX1_restart_45 ?_
      refine j_put (ws' := [[(x0, jO 0 [iI n, .ref nu, iI gr, iI pw, iI pr, iI 0, iI p, iI s, iI 0, iI 0, .ref sb, lI hs])]]) G FX1 (jAt_1 0 rfl) 9 (by decide) q193 rfl rfl rfl (Nat.le_of_ble_eq_true rfl) dX1_restart_46 rfl ?_
      refine j_iload_n G 0 rfl dX1_restart_49 ?_
      exact j_iret G E ⟨(by omega), (by omega), rfl, rfl⟩ ⟨by omega, by omega⟩ dX1_restart_50
theorem hY_X1_counted : jY yX1_counted 1 := ⟨by decide +kernel, by decide +kernel, by decide +kernel⟩
set_option maxHeartbeats 4000000 in
set_option maxRecDepth 100000 in
theorem c_X1_counted (l : Launch) (u : jU) (x0 nu sb : Nat) (n gr pw pr ix po sd gn tk hs : Int) (w : Int) (hw : 0 ≤ w ∧ w ≤ 9) (hp : iR pr) : jC l u yX1_counted cX1_counted 2 (some .int) 1 22 0 0 [.ref x0, iI w] [[(x0, jO 0 [iI n, .ref nu, iI gr, iI pw, iI pr, iI ix, iI po, iI sd, iI gn, iI tk, .ref sb, lI hs])]] (fun v_ w_ => ∃ (r : Int), r = sCount n po pr ix sd gn tk gr pw w ∧ v_ = some (iI r) ∧ w_ = [[(x0, jO 0 [iI n, .ref nu, iI gr, iI pw, iI pr, iI ix, iI po, iI sd, iI gn, iI tk, .ref sb, lI hs])]]) := by
  refine jC.of "FlashRatchet" (by decide +kernel) rfl (Nat.le_of_ble_eq_true rfl) [(0, .ref x0), (1, iI w)] rfl (fun X G E I => ?_)
  refine j_iload_n G 1 rfl dX1_counted_0 ?_
  by_cases c_1 : 0 ≤ w ∧ w ≤ 8
  · skip
    have d_1 : w = 0 ∨ w = 1 ∨ w = 2 ∨ w = 3 ∨ w = 4 ∨ w = 5 ∨ w = 6 ∨ w = 7 ∨ w = 8 := by omega
    rcases d_1 with e_1 | e_1 | e_1 | e_1 | e_1 | e_1 | e_1 | e_1 | e_1
    · skip
      refine j_tsIn 52 G (by unfold iR at *; omega) dX1_counted_1 (by omega) (by omega) (show _ = some (51 : Int) by rw [e_1]; rfl) (by decide) ?_
      refine j_aload_n G 0 rfl dX1_counted_52 ?_
      refine j_get G FX1 (jAt_1 0 rfl) 0 (by decide) q173 rfl dX1_counted_53 ?_
      exact j_iret G E ⟨n, (by unfold sCount; (repeat' split) <;> omega), rfl, rfl⟩ ⟨by omega, by omega⟩ dX1_counted_56
    · skip
      refine j_tsIn 57 G (by unfold iR at *; omega) dX1_counted_1 (by omega) (by omega) (show _ = some (56 : Int) by rw [e_1]; rfl) (by decide) ?_
      refine j_aload_n G 0 rfl dX1_counted_57 ?_
      refine j_get G FX1 (jAt_1 0 rfl) 6 (by decide) q189 rfl dX1_counted_58 ?_
      exact j_iret G E ⟨po, (by unfold sCount; (repeat' split) <;> omega), rfl, rfl⟩ ⟨by omega, by omega⟩ dX1_counted_61
    · skip
      refine j_tsIn 62 G (by unfold iR at *; omega) dX1_counted_1 (by omega) (by omega) (show _ = some (61 : Int) by rw [e_1]; rfl) (by decide) ?_
      refine j_aload_n G 0 rfl dX1_counted_62 ?_
      refine j_get G FX1 (jAt_1 0 rfl) 4 (by decide) q181 rfl dX1_counted_63 ?_
      exact j_iret G E ⟨pr, (by unfold sCount; (repeat' split) <;> omega), rfl, rfl⟩ ⟨by omega, by omega⟩ dX1_counted_66
    · skip
      refine j_tsIn 67 G (by unfold iR at *; omega) dX1_counted_1 (by omega) (by omega) (show _ = some (66 : Int) by rw [e_1]; rfl) (by decide) ?_
      refine j_aload_n G 0 rfl dX1_counted_67 ?_
      refine j_get G FX1 (jAt_1 0 rfl) 5 (by decide) q186 rfl dX1_counted_68 ?_
      exact j_iret G E ⟨ix, (by unfold sCount; (repeat' split) <;> omega), rfl, rfl⟩ ⟨by omega, by omega⟩ dX1_counted_71
    · skip
      refine j_tsIn 72 G (by unfold iR at *; omega) dX1_counted_1 (by omega) (by omega) (show _ = some (71 : Int) by rw [e_1]; rfl) (by decide) ?_
      refine j_aload_n G 0 rfl dX1_counted_72 ?_
      refine j_get G FX1 (jAt_1 0 rfl) 7 (by decide) q191 rfl dX1_counted_73 ?_
      exact j_iret G E ⟨sd, (by unfold sCount; (repeat' split) <;> omega), rfl, rfl⟩ ⟨by omega, by omega⟩ dX1_counted_76
    · skip
      refine j_tsIn 77 G (by unfold iR at *; omega) dX1_counted_1 (by omega) (by omega) (show _ = some (76 : Int) by rw [e_1]; rfl) (by decide) ?_
      refine j_aload_n G 0 rfl dX1_counted_77 ?_
      refine j_get G FX1 (jAt_1 0 rfl) 8 (by decide) q192 rfl dX1_counted_78 ?_
      exact j_iret G E ⟨gn, (by unfold sCount; (repeat' split) <;> omega), rfl, rfl⟩ ⟨by omega, by omega⟩ dX1_counted_81
    · skip
      refine j_tsIn 82 G (by unfold iR at *; omega) dX1_counted_1 (by omega) (by omega) (show _ = some (81 : Int) by rw [e_1]; rfl) (by decide) ?_
      refine j_aload_n G 0 rfl dX1_counted_82 ?_
      refine j_get G FX1 (jAt_1 0 rfl) 9 (by decide) q193 rfl dX1_counted_83 ?_
      exact j_iret G E ⟨tk, (by unfold sCount; (repeat' split) <;> omega), rfl, rfl⟩ ⟨by omega, by omega⟩ dX1_counted_86
    · skip
      refine j_tsIn 87 G (by unfold iR at *; omega) dX1_counted_1 (by omega) (by omega) (show _ = some (86 : Int) by rw [e_1]; rfl) (by decide) ?_
      refine j_aload_n G 0 rfl dX1_counted_87 ?_
      refine j_get G FX1 (jAt_1 0 rfl) 2 (by decide) q177 rfl dX1_counted_88 ?_
      exact j_iret G E ⟨gr, (by unfold sCount; (repeat' split) <;> omega), rfl, rfl⟩ ⟨by omega, by omega⟩ dX1_counted_91
    · skip
      refine j_tsIn 92 G (by unfold iR at *; omega) dX1_counted_1 (by omega) (by omega) (show _ = some (91 : Int) by rw [e_1]; rfl) (by decide) ?_
      refine j_aload_n G 0 rfl dX1_counted_92 ?_
      refine j_get G FX1 (jAt_1 0 rfl) 3 (by decide) q178 rfl dX1_counted_93 ?_
      exact j_iret G E ⟨pw, (by unfold sCount; (repeat' split) <;> omega), rfl, rfl⟩ ⟨by omega, by omega⟩ dX1_counted_96
  · skip
    refine j_tsOut 97 G (by unfold iR at *; omega) dX1_counted_1 (by omega) (by decide) ?_
    refine j_aload_n G 0 rfl dX1_counted_97 ?_
    refine j_get G FX1 (jAt_1 0 rfl) 4 (by decide) q181 rfl dX1_counted_98 ?_
    refine j_callS (wr := [[(x0, jO 0 [iI n, .ref nu, iI gr, iI pw, iI pr, iI ix, iI po, iI sd, iI gn, iI tk, .ref sb, lI hs])]]) (k' := 0) (n' := 0) G (c_X1_length l u pr hp) hY_X1_length q706 q679 q85 q680 (jcut 1 [0] (by decide) rfl rfl) ⟨by omega, by omega, by omega, by omega, by omega, by omega⟩ (Nat.le_of_ble_eq_true rfl) dX1_counted_101 rfl (fun v_ w_ hp => ?_)
    obtain ⟨r_101, h101_1, h101_2, rfl, rfl⟩ := hp
    show jJ X u 2 [[(x0, jO 0 [iI n, .ref nu, iI gr, iI pw, iI pr, iI ix, iI po, iI sd, iI gn, iI tk, .ref sb, lI hs])]] [(0, .ref x0), (1, iI w)] 0 0 104 [iI r_101]
    exact j_iret G E ⟨r_101, (by unfold sCount; (repeat' split) <;> omega), rfl, rfl⟩ ⟨by omega, by omega⟩ dX1_counted_104
theorem hY_X1_count : jY yX1_count 1 := ⟨by decide +kernel, by decide +kernel, by decide +kernel⟩
set_option maxHeartbeats 4000000 in
set_option maxRecDepth 100000 in
theorem c_X1_count (l : Launch) (u : jU) (x0 nu sb : Nat) (n gr pw pr ix po sd gn tk hs : Int) (w : Int) (hl0 : l.stackTraces = false) (hRw : iR w) (hp : iR pr) : jCX l u yX1_count cX1_count 2 (some .int) 7 109 1 6 [.ref x0, iI w] [[(x0, jO 0 [iI n, .ref nu, iI gr, iI pw, iI pr, iI ix, iI po, iI sd, iI gn, iI tk, .ref sb, lI hs])]] (fun v_ w_ => ∃ (r : Int), r = sCount n po pr ix sd gn tk gr pw w ∧ (0 ≤ w ∧ w ≤ 9) ∧ v_ = some (iI r) ∧ w_ = [[(x0, jO 0 [iI n, .ref nu, iI gr, iI pw, iI pr, iI ix, iI po, iI sd, iI gn, iI tk, .ref sb, lI hs])]]) (fun E_ w_ => (E_ = "java/lang/IllegalArgumentException" ∧ (¬ (0 ≤ w ∧ w ≤ 9)) ∧ w_ = [[(x0, jO 0 [iI n, .ref nu, iI gr, iI pw, iI pr, iI ix, iI po, iI sd, iI gn, iI tk, .ref sb, lI hs])]])) := by
  refine jCX.of "FlashRatchet" (by decide +kernel) rfl (Nat.le_of_ble_eq_true rfl) [(0, .ref x0), (1, iI w)] rfl (fun X G EX => ?_)
  have E := EX.E
  refine j_iload_n G 1 rfl dX1_count_0 ?_
  refine j_iconst G dX1_count_1 ?_
  refine j_bipush G (by decide) dX1_count_2 ?_
  refine j_callS (wr := [[(x0, jO 0 [iI n, .ref nu, iI gr, iI pw, iI pr, iI ix, iI po, iI sd, iI gn, iI tk, .ref sb, lI hs])]]) (k' := 0) (n' := 0) G (c_X1_inRange l u w 0 9 hRw (by unfold iR; omega) (by unfold iR; omega)) hY_X1_inRange q658 q659 q85 q660 (jcut 1 [0] (by decide) rfl rfl) ⟨by omega, by omega, by omega, by omega, by omega, by omega⟩ (Nat.le_of_ble_eq_true rfl) dX1_count_4 rfl (fun v_ w_ hp => ?_)
  obtain ⟨r_4, h4_1, rfl, rfl⟩ := hp
  show jJ X u 2 [[(x0, jO 0 [iI n, .ref nu, iI gr, iI pw, iI pr, iI ix, iI po, iI sd, iI gn, iI tk, .ref sb, lI hs])]] [(0, .ref x0), (1, iI w)] 0 0 7 [iI r_4]
  refine jx_callS (wr := [[(x0, jO 0 [iI n, .ref nu, iI gr, iI pw, iI pr, iI ix, iI po, iI sd, iI gn, iI tk, .ref sb, lI hs])]]) (k' := 1) (n' := 6) G (c_X1_require l u r_4 hl0 (by (try unfold iR at *); omega)) hY_X1_require q1614 q1615 q85 q1616 (jcut 1 [0] (by decide) rfl rfl) ⟨by omega, by omega, by omega, by omega, by omega, by omega⟩ (Nat.le_of_ble_eq_true rfl) dX1_count_7 rfl (fun E_ w_ hp => ?_) (fun v_ w_ hp => ?_)
  · skip
    rcases hp with ⟨rfl, x7_1, rfl⟩
    · skip
      exact jx_out G EX ⟨rfl, (by (try unfold iR at *); omega), rfl⟩ ⟨by omega, by omega⟩
  · skip
    obtain ⟨h7_1, rfl, rfl⟩ := hp
    show jJ X u 2 [[(x0, jO 0 [iI n, .ref nu, iI gr, iI pw, iI pr, iI ix, iI po, iI sd, iI gn, iI tk, .ref sb, lI hs])]] [(0, .ref x0), (1, iI w)] 1 6 10 []
    refine j_aload_n G 0 rfl dX1_count_10 ?_
    refine j_iload_n G 1 rfl dX1_count_11 ?_
    refine j_callV (wr := []) (k' := 1) (n' := 6) G FX1 (c_X1_counted l u x0 nu sb n gr pw pr ix po sd gn tk hs w (by (try unfold iR at *); omega) hp) (jAt_1 0 rfl) ⟨rfl, hY_X1_counted⟩ q1189 q1191 qs25 q85 q1192 (jcut 1 [0] (by decide) rfl rfl) ⟨by omega, by omega, by omega, by omega, by omega, by omega⟩ (Nat.le_of_ble_eq_true rfl) dX1_count_12 rfl (fun v_ w_ hp => ?_)
    obtain ⟨r_12, h12_1, rfl, rfl⟩ := hp
    show jJ X u 2 [[(x0, jO 0 [iI n, .ref nu, iI gr, iI pw, iI pr, iI ix, iI po, iI sd, iI gn, iI tk, .ref sb, lI hs])]] [(0, .ref x0), (1, iI w)] 1 6 15 [iI r_12]
    exact j_iret G E ⟨r_12, (by omega), (by omega), rfl, rfl⟩ ⟨by omega, by omega⟩ dX1_count_15
theorem hY_X1_table : jY yX1_table 2 := ⟨by decide +kernel, by decide +kernel, by decide +kernel⟩
set_option maxHeartbeats 4000000 in
set_option maxRecDepth 100000 in
theorem c_X1_table (l : Launch) (u : jU) (x0 nu sb : Nat) (n gr pw pr ix po sd gn tk hs : Int)(nm : Int → Int) (lv p : Int) (hl0 : l.stackTraces = false) (hRlv : iR lv) (hRp : iR p) (hn : 2 ≤ n ∧ n ≤ 4) : jCX l u yX1_table cX1_table 3 (some .int) 7 109 1 6 [.ref x0, iI lv, iI p] [[(x0, jO 0 [iI n, .ref nu, iI gr, iI pw, iI pr, iI ix, iI po, iI sd, iI gn, iI tk, .ref sb, lI hs])], [(nu, cI u 12 nm)]] (fun v_ w_ => (0 ≤ lv ∧ lv ≤ 2 ∧ 0 ≤ p ∧ p < n) ∧ v_ = some (iI (nm (4 * lv + p))) ∧ w_ = [[(x0, jO 0 [iI n, .ref nu, iI gr, iI pw, iI pr, iI ix, iI po, iI sd, iI gn, iI tk, .ref sb, lI hs])], [(nu, cI u 12 nm)]]) (fun E_ w_ => (E_ = "java/lang/IndexOutOfBoundsException" ∧ (¬ (0 ≤ lv ∧ lv ≤ 2 ∧ 0 ≤ p ∧ p < n)) ∧ w_ = [[(x0, jO 0 [iI n, .ref nu, iI gr, iI pw, iI pr, iI ix, iI po, iI sd, iI gn, iI tk, .ref sb, lI hs])], [(nu, cI u 12 nm)]])) := by
  refine jCX.of "FlashRatchet" (by decide +kernel) rfl (Nat.le_of_ble_eq_true rfl) [(0, .ref x0), (1, iI lv), (2, iI p)] rfl (fun X G EX => ?_)
  have E := EX.E
  refine j_iload_n G 1 rfl dX1_table_0 ?_
  refine j_callS (wr := [[(x0, jO 0 [iI n, .ref nu, iI gr, iI pw, iI pr, iI ix, iI po, iI sd, iI gn, iI tk, .ref sb, lI hs])], [(nu, cI u 12 nm)]]) (k' := 0) (n' := 0) G (c_X1_isLever l u lv hRlv) hY_X1_isLever q1629 q656 q85 q657 (jcut 2 [0, 1] (by decide) rfl rfl) ⟨by omega, by omega, by omega, by omega, by omega, by omega⟩ (Nat.le_of_ble_eq_true rfl) dX1_table_1 rfl (fun v_ w_ hp => ?_)
  obtain ⟨r_1, h1_1, rfl, rfl⟩ := hp
  show jJ X u 3 [[(x0, jO 0 [iI n, .ref nu, iI gr, iI pw, iI pr, iI ix, iI po, iI sd, iI gn, iI tk, .ref sb, lI hs])], [(nu, cI u 12 nm)]] [(0, .ref x0), (1, iI lv), (2, iI p)] 0 0 4 [iI r_1]
  refine j_if_eq 19 G (by unfold iR at *; omega) dX1_table_4 (by decide) (fun c_4 => ?_) (fun c_4 => ?_)
  · skip
    refine j_iconst G dX1_table_19 ?_
    refine jx_callS (wr := [[(x0, jO 0 [iI n, .ref nu, iI gr, iI pw, iI pr, iI ix, iI po, iI sd, iI gn, iI tk, .ref sb, lI hs])], [(nu, cI u 12 nm)]]) (k' := 1) (n' := 6) G (c_X1_requireIndex l u 0 hl0 (by (try unfold iR at *); omega)) hY_X1_requireIndex q1634 q1635 q85 q1636 (jcut 2 [0, 1] (by decide) rfl rfl) ⟨by omega, by omega, by omega, by omega, by omega, by omega⟩ (Nat.le_of_ble_eq_true rfl) dX1_table_20 rfl (fun E_ w_ hp => ?_) (fun v_ w_ hp => ?_)
    · skip
      rcases hp with ⟨rfl, x20_1, rfl⟩
      · skip
        exact jx_out G EX ⟨rfl, (by (try unfold iR at *); omega), rfl⟩ ⟨by omega, by omega⟩
    · skip
      obtain ⟨h20_1, rfl, rfl⟩ := hp
      show jJ X u 3 [[(x0, jO 0 [iI n, .ref nu, iI gr, iI pw, iI pr, iI ix, iI po, iI sd, iI gn, iI tk, .ref sb, lI hs])], [(nu, cI u 12 nm)]] [(0, .ref x0), (1, iI lv), (2, iI p)] 1 6 23 []
      refine j_aload_n G 0 rfl dX1_table_23 ?_
      refine j_iload_n G 1 rfl dX1_table_24 ?_
      refine j_iload_n G 2 rfl dX1_table_25 ?_
      refine j_callV (wr := []) (k' := 1) (n' := 6) G FX1 (c_X1_number l u x0 nu sb n gr pw pr ix po sd gn tk hs nm lv p (by (try unfold iR at *); omega) (by (try unfold iR at *); omega)) (jAt_1 0 rfl) ⟨rfl, hY_X1_number⟩ q724 q726 qs15 q85 q727 (jcut 2 [0, 1] (by decide) rfl rfl) ⟨by omega, by omega, by omega, by omega, by omega, by omega⟩ (Nat.le_of_ble_eq_true rfl) dX1_table_26 rfl (fun v_ w_ hp => ?_)
      obtain ⟨rfl, rfl⟩ := hp
      show jJ X u 3 [[(x0, jO 0 [iI n, .ref nu, iI gr, iI pw, iI pr, iI ix, iI po, iI sd, iI gn, iI tk, .ref sb, lI hs])], [(nu, cI u 12 nm)]] [(0, .ref x0), (1, iI lv), (2, iI p)] 1 6 29 [iI (nm (4 * lv + p))]
      exact j_iret G E ⟨(by omega), rfl, rfl⟩ ⟨by omega, by omega⟩ dX1_table_29
  · skip
    refine j_aload_n G 0 rfl dX1_table_7 ?_
    refine j_iload_n G 2 rfl dX1_table_8 ?_
    refine j_callV (wr := [[(nu, cI u 12 nm)]]) (k' := 0) (n' := 0) G FX1 (c_X1_isPosition l u x0 nu sb n gr pw pr ix po sd gn tk hs p hRp hn) (jAt_1 0 rfl) ⟨rfl, hY_X1_isPosition⟩ q1630 q1632 qs42 q85 q1633 (jcut 2 [0, 1] (by decide) rfl rfl) ⟨by omega, by omega, by omega, by omega, by omega, by omega⟩ (Nat.le_of_ble_eq_true rfl) dX1_table_9 rfl (fun v_ w_ hp => ?_)
    obtain ⟨r_9, h9_1, rfl, rfl⟩ := hp
    show jJ X u 3 [[(x0, jO 0 [iI n, .ref nu, iI gr, iI pw, iI pr, iI ix, iI po, iI sd, iI gn, iI tk, .ref sb, lI hs])], [(nu, cI u 12 nm)]] [(0, .ref x0), (1, iI lv), (2, iI p)] 0 0 12 [iI r_9]
    refine j_if_eq 19 G (by unfold iR at *; omega) dX1_table_12 (by decide) (fun c_12 => ?_) (fun c_12 => ?_)
    · skip
      refine j_iconst G dX1_table_19 ?_
      refine jx_callS (wr := [[(x0, jO 0 [iI n, .ref nu, iI gr, iI pw, iI pr, iI ix, iI po, iI sd, iI gn, iI tk, .ref sb, lI hs])], [(nu, cI u 12 nm)]]) (k' := 1) (n' := 6) G (c_X1_requireIndex l u 0 hl0 (by (try unfold iR at *); omega)) hY_X1_requireIndex q1634 q1635 q85 q1636 (jcut 2 [0, 1] (by decide) rfl rfl) ⟨by omega, by omega, by omega, by omega, by omega, by omega⟩ (Nat.le_of_ble_eq_true rfl) dX1_table_20 rfl (fun E_ w_ hp => ?_) (fun v_ w_ hp => ?_)
      · skip
        rcases hp with ⟨rfl, x20_1, rfl⟩
        · skip
          exact jx_out G EX ⟨rfl, (by (try unfold iR at *); omega), rfl⟩ ⟨by omega, by omega⟩
      · skip
        obtain ⟨h20_1, rfl, rfl⟩ := hp
        show jJ X u 3 [[(x0, jO 0 [iI n, .ref nu, iI gr, iI pw, iI pr, iI ix, iI po, iI sd, iI gn, iI tk, .ref sb, lI hs])], [(nu, cI u 12 nm)]] [(0, .ref x0), (1, iI lv), (2, iI p)] 1 6 23 []
        refine j_aload_n G 0 rfl dX1_table_23 ?_
        refine j_iload_n G 1 rfl dX1_table_24 ?_
        refine j_iload_n G 2 rfl dX1_table_25 ?_
        refine j_callV (wr := []) (k' := 1) (n' := 6) G FX1 (c_X1_number l u x0 nu sb n gr pw pr ix po sd gn tk hs nm lv p (by (try unfold iR at *); omega) (by (try unfold iR at *); omega)) (jAt_1 0 rfl) ⟨rfl, hY_X1_number⟩ q724 q726 qs15 q85 q727 (jcut 2 [0, 1] (by decide) rfl rfl) ⟨by omega, by omega, by omega, by omega, by omega, by omega⟩ (Nat.le_of_ble_eq_true rfl) dX1_table_26 rfl (fun v_ w_ hp => ?_)
        obtain ⟨rfl, rfl⟩ := hp
        show jJ X u 3 [[(x0, jO 0 [iI n, .ref nu, iI gr, iI pw, iI pr, iI ix, iI po, iI sd, iI gn, iI tk, .ref sb, lI hs])], [(nu, cI u 12 nm)]] [(0, .ref x0), (1, iI lv), (2, iI p)] 1 6 29 [iI (nm (4 * lv + p))]
        exact j_iret G E ⟨(by omega), rfl, rfl⟩ ⟨by omega, by omega⟩ dX1_table_29
    · skip
      refine j_iconst G dX1_table_15 ?_
      refine j_goto 20 G dX1_table_16 (by decide) ?_
      refine jx_callS (wr := [[(x0, jO 0 [iI n, .ref nu, iI gr, iI pw, iI pr, iI ix, iI po, iI sd, iI gn, iI tk, .ref sb, lI hs])], [(nu, cI u 12 nm)]]) (k' := 1) (n' := 6) G (c_X1_requireIndex l u 1 hl0 (by (try unfold iR at *); omega)) hY_X1_requireIndex q1634 q1635 q85 q1636 (jcut 2 [0, 1] (by decide) rfl rfl) ⟨by omega, by omega, by omega, by omega, by omega, by omega⟩ (Nat.le_of_ble_eq_true rfl) dX1_table_20 rfl (fun E_ w_ hp => ?_) (fun v_ w_ hp => ?_)
      · skip
        rcases hp with ⟨rfl, x20_1, rfl⟩
        · skip
          exact jx_out G EX ⟨rfl, (by (try unfold iR at *); omega), rfl⟩ ⟨by omega, by omega⟩
      · skip
        obtain ⟨h20_1, rfl, rfl⟩ := hp
        show jJ X u 3 [[(x0, jO 0 [iI n, .ref nu, iI gr, iI pw, iI pr, iI ix, iI po, iI sd, iI gn, iI tk, .ref sb, lI hs])], [(nu, cI u 12 nm)]] [(0, .ref x0), (1, iI lv), (2, iI p)] 1 6 23 []
        refine j_aload_n G 0 rfl dX1_table_23 ?_
        refine j_iload_n G 1 rfl dX1_table_24 ?_
        refine j_iload_n G 2 rfl dX1_table_25 ?_
        refine j_callV (wr := []) (k' := 1) (n' := 6) G FX1 (c_X1_number l u x0 nu sb n gr pw pr ix po sd gn tk hs nm lv p (by (try unfold iR at *); omega) (by (try unfold iR at *); omega)) (jAt_1 0 rfl) ⟨rfl, hY_X1_number⟩ q724 q726 qs15 q85 q727 (jcut 2 [0, 1] (by decide) rfl rfl) ⟨by omega, by omega, by omega, by omega, by omega, by omega⟩ (Nat.le_of_ble_eq_true rfl) dX1_table_26 rfl (fun v_ w_ hp => ?_)
        obtain ⟨rfl, rfl⟩ := hp
        show jJ X u 3 [[(x0, jO 0 [iI n, .ref nu, iI gr, iI pw, iI pr, iI ix, iI po, iI sd, iI gn, iI tk, .ref sb, lI hs])], [(nu, cI u 12 nm)]] [(0, .ref x0), (1, iI lv), (2, iI p)] 1 6 29 [iI (nm (4 * lv + p))]
        exact j_iret G E ⟨(by omega), rfl, rfl⟩ ⟨by omega, by omega⟩ dX1_table_29
theorem hY_X1_mix : jY yX1_mix 1 := ⟨by decide +kernel, by decide +kernel, by decide +kernel⟩
set_option maxHeartbeats 4000000 in
set_option maxRecDepth 100000 in
theorem c_X1_mix (l : Launch) (u : jU) (x0 nu sb : Nat) (n gr pw pr ix po sd gn tk hs : Int) (v : Int)  : jC l u yX1_mix cX1_mix 3 none 0 0 0 0 [.ref x0, lI v] [[(x0, jO 0 [iI n, .ref nu, iI gr, iI pw, iI pr, iI ix, iI po, iI sd, iI gn, iI tk, .ref sb, lI hs])]] (fun v_ w_ => v_ = none ∧ w_ = [[(x0, jO 0 [iI n, .ref nu, iI gr, iI pw, iI pr, iI ix, iI po, iI sd, iI gn, iI tk, .ref sb, lI (31 * hs + v)])]]) := by
  refine jC.of "FlashRatchet" (by decide +kernel) rfl (Nat.le_of_ble_eq_true rfl) [(0, .ref x0), (1, lI v)] rfl (fun X G E I => ?_)
  refine j_aload_n G 0 rfl dX1_mix_0 ?_
  refine j_ldc2 31 G q1197 (by decide) dX1_mix_1 ?_
  refine j_aload_n G 0 rfl dX1_mix_4 ?_
  refine j_get G FX1 (jAt_1 0 rfl) 11 (by decide) q196 rfl dX1_mix_5 ?_
  refine j_lmul G dX1_mix_8 ?_
  refine j_lload_n G 1 rfl dX1_mix_9 ?_
  refine j_ladd G dX1_mix_10 ?_
  refine j_put (ws' := [[(x0, jO 0 [iI n, .ref nu, iI gr, iI pw, iI pr, iI ix, iI po, iI sd, iI gn, iI tk, .ref sb, lI ((31 * hs) + v)])]]) G FX1 (jAt_1 0 rfl) 11 (by decide) q196 rfl rfl rfl (Nat.le_of_ble_eq_true rfl) dX1_mix_11 rfl ?_
  exact j_vret G E ⟨rfl, rfl⟩ ⟨by omega, by omega⟩ dX1_mix_14
