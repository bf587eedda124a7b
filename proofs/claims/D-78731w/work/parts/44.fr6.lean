theorem hY_X4_go : jY yX4_go 2 := ⟨by decide +kernel, by decide +kernel, by decide +kernel⟩
set_option maxHeartbeats 4000000 in
set_option maxRecDepth 100000 in
theorem c_X4_go (l : Launch) (u : jU) (r0 aw av : Nat) (rd it ap pt lvr pa nb : Int) (x0 : Nat) (b nx : Int) (hb : 0 ≤ b ∧ b ≤ 1) : jC l u yX4_go cX4_go 3 (some .boolean) 0 0 0 0 [.ref r0, iI b, iI nx] [[(r0, jO 3 [.ref aw, .ref av, iI rd, iI it, iI ap, iI pt, iI lvr, iI pa, iI nb, .ref x0])]] (fun v_ w_ => (b = 0 ∧ v_ = some (iI b) ∧ w_ = [[(r0, jO 3 [.ref aw, .ref av, iI rd, iI it, iI ap, iI pt, iI lvr, iI pa, iI nb, .ref x0])]]) ∨ (¬ b = 0 ∧ v_ = some (iI b) ∧ w_ = [[(r0, jO 3 [.ref aw, .ref av, iI rd, iI it, iI ap, iI nx, iI lvr, iI pa, iI nb, .ref x0])]])) := by
  refine jC.of "FlashRatchet$Reader" (by decide +kernel) rfl (Nat.le_of_ble_eq_true rfl) [(0, .ref r0), (1, iI b), (2, iI nx)] rfl (fun X G E I => ?_)
  refine j_aload_n G 0 rfl dX4_go_0 ?_
  refine j_iload_n G 1 rfl dX4_go_1 ?_
  refine j_if_eq 9 G (by unfold iR at *; omega) dX4_go_2 (by decide) (fun c_2 => ?_) (fun c_2 => ?_)
  · skip
    refine j_aload_n G 0 rfl dX4_go_9 ?_
    refine j_get G FX4 (jAt_1 0 rfl) 5 (by decide) q589 rfl dX4_go_10 ?_
    refine j_put (ws' := [[(r0, jO 3 [.ref aw, .ref av, iI rd, iI it, iI ap, iI pt, iI lvr, iI pa, iI nb, .ref x0])]]) G FX4 (jAt_1 0 rfl) 5 (by decide) q589 rfl rfl rfl (Nat.le_of_ble_eq_true rfl) dX4_go_13 rfl ?_
    refine j_iload_n G 1 rfl dX4_go_16 ?_
    exact j_zret G E (by (try unfold iR at *); omega) (Or.inl ⟨(by omega), rfl, rfl⟩) ⟨by omega, by omega⟩ dX4_go_17
  · skip
    refine j_iload_n G 2 rfl dX4_go_5 ?_
    refine j_goto 13 G dX4_go_6 (by decide) ?_
    refine j_put (ws' := [[(r0, jO 3 [.ref aw, .ref av, iI rd, iI it, iI ap, iI nx, iI lvr, iI pa, iI nb, .ref x0])]]) G FX4 (jAt_1 0 rfl) 5 (by decide) q589 rfl rfl rfl (Nat.le_of_ble_eq_true rfl) dX4_go_13 rfl ?_
    refine j_iload_n G 1 rfl dX4_go_16 ?_
    exact j_zret G E (by (try unfold iR at *); omega) (Or.inr ⟨(by omega), rfl, rfl⟩) ⟨by omega, by omega⟩ dX4_go_17
theorem hY_X4_put : jY yX4_put 2 := ⟨by decide +kernel, by decide +kernel, by decide +kernel⟩
set_option maxHeartbeats 4000000 in
set_option maxRecDepth 100000 in
theorem c_X4_put (l : Launch) (u : jU) (r0 aw av : Nat) (rd it ap pt lvr pa nb : Int) (x0 : Nat) (wh : Int → Int) (va : Int → Int) (a b : Int) (hrd : 0 ≤ rd ∧ rd < 60) : jC l u yX4_put cX4_put 3 none 0 0 0 0 [.ref r0, iI a, iI b] [[(r0, jO 3 [.ref aw, .ref av, iI rd, iI it, iI ap, iI pt, iI lvr, iI pa, iI nb, .ref x0])], [(aw, cI u 60 wh)], [(av, cI u 60 va)]] (fun v_ w_ => v_ = none ∧ w_ = [[(r0, jO 3 [.ref aw, .ref av, iI (rd + 1), iI it, iI ap, iI pt, iI lvr, iI pa, iI nb, .ref x0])], [(aw, cI u 60 (uZ wh rd a))], [(av, cI u 60 (uZ va rd b))]]) := by
  refine jC.of "FlashRatchet$Reader" (by decide +kernel) rfl (Nat.le_of_ble_eq_true rfl) [(0, .ref r0), (1, iI a), (2, iI b)] rfl (fun X G E I => ?_)
  refine j_aload_n G 0 rfl dX4_put_0 ?_
  refine j_get G FX4 (jAt_1 0 rfl) 0 (by decide) q582 rfl dX4_put_1 ?_
  refine j_aload_n G 0 rfl dX4_put_4 ?_
  refine j_get G FX4 (jAt_1 0 rfl) 2 (by decide) q584 rfl dX4_put_5 ?_
  refine j_iload_n G 1 rfl dX4_put_8 ?_
  refine j_iastore (ws' := [[(r0, jO 3 [.ref aw, .ref av, iI rd, iI it, iI ap, iI pt, iI lvr, iI pa, iI nb, .ref x0])], [(aw, cI u 60 (uZ wh rd a))], [(av, cI u 60 va)]]) G (jAt_1 1 rfl) (by (try unfold iR at *); omega) (by (try unfold iR at *); omega) (by (try unfold iR at *); omega) dX4_put_9 rfl ?_
  refine j_aload_n G 0 rfl dX4_put_10 ?_
  refine j_get G FX4 (jAt_1 0 rfl) 1 (by decide) q583 rfl dX4_put_11 ?_
  refine j_aload_n G 0 rfl dX4_put_14 ?_
  refine j_get G FX4 (jAt_1 0 rfl) 2 (by decide) q584 rfl dX4_put_15 ?_
  refine j_iload_n G 2 rfl dX4_put_18 ?_
  refine j_iastore (ws' := [[(r0, jO 3 [.ref aw, .ref av, iI rd, iI it, iI ap, iI pt, iI lvr, iI pa, iI nb, .ref x0])], [(aw, cI u 60 (uZ wh rd a))], [(av, cI u 60 (uZ va rd b))]]) G (jAt_1 2 rfl) (by (try unfold iR at *); omega) (by (try unfold iR at *); omega) (by (try unfold iR at *); omega) dX4_put_19 rfl ?_
  refine j_aload_n G 0 rfl dX4_put_20 ?_
  refine j_dup G rfl dX4_put_21 ?_
  refine j_get G FX4 (jAt_1 0 rfl) 2 (by decide) q584 rfl dX4_put_22 ?_
  refine j_iconst G dX4_put_25 ?_
  refine j_iadd G dX4_put_26 ?_
  refine j_put (ws' := [[(r0, jO 3 [.ref aw, .ref av, iI (rd + 1), iI it, iI ap, iI pt, iI lvr, iI pa, iI nb, .ref x0])], [(aw, cI u 60 (uZ wh rd a))], [(av, cI u 60 (uZ va rd b))]]) G FX4 (jAt_1 0 rfl) 2 (by decide) q584 rfl rfl rfl (Nat.le_of_ble_eq_true rfl) dX4_put_27 rfl ?_
  exact j_vret G E ⟨rfl, rfl⟩ ⟨by omega, by omega⟩ dX4_put_30
theorem hY_X4_begins : jY yX4_begins 1 := ⟨by decide +kernel, by decide +kernel, by decide +kernel⟩
set_option maxHeartbeats 4000000 in
set_option maxRecDepth 100000 in
theorem c_X4_begins (l : Launch) (u : jU) (r0 aw av : Nat) (rd it ap pt lvr pa nb : Int) (x0 : Nat) (c : Int) (hc : 33 ≤ c ∧ c ≤ 126) : jC l u yX4_begins cX4_begins 2 (some .boolean) 2 42 0 0 [.ref r0, iI c] [[(r0, jO 3 [.ref aw, .ref av, iI rd, iI it, iI ap, iI pt, iI lvr, iI pa, iI nb, .ref x0])]] (fun v_ w_ => ((65 ≤ c ∧ c ≤ 67) ∧ v_ = some (iI 1) ∧ w_ = [[(r0, jO 3 [.ref aw, .ref av, iI rd, iI it, iI ap, iI 1, iI (c - 65), iI 0, iI 0, .ref x0])]]) ∨ (c = 80 ∧ v_ = some (iI 1) ∧ w_ = [[(r0, jO 3 [.ref aw, .ref av, iI rd, iI it, iI ap, iI 1, iI (-1), iI 0, iI 0, .ref x0])]]) ∨ (∃ (l2 : Int), (¬ (65 ≤ c ∧ c ≤ 67)) ∧ c ≠ 80 ∧ v_ = some (iI 0) ∧ w_ = [[(r0, jO 3 [.ref aw, .ref av, iI rd, iI it, iI ap, iI pt, iI l2, iI 0, iI 0, .ref x0])]])) := by
  refine jC.of "FlashRatchet$Reader" (by decide +kernel) rfl (Nat.le_of_ble_eq_true rfl) [(0, .ref r0), (1, iI c)] rfl (fun X G E I => ?_)
  refine j_aload_n G 0 rfl dX4_begins_0 ?_
  refine j_iload_n G 1 rfl dX4_begins_1 ?_
  refine j_bipush G (by decide) dX4_begins_2 ?_
  refine j_icmp_ne 11 G (by unfold iR at *; omega) (by unfold iR; omega) dX4_begins_4 (by decide) (fun c_4 => ?_) (fun c_4 => ?_)
  · skip
    refine j_iload_n G 1 rfl dX4_begins_11 ?_
    refine j_bipush G (by decide) dX4_begins_12 ?_
    refine j_isub G dX4_begins_14 ?_
    refine j_put (ws' := [[(r0, jO 3 [.ref aw, .ref av, iI rd, iI it, iI ap, iI pt, iI (c - 65), iI pa, iI nb, .ref x0])]]) G FX4 (jAt_1 0 rfl) 6 (by decide) q590 rfl rfl rfl (Nat.le_of_ble_eq_true rfl) dX4_begins_15 rfl ?_
    refine j_aload_n G 0 rfl dX4_begins_18 ?_
    refine j_iconst G dX4_begins_19 ?_
    refine j_put (ws' := [[(r0, jO 3 [.ref aw, .ref av, iI rd, iI it, iI ap, iI pt, iI (c - 65), iI 0, iI nb, .ref x0])]]) G FX4 (jAt_1 0 rfl) 7 (by decide) q591 rfl rfl rfl (Nat.le_of_ble_eq_true rfl) dX4_begins_20 rfl ?_
    refine j_aload_n G 0 rfl dX4_begins_23 ?_
    refine j_iconst G dX4_begins_24 ?_
    refine j_put (ws' := [[(r0, jO 3 [.ref aw, .ref av, iI rd, iI it, iI ap, iI pt, iI (c - 65), iI 0, iI 0, .ref x0])]]) G FX4 (jAt_1 0 rfl) 8 (by decide) q592 rfl rfl rfl (Nat.le_of_ble_eq_true rfl) dX4_begins_25 rfl ?_
    refine j_aload_n G 0 rfl dX4_begins_28 ?_
    refine j_iload_n G 1 rfl dX4_begins_29 ?_
    refine j_bipush G (by decide) dX4_begins_30 ?_
    refine j_icmp_eq 45 G (by unfold iR at *; omega) (by unfold iR; omega) dX4_begins_32 (by decide) (fun c_32 => ?_) (fun c_32 => ?_)
    · skip
      refine j_iconst G dX4_begins_45 ?_
      refine j_goto 50 G dX4_begins_46 (by decide) ?_
      refine j_iconst G dX4_begins_50 ?_
      refine j_callV (wr := []) (k' := 0) (n' := 0) G FX4 (c_X4_go l u r0 aw av rd it ap pt (c - 65) 0 0 x0 1 1 (by (try unfold iR at *); omega)) (jAt_1 0 rfl) ⟨rfl, hY_X4_go⟩ q661 q663 qs6 q108 q664 (jcut 1 [0] (by decide) rfl rfl) ⟨by omega, by omega, by omega, by omega, by omega, by omega⟩ (Nat.le_of_ble_eq_true rfl) dX4_begins_51 rfl (fun v_ w_ hp => ?_)
      rcases hp with ⟨h51_1, rfl, rfl⟩ | ⟨h51_1, rfl, rfl⟩
      · skip
        exact absurd h51_1 (by decide)
      · skip
        show jJ X u 2 [[(r0, jO 3 [.ref aw, .ref av, iI rd, iI it, iI ap, iI 1, iI (c - 65), iI 0, iI 0, .ref x0])]] [(0, .ref r0), (1, iI c)] 0 0 54 [iI 1]
        exact j_zret G E (by (try unfold iR at *); omega) (Or.inl ⟨(by omega), (by first | rfl | (exfalso; omega)), (by first | rfl | (exfalso; omega))⟩) ⟨by omega, by omega⟩ dX4_begins_54
    · skip
      refine j_aload_n G 0 rfl dX4_begins_35 ?_
      refine j_get G FX4 (jAt_1 0 rfl) 6 (by decide) q590 rfl dX4_begins_36 ?_
      refine j_callSN (wr := [[(r0, jO 3 [.ref aw, .ref av, iI rd, iI it, iI ap, iI pt, iI (c - 65), iI 0, iI 0, .ref x0])]]) (k' := 0) (n' := 0) G (c_X1_isLever l u (c - 65) (by unfold iR at *; omega)) hY_X1_isLever q655 q656 q85 q657 (jcut 1 [0] (by decide) rfl rfl) ⟨by omega, by omega, by omega, by omega, by omega, by omega⟩ (Nat.le_of_ble_eq_true rfl) dX4_begins_39 rfl (fun v_ w_ hp => ?_)
      obtain ⟨r_39, h39_1, rfl, rfl⟩ := hp
      show jJ X u 2 [[(r0, jO 3 [.ref aw, .ref av, iI rd, iI it, iI ap, iI pt, iI (c - 65), iI 0, iI 0, .ref x0])]] [(0, .ref r0), (1, iI c)] 0 0 42 [iI r_39, .ref r0]
      refine j_if_eq 49 G (by unfold iR at *; omega) dX4_begins_42 (by decide) (fun c_42 => ?_) (fun c_42 => ?_)
      · skip
        refine j_iconst G dX4_begins_49 ?_
        refine j_iconst G dX4_begins_50 ?_
        refine j_callV (wr := []) (k' := 0) (n' := 0) G FX4 (c_X4_go l u r0 aw av rd it ap pt (c - 65) 0 0 x0 0 1 (by (try unfold iR at *); omega)) (jAt_1 0 rfl) ⟨rfl, hY_X4_go⟩ q661 q663 qs6 q108 q664 (jcut 1 [0] (by decide) rfl rfl) ⟨by omega, by omega, by omega, by omega, by omega, by omega⟩ (Nat.le_of_ble_eq_true rfl) dX4_begins_51 rfl (fun v_ w_ hp => ?_)
        rcases hp with ⟨h51_1, rfl, rfl⟩ | ⟨h51_1, rfl, rfl⟩
        · skip
          show jJ X u 2 [[(r0, jO 3 [.ref aw, .ref av, iI rd, iI it, iI ap, iI pt, iI (c - 65), iI 0, iI 0, .ref x0])]] [(0, .ref r0), (1, iI c)] 0 0 54 [iI 0]
          exact j_zret G E (by (try unfold iR at *); omega) (Or.inr (Or.inr ⟨(c - 65), (by omega), (by omega), (by first | rfl | (exfalso; omega)), (by first | rfl | (exfalso; omega))⟩)) ⟨by omega, by omega⟩ dX4_begins_54
        · skip
          exact absurd h51_1 (by decide)
      · skip
        refine j_iconst G dX4_begins_45 ?_
        refine j_goto 50 G dX4_begins_46 (by decide) ?_
        refine j_iconst G dX4_begins_50 ?_
        refine j_callV (wr := []) (k' := 0) (n' := 0) G FX4 (c_X4_go l u r0 aw av rd it ap pt (c - 65) 0 0 x0 1 1 (by (try unfold iR at *); omega)) (jAt_1 0 rfl) ⟨rfl, hY_X4_go⟩ q661 q663 qs6 q108 q664 (jcut 1 [0] (by decide) rfl rfl) ⟨by omega, by omega, by omega, by omega, by omega, by omega⟩ (Nat.le_of_ble_eq_true rfl) dX4_begins_51 rfl (fun v_ w_ hp => ?_)
        rcases hp with ⟨h51_1, rfl, rfl⟩ | ⟨h51_1, rfl, rfl⟩
        · skip
          exact absurd h51_1 (by decide)
        · skip
          show jJ X u 2 [[(r0, jO 3 [.ref aw, .ref av, iI rd, iI it, iI ap, iI 1, iI (c - 65), iI 0, iI 0, .ref x0])]] [(0, .ref r0), (1, iI c)] 0 0 54 [iI 1]
          exact j_zret G E (by (try unfold iR at *); omega) (Or.inl ⟨(by omega), (by first | rfl | (exfalso; omega)), (by first | rfl | (exfalso; omega))⟩) ⟨by omega, by omega⟩ dX4_begins_54
  · skip
    refine j_iconst G dX4_begins_7 ?_
    refine j_goto 15 G dX4_begins_8 (by decide) ?_
    refine j_put (ws' := [[(r0, jO 3 [.ref aw, .ref av, iI rd, iI it, iI ap, iI pt, iI (-1), iI pa, iI nb, .ref x0])]]) G FX4 (jAt_1 0 rfl) 6 (by decide) q590 rfl rfl rfl (Nat.le_of_ble_eq_true rfl) dX4_begins_15 rfl ?_
    refine j_aload_n G 0 rfl dX4_begins_18 ?_
    refine j_iconst G dX4_begins_19 ?_
    refine j_put (ws' := [[(r0, jO 3 [.ref aw, .ref av, iI rd, iI it, iI ap, iI pt, iI (-1), iI 0, iI nb, .ref x0])]]) G FX4 (jAt_1 0 rfl) 7 (by decide) q591 rfl rfl rfl (Nat.le_of_ble_eq_true rfl) dX4_begins_20 rfl ?_
    refine j_aload_n G 0 rfl dX4_begins_23 ?_
    refine j_iconst G dX4_begins_24 ?_
    refine j_put (ws' := [[(r0, jO 3 [.ref aw, .ref av, iI rd, iI it, iI ap, iI pt, iI (-1), iI 0, iI 0, .ref x0])]]) G FX4 (jAt_1 0 rfl) 8 (by decide) q592 rfl rfl rfl (Nat.le_of_ble_eq_true rfl) dX4_begins_25 rfl ?_
    refine j_aload_n G 0 rfl dX4_begins_28 ?_
    refine j_iload_n G 1 rfl dX4_begins_29 ?_
    refine j_bipush G (by decide) dX4_begins_30 ?_
    refine j_icmp_eq 45 G (by unfold iR at *; omega) (by unfold iR; omega) dX4_begins_32 (by decide) (fun c_32 => ?_) (fun c_32 => ?_)
    · skip
      refine j_iconst G dX4_begins_45 ?_
      refine j_goto 50 G dX4_begins_46 (by decide) ?_
      refine j_iconst G dX4_begins_50 ?_
      refine j_callV (wr := []) (k' := 0) (n' := 0) G FX4 (c_X4_go l u r0 aw av rd it ap pt (-1) 0 0 x0 1 1 (by (try unfold iR at *); omega)) (jAt_1 0 rfl) ⟨rfl, hY_X4_go⟩ q661 q663 qs6 q108 q664 (jcut 1 [0] (by decide) rfl rfl) ⟨by omega, by omega, by omega, by omega, by omega, by omega⟩ (Nat.le_of_ble_eq_true rfl) dX4_begins_51 rfl (fun v_ w_ hp => ?_)
      rcases hp with ⟨h51_1, rfl, rfl⟩ | ⟨h51_1, rfl, rfl⟩
      · skip
        exact absurd h51_1 (by decide)
      · skip
        show jJ X u 2 [[(r0, jO 3 [.ref aw, .ref av, iI rd, iI it, iI ap, iI 1, iI (-1), iI 0, iI 0, .ref x0])]] [(0, .ref r0), (1, iI c)] 0 0 54 [iI 1]
        exact j_zret G E (by (try unfold iR at *); omega) (Or.inr (Or.inl ⟨(by omega), (by first | rfl | (exfalso; omega)), (by first | rfl | (exfalso; omega))⟩)) ⟨by omega, by omega⟩ dX4_begins_54
    · skip
      refine j_aload_n G 0 rfl dX4_begins_35 ?_
      refine j_get G FX4 (jAt_1 0 rfl) 6 (by decide) q590 rfl dX4_begins_36 ?_
      refine j_callSN (wr := [[(r0, jO 3 [.ref aw, .ref av, iI rd, iI it, iI ap, iI pt, iI (-1), iI 0, iI 0, .ref x0])]]) (k' := 0) (n' := 0) G (c_X1_isLever l u (-1) (by unfold iR; omega)) hY_X1_isLever q655 q656 q85 q657 (jcut 1 [0] (by decide) rfl rfl) ⟨by omega, by omega, by omega, by omega, by omega, by omega⟩ (Nat.le_of_ble_eq_true rfl) dX4_begins_39 rfl (fun v_ w_ hp => ?_)
      obtain ⟨r_39, h39_1, rfl, rfl⟩ := hp
      show jJ X u 2 [[(r0, jO 3 [.ref aw, .ref av, iI rd, iI it, iI ap, iI pt, iI (-1), iI 0, iI 0, .ref x0])]] [(0, .ref r0), (1, iI c)] 0 0 42 [iI r_39, .ref r0]
      refine j_if_eq 49 G (by unfold iR at *; omega) dX4_begins_42 (by decide) (fun c_42 => ?_) (fun c_42 => ?_)
      · skip
        refine j_iconst G dX4_begins_49 ?_
        refine j_iconst G dX4_begins_50 ?_
        refine j_callV (wr := []) (k' := 0) (n' := 0) G FX4 (c_X4_go l u r0 aw av rd it ap pt (-1) 0 0 x0 0 1 (by (try unfold iR at *); omega)) (jAt_1 0 rfl) ⟨rfl, hY_X4_go⟩ q661 q663 qs6 q108 q664 (jcut 1 [0] (by decide) rfl rfl) ⟨by omega, by omega, by omega, by omega, by omega, by omega⟩ (Nat.le_of_ble_eq_true rfl) dX4_begins_51 rfl (fun v_ w_ hp => ?_)
        rcases hp with ⟨h51_1, rfl, rfl⟩ | ⟨h51_1, rfl, rfl⟩
        · skip
          show jJ X u 2 [[(r0, jO 3 [.ref aw, .ref av, iI rd, iI it, iI ap, iI pt, iI (-1), iI 0, iI 0, .ref x0])]] [(0, .ref r0), (1, iI c)] 0 0 54 [iI 0]
          exact j_zret G E (by (try unfold iR at *); omega) (Or.inr (Or.inr ⟨(-1), (by omega), (by omega), (by first | rfl | (exfalso; omega)), (by first | rfl | (exfalso; omega))⟩)) ⟨by omega, by omega⟩ dX4_begins_54
        · skip
          exact absurd h51_1 (by decide)
      · skip
        refine j_iconst G dX4_begins_45 ?_
        refine j_goto 50 G dX4_begins_46 (by decide) ?_
        refine j_iconst G dX4_begins_50 ?_
        refine j_callV (wr := []) (k' := 0) (n' := 0) G FX4 (c_X4_go l u r0 aw av rd it ap pt (-1) 0 0 x0 1 1 (by (try unfold iR at *); omega)) (jAt_1 0 rfl) ⟨rfl, hY_X4_go⟩ q661 q663 qs6 q108 q664 (jcut 1 [0] (by decide) rfl rfl) ⟨by omega, by omega, by omega, by omega, by omega, by omega⟩ (Nat.le_of_ble_eq_true rfl) dX4_begins_51 rfl (fun v_ w_ hp => ?_)
        rcases hp with ⟨h51_1, rfl, rfl⟩ | ⟨h51_1, rfl, rfl⟩
        · skip
          exact absurd h51_1 (by decide)
        · skip
          show jJ X u 2 [[(r0, jO 3 [.ref aw, .ref av, iI rd, iI it, iI ap, iI 1, iI (-1), iI 0, iI 0, .ref x0])]] [(0, .ref r0), (1, iI c)] 0 0 54 [iI 1]
          exact j_zret G E (by (try unfold iR at *); omega) (Or.inr (Or.inl ⟨(by omega), (by first | rfl | (exfalso; omega)), (by first | rfl | (exfalso; omega))⟩)) ⟨by omega, by omega⟩ dX4_begins_54
theorem hY_X4_takesBack : jY yX4_takesBack 1 := ⟨by decide +kernel, by decide +kernel, by decide +kernel⟩
set_option maxHeartbeats 4000000 in
set_option maxRecDepth 100000 in
theorem c_X4_takesBack (l : Launch) (u : jU) (r0 aw av : Nat) (rd it ap pt lvr pa nb : Int) (x0 : Nat) (c : Int) (hc : 33 ≤ c ∧ c ≤ 126) : jC l u yX4_takesBack cX4_takesBack 2 (some .boolean) 1 22 0 0 [.ref r0, iI c] [[(r0, jO 3 [.ref aw, .ref av, iI rd, iI it, iI ap, iI pt, iI lvr, iI pa, iI nb, .ref x0])]] (fun v_ w_ => ((48 ≤ c ∧ c ≤ 57) ∧ v_ = some (iI 1) ∧ w_ = [[(r0, jO 3 [.ref aw, .ref av, iI rd, iI it, iI ap, iI 3, iI lvr, iI pa, iI (100 * (c - 48)), .ref x0])]]) ∨ ((¬ (48 ≤ c ∧ c ≤ 57)) ∧ v_ = some (iI 0) ∧ w_ = [[(r0, jO 3 [.ref aw, .ref av, iI rd, iI it, iI ap, iI pt, iI lvr, iI pa, iI (100 * (c - 48)), .ref x0])]])) := by
  refine jC.of "FlashRatchet$Reader" (by decide +kernel) rfl (Nat.le_of_ble_eq_true rfl) [(0, .ref r0), (1, iI c)] rfl (fun X G E I => ?_)
  refine j_aload_n G 0 rfl dX4_takesBack_0 ?_
  refine j_bipush G (by decide) dX4_takesBack_1 ?_
  refine j_iload_n G 1 rfl dX4_takesBack_3 ?_
  refine j_bipush G (by decide) dX4_takesBack_4 ?_
  refine j_isub G dX4_takesBack_6 ?_
  refine j_imul G dX4_takesBack_7 ?_
  refine j_put (ws' := [[(r0, jO 3 [.ref aw, .ref av, iI rd, iI it, iI ap, iI pt, iI lvr, iI pa, iI (100 * (c - 48)), .ref x0])]]) G FX4 (jAt_1 0 rfl) 8 (by decide) q592 rfl rfl rfl (Nat.le_of_ble_eq_true rfl) dX4_takesBack_8 rfl ?_
  refine j_aload_n G 0 rfl dX4_takesBack_11 ?_
  refine j_iload_n G 1 rfl dX4_takesBack_12 ?_
  refine j_bipush G (by decide) dX4_takesBack_13 ?_
  refine j_bipush G (by decide) dX4_takesBack_15 ?_
  refine j_callSN (wr := [[(r0, jO 3 [.ref aw, .ref av, iI rd, iI it, iI ap, iI pt, iI lvr, iI pa, iI (100 * (c - 48)), .ref x0])]]) (k' := 0) (n' := 0) G (c_X1_inRange l u c 48 57 (by unfold iR at *; omega) (by unfold iR; omega) (by unfold iR; omega)) hY_X1_inRange q669 q659 q85 q660 (jcut 1 [0] (by decide) rfl rfl) ⟨by omega, by omega, by omega, by omega, by omega, by omega⟩ (Nat.le_of_ble_eq_true rfl) dX4_takesBack_17 rfl (fun v_ w_ hp => ?_)
  obtain ⟨r_17, h17_1, rfl, rfl⟩ := hp
  show jJ X u 2 [[(r0, jO 3 [.ref aw, .ref av, iI rd, iI it, iI ap, iI pt, iI lvr, iI pa, iI (100 * (c - 48)), .ref x0])]] [(0, .ref r0), (1, iI c)] 0 0 20 [iI r_17, .ref r0]
  refine j_iconst G dX4_takesBack_20 ?_
  refine j_callV (wr := []) (k' := 0) (n' := 0) G FX4 (c_X4_go l u r0 aw av rd it ap pt lvr pa (100 * (c - 48)) x0 r_17 3 (by (try unfold iR at *); omega)) (jAt_1 0 rfl) ⟨rfl, hY_X4_go⟩ q661 q663 qs6 q108 q664 (jcut 1 [0] (by decide) rfl rfl) ⟨by omega, by omega, by omega, by omega, by omega, by omega⟩ (Nat.le_of_ble_eq_true rfl) dX4_takesBack_21 rfl (fun v_ w_ hp => ?_)
  rcases hp with ⟨h21_1, rfl, rfl⟩ | ⟨h21_1, rfl, rfl⟩
  · skip
    show jJ X u 2 [[(r0, jO 3 [.ref aw, .ref av, iI rd, iI it, iI ap, iI pt, iI lvr, iI pa, iI (100 * (c - 48)), .ref x0])]] [(0, .ref r0), (1, iI c)] 0 0 24 [iI r_17]
    exact j_zret G E (by (try unfold iR at *); omega) (Or.inr ⟨(by omega), (by first | rw [show r_17 = 1 by omega] | rw [show r_17 = 0 by omega]), rfl⟩) ⟨by omega, by omega⟩ dX4_takesBack_24
  · skip
    show jJ X u 2 [[(r0, jO 3 [.ref aw, .ref av, iI rd, iI it, iI ap, iI 3, iI lvr, iI pa, iI (100 * (c - 48)), .ref x0])]] [(0, .ref r0), (1, iI c)] 0 0 24 [iI r_17]
    exact j_zret G E (by (try unfold iR at *); omega) (Or.inl ⟨(by omega), (by first | rw [show r_17 = 1 by omega] | rw [show r_17 = 0 by omega]), rfl⟩) ⟨by omega, by omega⟩ dX4_takesBack_24
theorem hY_X4_takesForward : jY yX4_takesForward 1 := ⟨by decide +kernel, by decide +kernel, by decide +kernel⟩
set_option maxHeartbeats 4000000 in
set_option maxRecDepth 100000 in
theorem c_X4_takesForward (l : Launch) (u : jU) (r0 aw av : Nat) (rd it ap pt lvr pa nb : Int) (x0 : Nat) (wh : Int → Int) (va : Int → Int) (c : Int) (hc : 33 ≤ c ∧ c ≤ 126) (hrd : 0 ≤ rd ∧ rd < 60) (hnb : 0 ≤ nb ∧ nb ≤ 900) (hlv : 0 ≤ lvr ∧ lvr ≤ 3) (hpa : 0 ≤ pa ∧ pa ≤ 4) : jC l u yX4_takesForward cX4_takesForward 3 (some .boolean) 1 22 0 0 [.ref r0, iI c] [[(r0, jO 3 [.ref aw, .ref av, iI rd, iI it, iI ap, iI pt, iI lvr, iI pa, iI nb, .ref x0])], [(aw, cI u 60 wh)], [(av, cI u 60 va)]] (fun v_ w_ => (((48 ≤ c ∧ c ≤ 57) ∧ c - 48 ≤ 10 - nb / 100) ∧ v_ = some (iI 1) ∧ w_ = [[(r0, jO 3 [.ref aw, .ref av, iI (rd + 1), iI it, iI ap, iI 4, iI lvr, iI (pa + 1), iI nb, .ref x0])], [(aw, cI u 60 (uZ wh rd (4 * lvr + pa)))], [(av, cI u 60 (uZ va rd (nb + c - 48)))]]) ∨ ((¬ ((48 ≤ c ∧ c ≤ 57) ∧ c - 48 ≤ 10 - nb / 100)) ∧ v_ = some (iI 0) ∧ w_ = [[(r0, jO 3 [.ref aw, .ref av, iI rd, iI it, iI ap, iI pt, iI lvr, iI pa, iI nb, .ref x0])], [(aw, cI u 60 wh)], [(av, cI u 60 va)]])) := by
  refine jC.of "FlashRatchet$Reader" (by decide +kernel) rfl (Nat.le_of_ble_eq_true rfl) [(0, .ref r0), (1, iI c)] rfl (fun X G E I => ?_)
  refine j_iload_n G 1 rfl dX4_takesForward_0 ?_
  refine j_bipush G (by decide) dX4_takesForward_1 ?_
  refine j_bipush G (by decide) dX4_takesForward_3 ?_
  refine j_callSN (wr := [[(r0, jO 3 [.ref aw, .ref av, iI rd, iI it, iI ap, iI pt, iI lvr, iI pa, iI nb, .ref x0])], [(aw, cI u 60 wh)], [(av, cI u 60 va)]]) (k' := 0) (n' := 0) G (c_X1_inRange l u c 48 57 (by unfold iR at *; omega) (by unfold iR; omega) (by unfold iR; omega)) hY_X1_inRange q669 q659 q85 q660 (jcut 3 [0, 1, 2] (by decide) rfl rfl) ⟨by omega, by omega, by omega, by omega, by omega, by omega⟩ (Nat.le_of_ble_eq_true rfl) dX4_takesForward_5 rfl (fun v_ w_ hp => ?_)
  obtain ⟨r_5, h5_1, rfl, rfl⟩ := hp
  show jJ X u 3 [[(r0, jO 3 [.ref aw, .ref av, iI rd, iI it, iI ap, iI pt, iI lvr, iI pa, iI nb, .ref x0])], [(aw, cI u 60 wh)], [(av, cI u 60 va)]] [(0, .ref r0), (1, iI c)] 0 0 8 [iI r_5]
  refine j_if_eq 32 G (by unfold iR at *; omega) dX4_takesForward_8 (by decide) (fun c_8 => ?_) (fun c_8 => ?_)
  · skip
    refine j_iconst G dX4_takesForward_32 ?_
    refine j_istore_n G [(2, iI 0), (0, .ref r0), (1, iI c)] rfl (by decide) dX4_takesForward_33 ?_
    refine j_iload_n G 0 rfl dX4_takesForward_34 ?_
    refine j_if_eq 72 G (by unfold iR; omega) dX4_takesForward_35 (by decide) (fun c_35 => ?_) (fun c_35 => ?_)
    · skip
      refine j_aload_n G 1 rfl dX4_takesForward_72 ?_
      refine j_iload_n G 0 rfl dX4_takesForward_73 ?_
      refine j_iconst G dX4_takesForward_74 ?_
      refine j_callV (wr := [[(aw, cI u 60 wh)], [(av, cI u 60 va)]]) (k' := 0) (n' := 0) G FX4 (c_X4_go l u r0 aw av rd it ap pt lvr pa nb x0 0 4 (by (try unfold iR at *); omega)) (jAt_1 0 rfl) ⟨rfl, hY_X4_go⟩ q661 q663 qs6 q108 q664 (jcut 3 [0, 1, 2] (by decide) rfl rfl) ⟨by omega, by omega, by omega, by omega, by omega, by omega⟩ (Nat.le_of_ble_eq_true rfl) dX4_takesForward_75 rfl (fun v_ w_ hp => ?_)
      rcases hp with ⟨h75_1, rfl, rfl⟩ | ⟨h75_1, rfl, rfl⟩
      · skip
        show jJ X u 3 [[(r0, jO 3 [.ref aw, .ref av, iI rd, iI it, iI ap, iI pt, iI lvr, iI pa, iI nb, .ref x0])], [(aw, cI u 60 wh)], [(av, cI u 60 va)]] [(2, iI 0), (0, .ref r0), (1, iI c)] 0 0 78 [iI 0]
        exact j_zret G E (by (try unfold iR at *); omega) (Or.inr ⟨(by omega), rfl, rfl⟩) ⟨by omega, by omega⟩ dX4_takesForward_78
      · skip
        exact absurd h75_1 (by decide)
    · exact absurd c_35 (by decide)
  · skip
    refine j_iload_n G 1 rfl dX4_takesForward_11 ?_
    refine j_bipush G (by decide) dX4_takesForward_12 ?_
    refine j_isub G dX4_takesForward_14 ?_
    refine j_bipush G (by decide) dX4_takesForward_15 ?_
    refine j_aload_n G 0 rfl dX4_takesForward_17 ?_
    refine j_get G FX4 (jAt_1 0 rfl) 8 (by decide) q592 rfl dX4_takesForward_18 ?_
    refine j_bipush G (by decide) dX4_takesForward_21 ?_
    refine j_idivN G (by (try unfold iR at *); omega) (by (try unfold iR at *); omega) dX4_takesForward_23 ?_
    refine j_isub G dX4_takesForward_24 ?_
    refine j_icmp_gt 32 G (by unfold iR at *; omega) (by unfold iR at *; omega) dX4_takesForward_25 (by decide) (fun c_25 => ?_) (fun c_25 => ?_)
    · skip
      refine j_iconst G dX4_takesForward_32 ?_
      refine j_istore_n G [(2, iI 0), (0, .ref r0), (1, iI c)] rfl (by decide) dX4_takesForward_33 ?_
      refine j_iload_n G 0 rfl dX4_takesForward_34 ?_
      refine j_if_eq 72 G (by unfold iR; omega) dX4_takesForward_35 (by decide) (fun c_35 => ?_) (fun c_35 => ?_)
      · skip
        refine j_aload_n G 1 rfl dX4_takesForward_72 ?_
        refine j_iload_n G 0 rfl dX4_takesForward_73 ?_
        refine j_iconst G dX4_takesForward_74 ?_
        refine j_callV (wr := [[(aw, cI u 60 wh)], [(av, cI u 60 va)]]) (k' := 0) (n' := 0) G FX4 (c_X4_go l u r0 aw av rd it ap pt lvr pa nb x0 0 4 (by (try unfold iR at *); omega)) (jAt_1 0 rfl) ⟨rfl, hY_X4_go⟩ q661 q663 qs6 q108 q664 (jcut 3 [0, 1, 2] (by decide) rfl rfl) ⟨by omega, by omega, by omega, by omega, by omega, by omega⟩ (Nat.le_of_ble_eq_true rfl) dX4_takesForward_75 rfl (fun v_ w_ hp => ?_)
        rcases hp with ⟨h75_1, rfl, rfl⟩ | ⟨h75_1, rfl, rfl⟩
        · skip
          show jJ X u 3 [[(r0, jO 3 [.ref aw, .ref av, iI rd, iI it, iI ap, iI pt, iI lvr, iI pa, iI nb, .ref x0])], [(aw, cI u 60 wh)], [(av, cI u 60 va)]] [(2, iI 0), (0, .ref r0), (1, iI c)] 0 0 78 [iI 0]
          exact j_zret G E (by (try unfold iR at *); omega) (Or.inr ⟨(by omega), rfl, rfl⟩) ⟨by omega, by omega⟩ dX4_takesForward_78
        · skip
          exact absurd h75_1 (by decide)
      · exact absurd c_35 (by decide)
    · skip
      refine j_iconst G dX4_takesForward_28 ?_
      refine j_goto 33 G dX4_takesForward_29 (by decide) ?_
      refine j_istore_n G [(2, iI 1), (0, .ref r0), (1, iI c)] rfl (by decide) dX4_takesForward_33 ?_
      refine j_iload_n G 0 rfl dX4_takesForward_34 ?_
      refine j_if_eq 72 G (by unfold iR; omega) dX4_takesForward_35 (by decide) (fun c_35 => ?_) (fun c_35 => ?_)
      · exact absurd c_35 (by decide)
      · skip
        refine j_aload_n G 1 rfl dX4_takesForward_38 ?_
        refine j_iconst G dX4_takesForward_39 ?_
        refine j_aload_n G 1 rfl dX4_takesForward_40 ?_
        refine j_get G FX4 (jAt_1 0 rfl) 6 (by decide) q590 rfl dX4_takesForward_41 ?_
        refine j_imul G dX4_takesForward_44 ?_
        refine j_aload_n G 1 rfl dX4_takesForward_45 ?_
        refine j_get G FX4 (jAt_1 0 rfl) 7 (by decide) q591 rfl dX4_takesForward_46 ?_
        refine j_iadd G dX4_takesForward_49 ?_
        refine j_aload_n G 1 rfl dX4_takesForward_50 ?_
        refine j_get G FX4 (jAt_1 0 rfl) 8 (by decide) q592 rfl dX4_takesForward_51 ?_
        refine j_iload_n G 2 rfl dX4_takesForward_54 ?_
        refine j_iadd G dX4_takesForward_55 ?_
        refine j_bipush G (by decide) dX4_takesForward_56 ?_
        refine j_isub G dX4_takesForward_58 ?_
        refine j_callV (wr := []) (k' := 0) (n' := 0) G FX4 (c_X4_put l u r0 aw av rd it ap pt lvr pa nb x0 wh va ((4 * lvr) + pa) ((nb + c) - 48) hrd) (jAt_1 0 rfl) ⟨rfl, hY_X4_put⟩ q647 q649 qs4 q108 q650 (jcut 3 [0, 1, 2] (by decide) rfl rfl) ⟨by omega, by omega, by omega, by omega, by omega, by omega⟩ (Nat.le_of_ble_eq_true rfl) dX4_takesForward_59 rfl (fun v_ w_ hp => ?_)
        obtain ⟨rfl, rfl⟩ := hp
        show jJ X u 3 [[(r0, jO 3 [.ref aw, .ref av, iI (rd + 1), iI it, iI ap, iI pt, iI lvr, iI pa, iI nb, .ref x0])], [(aw, cI u 60 (uZ wh rd ((4 * lvr) + pa)))], [(av, cI u 60 (uZ va rd ((nb + c) - 48)))]] [(2, iI 1), (0, .ref r0), (1, iI c)] 0 0 62 []
        refine j_aload_n G 1 rfl dX4_takesForward_62 ?_
        refine j_dup G rfl dX4_takesForward_63 ?_
        refine j_get G FX4 (jAt_1 0 rfl) 7 (by decide) q591 rfl dX4_takesForward_64 ?_
        refine j_iconst G dX4_takesForward_67 ?_
        refine j_iadd G dX4_takesForward_68 ?_
        refine j_put (ws' := [[(r0, jO 3 [.ref aw, .ref av, iI (rd + 1), iI it, iI ap, iI pt, iI lvr, iI (pa + 1), iI nb, .ref x0])], [(aw, cI u 60 (uZ wh rd ((4 * lvr) + pa)))], [(av, cI u 60 (uZ va rd ((nb + c) - 48)))]]) G FX4 (jAt_1 0 rfl) 7 (by decide) q591 rfl rfl rfl (Nat.le_of_ble_eq_true rfl) dX4_takesForward_69 rfl ?_
        refine j_aload_n G 1 rfl dX4_takesForward_72 ?_
        refine j_iload_n G 0 rfl dX4_takesForward_73 ?_
        refine j_iconst G dX4_takesForward_74 ?_
        refine j_callV (wr := [[(aw, cI u 60 (uZ wh rd ((4 * lvr) + pa)))], [(av, cI u 60 (uZ va rd ((nb + c) - 48)))]]) (k' := 0) (n' := 0) G FX4 (c_X4_go l u r0 aw av (rd + 1) it ap pt lvr (pa + 1) nb x0 1 4 (by (try unfold iR at *); omega)) (jAt_1 0 rfl) ⟨rfl, hY_X4_go⟩ q661 q663 qs6 q108 q664 (jcut 3 [0, 1, 2] (by decide) rfl rfl) ⟨by omega, by omega, by omega, by omega, by omega, by omega⟩ (Nat.le_of_ble_eq_true rfl) dX4_takesForward_75 rfl (fun v_ w_ hp => ?_)
        rcases hp with ⟨h75_1, rfl, rfl⟩ | ⟨h75_1, rfl, rfl⟩
        · skip
          exact absurd h75_1 (by decide)
        · skip
          show jJ X u 3 [[(r0, jO 3 [.ref aw, .ref av, iI (rd + 1), iI it, iI ap, iI 4, iI lvr, iI (pa + 1), iI nb, .ref x0])], [(aw, cI u 60 (uZ wh rd ((4 * lvr) + pa)))], [(av, cI u 60 (uZ va rd ((nb + c) - 48)))]] [(2, iI 1), (0, .ref r0), (1, iI c)] 0 0 78 [iI 1]
          exact j_zret G E (by (try unfold iR at *); omega) (Or.inl ⟨(by omega), rfl, rfl⟩) ⟨by omega, by omega⟩ dX4_takesForward_78
theorem hY_X4_takesLetter : jY yX4_takesLetter 1 := ⟨by decide +kernel, by decide +kernel, by decide +kernel⟩
set_option maxHeartbeats 4000000 in
set_option maxRecDepth 100000 in
theorem c_X4_takesLetter (l : Launch) (u : jU) (r0 aw av : Nat) (rd it ap pt lvr pa nb : Int) (x0 : Nat) (c : Int) (hc : 33 ≤ c ∧ c ≤ 126) (hnb : 0 ≤ nb ∧ nb ≤ 255) (hn4 : sLen nb < 4 ↔ nb < 64) : jC l u yX4_takesLetter cX4_takesLetter 3 (some .boolean) 2 42 0 0 [.ref r0, iI c] [[(r0, jO 3 [.ref aw, .ref av, iI rd, iI it, iI ap, iI pt, iI lvr, iI pa, iI nb, .ref x0])]] (fun v_ w_ => (((65 ≤ c ∧ c ≤ 67) ∧ nb < 64) ∧ v_ = some (iI 1) ∧ w_ = [[(r0, jO 3 [.ref aw, .ref av, iI rd, iI it, iI ap, iI pt, iI lvr, iI pa, iI (4 * nb + c - 65 + 1), .ref x0])]]) ∨ ((¬ ((65 ≤ c ∧ c ≤ 67) ∧ nb < 64)) ∧ v_ = some (iI 0) ∧ w_ = [[(r0, jO 3 [.ref aw, .ref av, iI rd, iI it, iI ap, iI pt, iI lvr, iI pa, iI nb, .ref x0])]])) := by
  refine jC.of "FlashRatchet$Reader" (by decide +kernel) rfl (Nat.le_of_ble_eq_true rfl) [(0, .ref r0), (1, iI c)] rfl (fun X G E I => ?_)
  refine j_iload_n G 1 rfl dX4_takesLetter_0 ?_
  refine j_bipush G (by decide) dX4_takesLetter_1 ?_
  refine j_isub G dX4_takesLetter_3 ?_
  refine j_callSN (wr := [[(r0, jO 3 [.ref aw, .ref av, iI rd, iI it, iI ap, iI pt, iI lvr, iI pa, iI nb, .ref x0])]]) (k' := 0) (n' := 0) G (c_X1_isLever l u (c - 65) (by unfold iR at *; omega)) hY_X1_isLever q655 q656 q85 q657 (jcut 1 [0] (by decide) rfl rfl) ⟨by omega, by omega, by omega, by omega, by omega, by omega⟩ (Nat.le_of_ble_eq_true rfl) dX4_takesLetter_4 rfl (fun v_ w_ hp => ?_)
  obtain ⟨r_4, h4_1, rfl, rfl⟩ := hp
  show jJ X u 3 [[(r0, jO 3 [.ref aw, .ref av, iI rd, iI it, iI ap, iI pt, iI lvr, iI pa, iI nb, .ref x0])]] [(0, .ref r0), (1, iI c)] 0 0 7 [iI r_4]
  refine j_if_eq 25 G (by unfold iR at *; omega) dX4_takesLetter_7 (by decide) (fun c_7 => ?_) (fun c_7 => ?_)
  · skip
    refine j_iconst G dX4_takesLetter_25 ?_
    refine j_istore_n G [(2, iI 0), (0, .ref r0), (1, iI c)] rfl (by decide) dX4_takesLetter_26 ?_
    refine j_aload_n G 1 rfl dX4_takesLetter_27 ?_
    refine j_iload_n G 0 rfl dX4_takesLetter_28 ?_
    refine j_if_eq 48 G (by unfold iR; omega) dX4_takesLetter_29 (by decide) (fun c_29 => ?_) (fun c_29 => ?_)
    · skip
      refine j_aload_n G 1 rfl dX4_takesLetter_48 ?_
      refine j_get G FX4 (jAt_1 0 rfl) 8 (by decide) q592 rfl dX4_takesLetter_49 ?_
      refine j_put (ws' := [[(r0, jO 3 [.ref aw, .ref av, iI rd, iI it, iI ap, iI pt, iI lvr, iI pa, iI nb, .ref x0])]]) G FX4 (jAt_1 0 rfl) 8 (by decide) q592 rfl rfl rfl (Nat.le_of_ble_eq_true rfl) dX4_takesLetter_52 rfl ?_
      refine j_iload_n G 0 rfl dX4_takesLetter_55 ?_
      exact j_zret G E (by (try unfold iR at *); omega) (Or.inr ⟨(by omega), rfl, rfl⟩) ⟨by omega, by omega⟩ dX4_takesLetter_56
    · exact absurd c_29 (by decide)
  · skip
    refine j_aload_n G 0 rfl dX4_takesLetter_10 ?_
    refine j_get G FX4 (jAt_1 0 rfl) 8 (by decide) q592 rfl dX4_takesLetter_11 ?_
    refine j_callSN (wr := [[(r0, jO 3 [.ref aw, .ref av, iI rd, iI it, iI ap, iI pt, iI lvr, iI pa, iI nb, .ref x0])]]) (k' := 0) (n' := 0) G (c_X1_length l u nb (by unfold iR; omega)) hY_X1_length q678 q679 q85 q680 (jcut 1 [0] (by decide) rfl rfl) ⟨by omega, by omega, by omega, by omega, by omega, by omega⟩ (Nat.le_of_ble_eq_true rfl) dX4_takesLetter_14 rfl (fun v_ w_ hp => ?_)
    obtain ⟨r_14, h14_1, h14_2, rfl, rfl⟩ := hp
    subst h14_1
    show jJ X u 3 [[(r0, jO 3 [.ref aw, .ref av, iI rd, iI it, iI ap, iI pt, iI lvr, iI pa, iI nb, .ref x0])]] [(0, .ref r0), (1, iI c)] 0 0 17 [iI (sLen nb)]
    refine j_iconst G dX4_takesLetter_17 ?_
    refine j_icmp_ge 25 G (by unfold iR at *; omega) (by unfold iR; omega) dX4_takesLetter_18 (by decide) (fun c_18 => ?_) (fun c_18 => ?_)
    · skip
      refine j_iconst G dX4_takesLetter_25 ?_
      refine j_istore_n G [(2, iI 0), (0, .ref r0), (1, iI c)] rfl (by decide) dX4_takesLetter_26 ?_
      refine j_aload_n G 1 rfl dX4_takesLetter_27 ?_
      refine j_iload_n G 0 rfl dX4_takesLetter_28 ?_
      refine j_if_eq 48 G (by unfold iR; omega) dX4_takesLetter_29 (by decide) (fun c_29 => ?_) (fun c_29 => ?_)
      · skip
        refine j_aload_n G 1 rfl dX4_takesLetter_48 ?_
        refine j_get G FX4 (jAt_1 0 rfl) 8 (by decide) q592 rfl dX4_takesLetter_49 ?_
        refine j_put (ws' := [[(r0, jO 3 [.ref aw, .ref av, iI rd, iI it, iI ap, iI pt, iI lvr, iI pa, iI nb, .ref x0])]]) G FX4 (jAt_1 0 rfl) 8 (by decide) q592 rfl rfl rfl (Nat.le_of_ble_eq_true rfl) dX4_takesLetter_52 rfl ?_
        refine j_iload_n G 0 rfl dX4_takesLetter_55 ?_
        exact j_zret G E (by (try unfold iR at *); omega) (Or.inr ⟨(by omega), rfl, rfl⟩) ⟨by omega, by omega⟩ dX4_takesLetter_56
      · exact absurd c_29 (by decide)
    · skip
      refine j_iconst G dX4_takesLetter_21 ?_
      refine j_goto 26 G dX4_takesLetter_22 (by decide) ?_
      refine j_istore_n G [(2, iI 1), (0, .ref r0), (1, iI c)] rfl (by decide) dX4_takesLetter_26 ?_
      refine j_aload_n G 1 rfl dX4_takesLetter_27 ?_
      refine j_iload_n G 0 rfl dX4_takesLetter_28 ?_
      refine j_if_eq 48 G (by unfold iR; omega) dX4_takesLetter_29 (by decide) (fun c_29 => ?_) (fun c_29 => ?_)
      · exact absurd c_29 (by decide)
      · skip
        refine j_iconst G dX4_takesLetter_32 ?_
        refine j_aload_n G 1 rfl dX4_takesLetter_33 ?_
        refine j_get G FX4 (jAt_1 0 rfl) 8 (by decide) q592 rfl dX4_takesLetter_34 ?_
        refine j_imul G dX4_takesLetter_37 ?_
        refine j_iload_n G 2 rfl dX4_takesLetter_38 ?_
        refine j_iadd G dX4_takesLetter_39 ?_
        refine j_bipush G (by decide) dX4_takesLetter_40 ?_
        refine j_isub G dX4_takesLetter_42 ?_
        refine j_iconst G dX4_takesLetter_43 ?_
        refine j_iadd G dX4_takesLetter_44 ?_
        refine j_goto 52 G dX4_takesLetter_45 (by decide) ?_
        refine j_put (ws' := [[(r0, jO 3 [.ref aw, .ref av, iI rd, iI it, iI ap, iI pt, iI lvr, iI pa, iI ((((4 * nb) + c) - 65) + 1), .ref x0])]]) G FX4 (jAt_1 0 rfl) 8 (by decide) q592 rfl rfl rfl (Nat.le_of_ble_eq_true rfl) dX4_takesLetter_52 rfl ?_
        refine j_iload_n G 0 rfl dX4_takesLetter_55 ?_
        exact j_zret G E (by (try unfold iR at *); omega) (Or.inl ⟨(by omega), rfl, rfl⟩) ⟨by omega, by omega⟩ dX4_takesLetter_56
theorem hY_X4_isOver : jY yX4_isOver 0 := ⟨by decide +kernel, by decide +kernel, by decide +kernel⟩
set_option maxHeartbeats 4000000 in
set_option maxRecDepth 100000 in
theorem c_X4_isOver (l : Launch) (u : jU) (r0 aw av : Nat) (rd it ap pt lvr pa nb : Int) (x0 nu sb : Nat) (n gr pw pr ix po sd gn tk hs : Int) (hn : 2 ≤ n ∧ n ≤ 4) (hpt : 0 ≤ pt ∧ pt ≤ 6) (hpa : pt = 4 → iR pa) (hnb : pt = 5 → iR nb) : jC l u yX4_isOver cX4_isOver 1 (some .boolean) 0 0 0 0 [.ref r0] [[(r0, jO 3 [.ref aw, .ref av, iI rd, iI it, iI ap, iI pt, iI lvr, iI pa, iI nb, .ref x0])], [(x0, jO 0 [iI n, .ref nu, iI gr, iI pw, iI pr, iI ix, iI po, iI sd, iI gn, iI tk, .ref sb, lI hs])]] (fun v_ w_ => ∃ (r : Int), ((r = 1 ∧ (pt = 4 ∧ pa = n ∨ pt = 5 ∧ 0 < nb)) ∨ (r = 0 ∧ ¬ (pt = 4 ∧ pa = n ∨ pt = 5 ∧ 0 < nb))) ∧ v_ = some (iI r) ∧ w_ = [[(r0, jO 3 [.ref aw, .ref av, iI rd, iI it, iI ap, iI pt, iI lvr, iI pa, iI nb, .ref x0])], [(x0, jO 0 [iI n, .ref nu, iI gr, iI pw, iI pr, iI ix, iI po, iI sd, iI gn, iI tk, .ref sb, lI hs])]]) := by
  refine jC.of "FlashRatchet$Reader" (by decide +kernel) rfl (Nat.le_of_ble_eq_true rfl) [(0, .ref r0)] rfl (fun X G E I => ?_)
  refine j_aload_n G 0 rfl dX4_isOver_0 ?_
  refine j_get G FX4 (jAt_1 0 rfl) 5 (by decide) q589 rfl dX4_isOver_1 ?_
  refine j_iconst G dX4_isOver_4 ?_
  refine j_icmp_ne 22 G (by unfold iR at *; omega) (by unfold iR; omega) dX4_isOver_5 (by decide) (fun c_5 => ?_) (fun c_5 => ?_)
  · skip
    refine j_aload_n G 0 rfl dX4_isOver_22 ?_
    refine j_get G FX4 (jAt_1 0 rfl) 5 (by decide) q589 rfl dX4_isOver_23 ?_
    refine j_iconst G dX4_isOver_26 ?_
    refine j_icmp_ne 41 G (by unfold iR at *; omega) (by unfold iR; omega) dX4_isOver_27 (by decide) (fun c_27 => ?_) (fun c_27 => ?_)
    · skip
      refine j_iconst G dX4_isOver_41 ?_
      exact j_zret G E (by (try unfold iR at *); omega) ⟨0, (by omega), rfl, rfl⟩ ⟨by omega, by omega⟩ dX4_isOver_42
    · skip
      refine j_aload_n G 0 rfl dX4_isOver_30 ?_
      refine j_get G FX4 (jAt_1 0 rfl) 8 (by decide) q592 rfl dX4_isOver_31 ?_
      refine j_if_le 41 G (hnb (by omega)) dX4_isOver_34 (by decide) (fun c_34 => ?_) (fun c_34 => ?_)
      · skip
        refine j_iconst G dX4_isOver_41 ?_
        exact j_zret G E (by (try unfold iR at *); omega) ⟨0, (by omega), rfl, rfl⟩ ⟨by omega, by omega⟩ dX4_isOver_42
      · skip
        refine j_iconst G dX4_isOver_37 ?_
        refine j_goto 42 G dX4_isOver_38 (by decide) ?_
        exact j_zret G E (by (try unfold iR at *); omega) ⟨1, (by omega), rfl, rfl⟩ ⟨by omega, by omega⟩ dX4_isOver_42
  · skip
    refine j_aload_n G 0 rfl dX4_isOver_8 ?_
    refine j_get G FX4 (jAt_1 0 rfl) 7 (by decide) q591 rfl dX4_isOver_9 ?_
    refine j_aload_n G 0 rfl dX4_isOver_12 ?_
    refine j_get G FX4 (jAt_1 0 rfl) 9 (by decide) q593 rfl dX4_isOver_13 ?_
    refine j_getN G FX1 (jAt_1 1 rfl) 0 (by decide) q174 rfl dX4_isOver_16 ?_
    refine j_icmp_eq 37 G (hpa (by omega)) (by unfold iR at *; omega) dX4_isOver_19 (by decide) (fun c_19 => ?_) (fun c_19 => ?_)
    · skip
      refine j_iconst G dX4_isOver_37 ?_
      refine j_goto 42 G dX4_isOver_38 (by decide) ?_
      exact j_zret G E (by (try unfold iR at *); omega) ⟨1, (by omega), rfl, rfl⟩ ⟨by omega, by omega⟩ dX4_isOver_42
    · skip
      refine j_aload_n G 0 rfl dX4_isOver_22 ?_
      refine j_get G FX4 (jAt_1 0 rfl) 5 (by decide) q589 rfl dX4_isOver_23 ?_
      refine j_iconst G dX4_isOver_26 ?_
      refine j_icmp_ne 41 G (by unfold iR at *; omega) (by unfold iR; omega) dX4_isOver_27 (by decide) (fun c_27 => ?_) (fun c_27 => ?_)
      · skip
        refine j_iconst G dX4_isOver_41 ?_
        exact j_zret G E (by (try unfold iR at *); omega) ⟨0, (by omega), rfl, rfl⟩ ⟨by omega, by omega⟩ dX4_isOver_42
      · skip
        refine j_aload_n G 0 rfl dX4_isOver_30 ?_
        refine j_get G FX4 (jAt_1 0 rfl) 8 (by decide) q592 rfl dX4_isOver_31 ?_
        refine j_if_le 41 G (hnb (by omega)) dX4_isOver_34 (by decide) (fun c_34 => ?_) (fun c_34 => ?_)
        · skip
          refine j_iconst G dX4_isOver_41 ?_
          exact j_zret G E (by (try unfold iR at *); omega) ⟨0, (by omega), rfl, rfl⟩ ⟨by omega, by omega⟩ dX4_isOver_42
        · skip
          refine j_iconst G dX4_isOver_37 ?_
          refine j_goto 42 G dX4_isOver_38 (by decide) ?_
          exact j_zret G E (by (try unfold iR at *); omega) ⟨1, (by omega), rfl, rfl⟩ ⟨by omega, by omega⟩ dX4_isOver_42
theorem hY_X4_end : jY yX4_end 0 := ⟨by decide +kernel, by decide +kernel, by decide +kernel⟩
set_option maxHeartbeats 4000000 in
set_option maxRecDepth 100000 in
theorem c_X4_end (l : Launch) (u : jU) (r0 aw av : Nat) (rd it ap pt lvr pa nb : Int) (x0 : Nat) (wh : Int → Int) (va : Int → Int) (hrd : 0 ≤ rd ∧ rd < 60) (hpt : 0 ≤ pt ∧ pt ≤ 6) : jC l u yX4_end cX4_end 1 none 1 22 0 0 [.ref r0] [[(r0, jO 3 [.ref aw, .ref av, iI rd, iI it, iI ap, iI pt, iI lvr, iI pa, iI nb, .ref x0])], [(aw, cI u 60 wh)], [(av, cI u 60 va)]] (fun v_ w_ => (pt = 5 ∧ v_ = none ∧ w_ = [[(r0, jO 3 [.ref aw, .ref av, iI (rd + 1), iI (it + 1), iI ap, iI 0, iI lvr, iI pa, iI nb, .ref x0])], [(aw, cI u 60 (uZ wh rd (-1)))], [(av, cI u 60 (uZ va rd nb))]]) ∨ (¬ pt = 5 ∧ v_ = none ∧ w_ = [[(r0, jO 3 [.ref aw, .ref av, iI rd, iI (it + 1), iI ap, iI 0, iI lvr, iI pa, iI nb, .ref x0])], [(aw, cI u 60 wh)], [(av, cI u 60 va)]])) := by
  refine jC.of "FlashRatchet$Reader" (by decide +kernel) rfl (Nat.le_of_ble_eq_true rfl) [(0, .ref r0)] rfl (fun X G E I => ?_)
  refine j_aload_n G 0 rfl dX4_end_0 ?_
  refine j_get G FX4 (jAt_1 0 rfl) 5 (by decide) q589 rfl dX4_end_1 ?_
  refine j_iconst G dX4_end_4 ?_
  refine j_icmp_ne 17 G (by unfold iR at *; omega) (by unfold iR; omega) dX4_end_5 (by decide) (fun c_5 => ?_) (fun c_5 => ?_)
  · skip
    refine j_aload_n G 0 rfl dX4_end_17 ?_
    refine j_dup G rfl dX4_end_18 ?_
    refine j_get G FX4 (jAt_1 0 rfl) 3 (by decide) q585 rfl dX4_end_19 ?_
    refine j_iconst G dX4_end_22 ?_
    refine j_iadd G dX4_end_23 ?_
    refine j_put (ws' := [[(r0, jO 3 [.ref aw, .ref av, iI rd, iI (it + 1), iI ap, iI pt, iI lvr, iI pa, iI nb, .ref x0])], [(aw, cI u 60 wh)], [(av, cI u 60 va)]]) G FX4 (jAt_1 0 rfl) 3 (by decide) q585 rfl rfl rfl (Nat.le_of_ble_eq_true rfl) dX4_end_24 rfl ?_
    refine j_aload_n G 0 rfl dX4_end_27 ?_
    refine j_iconst G dX4_end_28 ?_
    refine j_put (ws' := [[(r0, jO 3 [.ref aw, .ref av, iI rd, iI (it + 1), iI ap, iI 0, iI lvr, iI pa, iI nb, .ref x0])], [(aw, cI u 60 wh)], [(av, cI u 60 va)]]) G FX4 (jAt_1 0 rfl) 5 (by decide) q589 rfl rfl rfl (Nat.le_of_ble_eq_true rfl) dX4_end_29 rfl ?_
    exact j_vret G E (Or.inr ⟨(by omega), rfl, rfl⟩) ⟨by omega, by omega⟩ dX4_end_32
  · skip
    refine j_aload_n G 0 rfl dX4_end_8 ?_
    refine j_iconst G dX4_end_9 ?_
    refine j_aload_n G 0 rfl dX4_end_10 ?_
    refine j_get G FX4 (jAt_1 0 rfl) 8 (by decide) q592 rfl dX4_end_11 ?_
    refine j_callV (wr := []) (k' := 0) (n' := 0) G FX4 (c_X4_put l u r0 aw av rd it ap pt lvr pa nb x0 wh va (-1) nb hrd) (jAt_1 0 rfl) ⟨rfl, hY_X4_put⟩ q647 q649 qs4 q108 q650 (jcut 3 [0, 1, 2] (by decide) rfl rfl) ⟨by omega, by omega, by omega, by omega, by omega, by omega⟩ (Nat.le_of_ble_eq_true rfl) dX4_end_14 rfl (fun v_ w_ hp => ?_)
    obtain ⟨rfl, rfl⟩ := hp
    show jJ X u 1 [[(r0, jO 3 [.ref aw, .ref av, iI (rd + 1), iI it, iI ap, iI pt, iI lvr, iI pa, iI nb, .ref x0])], [(aw, cI u 60 (uZ wh rd (-1)))], [(av, cI u 60 (uZ va rd nb))]] [(0, .ref r0)] 0 0 17 []
    refine j_aload_n G 0 rfl dX4_end_17 ?_
    refine j_dup G rfl dX4_end_18 ?_
    refine j_get G FX4 (jAt_1 0 rfl) 3 (by decide) q585 rfl dX4_end_19 ?_
    refine j_iconst G dX4_end_22 ?_
    refine j_iadd G dX4_end_23 ?_
    refine j_put (ws' := [[(r0, jO 3 [.ref aw, .ref av, iI (rd + 1), iI (it + 1), iI ap, iI pt, iI lvr, iI pa, iI nb, .ref x0])], [(aw, cI u 60 (uZ wh rd (-1)))], [(av, cI u 60 (uZ va rd nb))]]) G FX4 (jAt_1 0 rfl) 3 (by decide) q585 rfl rfl rfl (Nat.le_of_ble_eq_true rfl) dX4_end_24 rfl ?_
    refine j_aload_n G 0 rfl dX4_end_27 ?_
    refine j_iconst G dX4_end_28 ?_
    refine j_put (ws' := [[(r0, jO 3 [.ref aw, .ref av, iI (rd + 1), iI (it + 1), iI ap, iI 0, iI lvr, iI pa, iI nb, .ref x0])], [(aw, cI u 60 (uZ wh rd (-1)))], [(av, cI u 60 (uZ va rd nb))]]) G FX4 (jAt_1 0 rfl) 5 (by decide) q589 rfl rfl rfl (Nat.le_of_ble_eq_true rfl) dX4_end_29 rfl ?_
    exact j_vret G E (Or.inl ⟨(by omega), rfl, rfl⟩) ⟨by omega, by omega⟩ dX4_end_32
