theorem hY_X2_begins : jY yX2_begins 1 := ⟨by decide +kernel, by decide +kernel, by decide +kernel⟩
set_option maxHeartbeats 4000000 in
set_option maxRecDepth 100000 in
theorem c_X2_begins (l : Launch) (u : jU) (y0 aT aX aR aM aG aN aQ aO aS aH aU aW : Nat) (th n gr pw po pr ix sd gn tk ln zs zl za zf ze zi zc bp ls wn sc al nr dr ba bb hh : Int) (c : Int) (hRc : iR c) : jC l u yX2_begins cX2_begins 3 (some .boolean) 1 22 0 0 [.ref y0, iI c] [[(y0, jO 1 [iI th, iI n, iI gr, iI pw, .ref aT, iI po, iI pr, iI ix, iI sd, iI gn, iI tk, iI ln, .ref aX, iI zs, iI zl, iI za, iI zf, iI ze, iI zi, .ref aR, .ref aM, .ref aG, .ref aN, .ref aQ, lI ls, lI wn, .ref aO, .ref aS, .ref aH, .ref aU, lI sc, iI zc, .ref aW, lI al, lI nr, lI dr, iI bp, lI ba, lI bb, lI hh])]] (fun v_ w_ => ((65 ≤ c ∧ c ≤ 67) ∧ v_ = some (iI 1) ∧ w_ = [[(y0, jO 1 [iI th, iI n, iI gr, iI pw, .ref aT, iI po, iI pr, iI ix, iI sd, iI gn, iI tk, iI ln, .ref aX, iI 1, iI (c - 65), iI 0, iI zf, iI 0, iI zi, .ref aR, .ref aM, .ref aG, .ref aN, .ref aQ, lI ls, lI wn, .ref aO, .ref aS, .ref aH, .ref aU, lI sc, iI zc, .ref aW, lI al, lI nr, lI dr, iI bp, lI ba, lI bb, lI hh])]]) ∨ (c = 80 ∧ v_ = some (iI 1) ∧ w_ = [[(y0, jO 1 [iI th, iI n, iI gr, iI pw, .ref aT, iI po, iI pr, iI ix, iI sd, iI gn, iI tk, iI ln, .ref aX, iI 5, iI 3, iI 0, iI zf, iI 0, iI zi, .ref aR, .ref aM, .ref aG, .ref aN, .ref aQ, lI ls, lI wn, .ref aO, .ref aS, .ref aH, .ref aU, lI sc, iI zc, .ref aW, lI al, lI nr, lI dr, iI bp, lI ba, lI bb, lI hh])]]) ∨ ((¬ (65 ≤ c ∧ c ≤ 67)) ∧ c ≠ 80 ∧ v_ = some (iI 0) ∧ w_ = [[(y0, jO 1 [iI th, iI n, iI gr, iI pw, .ref aT, iI po, iI pr, iI ix, iI sd, iI gn, iI tk, iI ln, .ref aX, iI zs, iI (c - 65), iI 0, iI zf, iI 0, iI zi, .ref aR, .ref aM, .ref aG, .ref aN, .ref aQ, lI ls, lI wn, .ref aO, .ref aS, .ref aH, .ref aU, lI sc, iI zc, .ref aW, lI al, lI nr, lI dr, iI bp, lI ba, lI bb, lI hh])]])) := by
  refine jC.of "FlashRatchetModel" (by decide +kernel) rfl (Nat.le_of_ble_eq_true rfl) [(0, .ref y0), (1, iI c)] rfl (fun X G E I => ?_)
  refine j_iload_n G 1 rfl dX2_begins_0 ?_
  refine j_bipush G (by decide) dX2_begins_1 ?_
  refine j_bipush G (by decide) dX2_begins_3 ?_
  refine j_callS (wr := [[(y0, jO 1 [iI th, iI n, iI gr, iI pw, .ref aT, iI po, iI pr, iI ix, iI sd, iI gn, iI tk, iI ln, .ref aX, iI zs, iI zl, iI za, iI zf, iI ze, iI zi, .ref aR, .ref aM, .ref aG, .ref aN, .ref aQ, lI ls, lI wn, .ref aO, .ref aS, .ref aH, .ref aU, lI sc, iI zc, .ref aW, lI al, lI nr, lI dr, iI bp, lI ba, lI bb, lI hh])]]) (k' := 0) (n' := 0) G (c_X2_within l u c 65 67 hRc (by unfold iR; omega) (by unfold iR; omega)) hY_X2_within q1973 q1974 q90 q1975 (jcut 1 [0] (by decide) rfl rfl) ⟨by omega, by omega, by omega, by omega, by omega, by omega⟩ (Nat.le_of_ble_eq_true rfl) dX2_begins_5 rfl (fun v_ w_ hp => ?_)
  obtain ⟨r_5, h5_1, rfl, rfl⟩ := hp
  show jJ X u 3 [[(y0, jO 1 [iI th, iI n, iI gr, iI pw, .ref aT, iI po, iI pr, iI ix, iI sd, iI gn, iI tk, iI ln, .ref aX, iI zs, iI zl, iI za, iI zf, iI ze, iI zi, .ref aR, .ref aM, .ref aG, .ref aN, .ref aQ, lI ls, lI wn, .ref aO, .ref aS, .ref aH, .ref aU, lI sc, iI zc, .ref aW, lI al, lI nr, lI dr, iI bp, lI ba, lI bb, lI hh])]] [(0, .ref y0), (1, iI c)] 0 0 8 [iI r_5]
  refine j_if_ne 17 G (by unfold iR at *; omega) dX2_begins_8 (by decide) (fun c_8 => ?_) (fun c_8 => ?_)
  · skip
    refine j_iconst G dX2_begins_17 ?_
    refine j_goto 22 G dX2_begins_18 (by decide) ?_
    refine j_istore_n G [(2, iI 1), (0, .ref y0), (1, iI c)] rfl (by decide) dX2_begins_22 ?_
    refine j_aload_n G 1 rfl dX2_begins_23 ?_
    refine j_iload_n G 2 rfl dX2_begins_24 ?_
    refine j_bipush G (by decide) dX2_begins_25 ?_
    refine j_icmp_ne 34 G hRc (by unfold iR; omega) dX2_begins_27 (by decide) (fun c_27 => ?_) (fun c_27 => ?_)
    · skip
      refine j_iload_n G 2 rfl dX2_begins_34 ?_
      refine j_bipush G (by decide) dX2_begins_35 ?_
      refine j_isub G dX2_begins_37 ?_
      refine j_put (ws' := [[(y0, jO 1 [iI th, iI n, iI gr, iI pw, .ref aT, iI po, iI pr, iI ix, iI sd, iI gn, iI tk, iI ln, .ref aX, iI zs, iI (c - 65), iI za, iI zf, iI ze, iI zi, .ref aR, .ref aM, .ref aG, .ref aN, .ref aQ, lI ls, lI wn, .ref aO, .ref aS, .ref aH, .ref aU, lI sc, iI zc, .ref aW, lI al, lI nr, lI dr, iI bp, lI ba, lI bb, lI hh])]]) G FX2 (jAt_1 0 rfl) 14 (by decide) q1858 rfl rfl rfl (Nat.le_of_ble_eq_true rfl) dX2_begins_38 rfl ?_
      refine j_aload_n G 1 rfl dX2_begins_41 ?_
      refine j_iconst G dX2_begins_42 ?_
      refine j_put (ws' := [[(y0, jO 1 [iI th, iI n, iI gr, iI pw, .ref aT, iI po, iI pr, iI ix, iI sd, iI gn, iI tk, iI ln, .ref aX, iI zs, iI (c - 65), iI 0, iI zf, iI ze, iI zi, .ref aR, .ref aM, .ref aG, .ref aN, .ref aQ, lI ls, lI wn, .ref aO, .ref aS, .ref aH, .ref aU, lI sc, iI zc, .ref aW, lI al, lI nr, lI dr, iI bp, lI ba, lI bb, lI hh])]]) G FX2 (jAt_1 0 rfl) 15 (by decide) q1859 rfl rfl rfl (Nat.le_of_ble_eq_true rfl) dX2_begins_43 rfl ?_
      refine j_aload_n G 1 rfl dX2_begins_46 ?_
      refine j_iconst G dX2_begins_47 ?_
      refine j_put (ws' := [[(y0, jO 1 [iI th, iI n, iI gr, iI pw, .ref aT, iI po, iI pr, iI ix, iI sd, iI gn, iI tk, iI ln, .ref aX, iI zs, iI (c - 65), iI 0, iI zf, iI 0, iI zi, .ref aR, .ref aM, .ref aG, .ref aN, .ref aQ, lI ls, lI wn, .ref aO, .ref aS, .ref aH, .ref aU, lI sc, iI zc, .ref aW, lI al, lI nr, lI dr, iI bp, lI ba, lI bb, lI hh])]]) G FX2 (jAt_1 0 rfl) 17 (by decide) q1861 rfl rfl rfl (Nat.le_of_ble_eq_true rfl) dX2_begins_48 rfl ?_
      refine j_aload_n G 1 rfl dX2_begins_51 ?_
      refine j_iload_n G 0 rfl dX2_begins_52 ?_
      refine j_if_eq 70 G (by unfold iR; omega) dX2_begins_53 (by decide) (fun c_53 => ?_) (fun c_53 => ?_)
      · exact absurd c_53 (by decide)
      · skip
        refine j_iload_n G 2 rfl dX2_begins_56 ?_
        refine j_bipush G (by decide) dX2_begins_57 ?_
        refine j_icmp_ne 66 G hRc (by unfold iR; omega) dX2_begins_59 (by decide) (fun c_59 => ?_) (fun c_59 => ?_)
        · skip
          refine j_iconst G dX2_begins_66 ?_
          refine j_goto 74 G dX2_begins_67 (by decide) ?_
          refine j_put (ws' := [[(y0, jO 1 [iI th, iI n, iI gr, iI pw, .ref aT, iI po, iI pr, iI ix, iI sd, iI gn, iI tk, iI ln, .ref aX, iI 1, iI (c - 65), iI 0, iI zf, iI 0, iI zi, .ref aR, .ref aM, .ref aG, .ref aN, .ref aQ, lI ls, lI wn, .ref aO, .ref aS, .ref aH, .ref aU, lI sc, iI zc, .ref aW, lI al, lI nr, lI dr, iI bp, lI ba, lI bb, lI hh])]]) G FX2 (jAt_1 0 rfl) 13 (by decide) q1857 rfl rfl rfl (Nat.le_of_ble_eq_true rfl) dX2_begins_74 rfl ?_
          refine j_iload_n G 0 rfl dX2_begins_77 ?_
          exact j_zret G E (by (try unfold iR at *); omega) (Or.inl ⟨(by omega), (by first | rfl | (exfalso; omega)), (by first | rfl | (exfalso; omega))⟩) ⟨by omega, by omega⟩ dX2_begins_78
        · skip
          refine j_iconst G dX2_begins_62 ?_
          refine j_goto 74 G dX2_begins_63 (by decide) ?_
          refine j_put (ws' := [[(y0, jO 1 [iI th, iI n, iI gr, iI pw, .ref aT, iI po, iI pr, iI ix, iI sd, iI gn, iI tk, iI ln, .ref aX, iI 5, iI (c - 65), iI 0, iI zf, iI 0, iI zi, .ref aR, .ref aM, .ref aG, .ref aN, .ref aQ, lI ls, lI wn, .ref aO, .ref aS, .ref aH, .ref aU, lI sc, iI zc, .ref aW, lI al, lI nr, lI dr, iI bp, lI ba, lI bb, lI hh])]]) G FX2 (jAt_1 0 rfl) 13 (by decide) q1857 rfl rfl rfl (Nat.le_of_ble_eq_true rfl) dX2_begins_74 rfl ?_
          refine j_iload_n G 0 rfl dX2_begins_77 ?_
          exact j_zret G E (by (try unfold iR at *); omega) (Or.inr (Or.inl ⟨(by omega), (by first | rfl | (exfalso; omega)), (by first | rfl | (exfalso; omega))⟩)) ⟨by omega, by omega⟩ dX2_begins_78
    · skip
      refine j_iconst G dX2_begins_30 ?_
      refine j_goto 38 G dX2_begins_31 (by decide) ?_
      refine j_put (ws' := [[(y0, jO 1 [iI th, iI n, iI gr, iI pw, .ref aT, iI po, iI pr, iI ix, iI sd, iI gn, iI tk, iI ln, .ref aX, iI zs, iI 3, iI za, iI zf, iI ze, iI zi, .ref aR, .ref aM, .ref aG, .ref aN, .ref aQ, lI ls, lI wn, .ref aO, .ref aS, .ref aH, .ref aU, lI sc, iI zc, .ref aW, lI al, lI nr, lI dr, iI bp, lI ba, lI bb, lI hh])]]) G FX2 (jAt_1 0 rfl) 14 (by decide) q1858 rfl rfl rfl (Nat.le_of_ble_eq_true rfl) dX2_begins_38 rfl ?_
      refine j_aload_n G 1 rfl dX2_begins_41 ?_
      refine j_iconst G dX2_begins_42 ?_
      refine j_put (ws' := [[(y0, jO 1 [iI th, iI n, iI gr, iI pw, .ref aT, iI po, iI pr, iI ix, iI sd, iI gn, iI tk, iI ln, .ref aX, iI zs, iI 3, iI 0, iI zf, iI ze, iI zi, .ref aR, .ref aM, .ref aG, .ref aN, .ref aQ, lI ls, lI wn, .ref aO, .ref aS, .ref aH, .ref aU, lI sc, iI zc, .ref aW, lI al, lI nr, lI dr, iI bp, lI ba, lI bb, lI hh])]]) G FX2 (jAt_1 0 rfl) 15 (by decide) q1859 rfl rfl rfl (Nat.le_of_ble_eq_true rfl) dX2_begins_43 rfl ?_
      refine j_aload_n G 1 rfl dX2_begins_46 ?_
      refine j_iconst G dX2_begins_47 ?_
      refine j_put (ws' := [[(y0, jO 1 [iI th, iI n, iI gr, iI pw, .ref aT, iI po, iI pr, iI ix, iI sd, iI gn, iI tk, iI ln, .ref aX, iI zs, iI 3, iI 0, iI zf, iI 0, iI zi, .ref aR, .ref aM, .ref aG, .ref aN, .ref aQ, lI ls, lI wn, .ref aO, .ref aS, .ref aH, .ref aU, lI sc, iI zc, .ref aW, lI al, lI nr, lI dr, iI bp, lI ba, lI bb, lI hh])]]) G FX2 (jAt_1 0 rfl) 17 (by decide) q1861 rfl rfl rfl (Nat.le_of_ble_eq_true rfl) dX2_begins_48 rfl ?_
      refine j_aload_n G 1 rfl dX2_begins_51 ?_
      refine j_iload_n G 0 rfl dX2_begins_52 ?_
      refine j_if_eq 70 G (by unfold iR; omega) dX2_begins_53 (by decide) (fun c_53 => ?_) (fun c_53 => ?_)
      · exact absurd c_53 (by decide)
      · skip
        refine j_iload_n G 2 rfl dX2_begins_56 ?_
        refine j_bipush G (by decide) dX2_begins_57 ?_
        refine j_icmp_ne 66 G hRc (by unfold iR; omega) dX2_begins_59 (by decide) (fun c_59 => ?_) (fun c_59 => ?_)
        · skip
          refine j_iconst G dX2_begins_66 ?_
          refine j_goto 74 G dX2_begins_67 (by decide) ?_
          refine j_put (ws' := [[(y0, jO 1 [iI th, iI n, iI gr, iI pw, .ref aT, iI po, iI pr, iI ix, iI sd, iI gn, iI tk, iI ln, .ref aX, iI 1, iI 3, iI 0, iI zf, iI 0, iI zi, .ref aR, .ref aM, .ref aG, .ref aN, .ref aQ, lI ls, lI wn, .ref aO, .ref aS, .ref aH, .ref aU, lI sc, iI zc, .ref aW, lI al, lI nr, lI dr, iI bp, lI ba, lI bb, lI hh])]]) G FX2 (jAt_1 0 rfl) 13 (by decide) q1857 rfl rfl rfl (Nat.le_of_ble_eq_true rfl) dX2_begins_74 rfl ?_
          refine j_iload_n G 0 rfl dX2_begins_77 ?_
          exact j_zret G E (by (try unfold iR at *); omega) (Or.inl ⟨(by omega), (by first | rfl | (exfalso; omega)), (by first | rfl | (exfalso; omega))⟩) ⟨by omega, by omega⟩ dX2_begins_78
        · skip
          refine j_iconst G dX2_begins_62 ?_
          refine j_goto 74 G dX2_begins_63 (by decide) ?_
          refine j_put (ws' := [[(y0, jO 1 [iI th, iI n, iI gr, iI pw, .ref aT, iI po, iI pr, iI ix, iI sd, iI gn, iI tk, iI ln, .ref aX, iI 5, iI 3, iI 0, iI zf, iI 0, iI zi, .ref aR, .ref aM, .ref aG, .ref aN, .ref aQ, lI ls, lI wn, .ref aO, .ref aS, .ref aH, .ref aU, lI sc, iI zc, .ref aW, lI al, lI nr, lI dr, iI bp, lI ba, lI bb, lI hh])]]) G FX2 (jAt_1 0 rfl) 13 (by decide) q1857 rfl rfl rfl (Nat.le_of_ble_eq_true rfl) dX2_begins_74 rfl ?_
          refine j_iload_n G 0 rfl dX2_begins_77 ?_
          exact j_zret G E (by (try unfold iR at *); omega) (Or.inr (Or.inl ⟨(by omega), (by first | rfl | (exfalso; omega)), (by first | rfl | (exfalso; omega))⟩)) ⟨by omega, by omega⟩ dX2_begins_78
  · skip
    refine j_iload_n G 1 rfl dX2_begins_11 ?_
    refine j_bipush G (by decide) dX2_begins_12 ?_
    refine j_icmp_ne 21 G hRc (by unfold iR; omega) dX2_begins_14 (by decide) (fun c_14 => ?_) (fun c_14 => ?_)
    · skip
      refine j_iconst G dX2_begins_21 ?_
      refine j_istore_n G [(2, iI 0), (0, .ref y0), (1, iI c)] rfl (by decide) dX2_begins_22 ?_
      refine j_aload_n G 1 rfl dX2_begins_23 ?_
      refine j_iload_n G 2 rfl dX2_begins_24 ?_
      refine j_bipush G (by decide) dX2_begins_25 ?_
      refine j_icmp_ne 34 G hRc (by unfold iR; omega) dX2_begins_27 (by decide) (fun c_27 => ?_) (fun c_27 => ?_)
      · skip
        refine j_iload_n G 2 rfl dX2_begins_34 ?_
        refine j_bipush G (by decide) dX2_begins_35 ?_
        refine j_isub G dX2_begins_37 ?_
        refine j_put (ws' := [[(y0, jO 1 [iI th, iI n, iI gr, iI pw, .ref aT, iI po, iI pr, iI ix, iI sd, iI gn, iI tk, iI ln, .ref aX, iI zs, iI (c - 65), iI za, iI zf, iI ze, iI zi, .ref aR, .ref aM, .ref aG, .ref aN, .ref aQ, lI ls, lI wn, .ref aO, .ref aS, .ref aH, .ref aU, lI sc, iI zc, .ref aW, lI al, lI nr, lI dr, iI bp, lI ba, lI bb, lI hh])]]) G FX2 (jAt_1 0 rfl) 14 (by decide) q1858 rfl rfl rfl (Nat.le_of_ble_eq_true rfl) dX2_begins_38 rfl ?_
        refine j_aload_n G 1 rfl dX2_begins_41 ?_
        refine j_iconst G dX2_begins_42 ?_
        refine j_put (ws' := [[(y0, jO 1 [iI th, iI n, iI gr, iI pw, .ref aT, iI po, iI pr, iI ix, iI sd, iI gn, iI tk, iI ln, .ref aX, iI zs, iI (c - 65), iI 0, iI zf, iI ze, iI zi, .ref aR, .ref aM, .ref aG, .ref aN, .ref aQ, lI ls, lI wn, .ref aO, .ref aS, .ref aH, .ref aU, lI sc, iI zc, .ref aW, lI al, lI nr, lI dr, iI bp, lI ba, lI bb, lI hh])]]) G FX2 (jAt_1 0 rfl) 15 (by decide) q1859 rfl rfl rfl (Nat.le_of_ble_eq_true rfl) dX2_begins_43 rfl ?_
        refine j_aload_n G 1 rfl dX2_begins_46 ?_
        refine j_iconst G dX2_begins_47 ?_
        refine j_put (ws' := [[(y0, jO 1 [iI th, iI n, iI gr, iI pw, .ref aT, iI po, iI pr, iI ix, iI sd, iI gn, iI tk, iI ln, .ref aX, iI zs, iI (c - 65), iI 0, iI zf, iI 0, iI zi, .ref aR, .ref aM, .ref aG, .ref aN, .ref aQ, lI ls, lI wn, .ref aO, .ref aS, .ref aH, .ref aU, lI sc, iI zc, .ref aW, lI al, lI nr, lI dr, iI bp, lI ba, lI bb, lI hh])]]) G FX2 (jAt_1 0 rfl) 17 (by decide) q1861 rfl rfl rfl (Nat.le_of_ble_eq_true rfl) dX2_begins_48 rfl ?_
        refine j_aload_n G 1 rfl dX2_begins_51 ?_
        refine j_iload_n G 0 rfl dX2_begins_52 ?_
        refine j_if_eq 70 G (by unfold iR; omega) dX2_begins_53 (by decide) (fun c_53 => ?_) (fun c_53 => ?_)
        · skip
          refine j_aload_n G 1 rfl dX2_begins_70 ?_
          refine j_get G FX2 (jAt_1 0 rfl) 13 (by decide) q1857 rfl dX2_begins_71 ?_
          refine j_put (ws' := [[(y0, jO 1 [iI th, iI n, iI gr, iI pw, .ref aT, iI po, iI pr, iI ix, iI sd, iI gn, iI tk, iI ln, .ref aX, iI zs, iI (c - 65), iI 0, iI zf, iI 0, iI zi, .ref aR, .ref aM, .ref aG, .ref aN, .ref aQ, lI ls, lI wn, .ref aO, .ref aS, .ref aH, .ref aU, lI sc, iI zc, .ref aW, lI al, lI nr, lI dr, iI bp, lI ba, lI bb, lI hh])]]) G FX2 (jAt_1 0 rfl) 13 (by decide) q1857 rfl rfl rfl (Nat.le_of_ble_eq_true rfl) dX2_begins_74 rfl ?_
          refine j_iload_n G 0 rfl dX2_begins_77 ?_
          exact j_zret G E (by (try unfold iR at *); omega) (Or.inr (Or.inr ⟨(by omega), (by omega), (by first | rfl | (exfalso; omega)), (by first | rfl | (exfalso; omega))⟩)) ⟨by omega, by omega⟩ dX2_begins_78
        · exact absurd c_53 (by decide)
      · skip
        refine j_iconst G dX2_begins_30 ?_
        refine j_goto 38 G dX2_begins_31 (by decide) ?_
        refine j_put (ws' := [[(y0, jO 1 [iI th, iI n, iI gr, iI pw, .ref aT, iI po, iI pr, iI ix, iI sd, iI gn, iI tk, iI ln, .ref aX, iI zs, iI 3, iI za, iI zf, iI ze, iI zi, .ref aR, .ref aM, .ref aG, .ref aN, .ref aQ, lI ls, lI wn, .ref aO, .ref aS, .ref aH, .ref aU, lI sc, iI zc, .ref aW, lI al, lI nr, lI dr, iI bp, lI ba, lI bb, lI hh])]]) G FX2 (jAt_1 0 rfl) 14 (by decide) q1858 rfl rfl rfl (Nat.le_of_ble_eq_true rfl) dX2_begins_38 rfl ?_
        refine j_aload_n G 1 rfl dX2_begins_41 ?_
        refine j_iconst G dX2_begins_42 ?_
        refine j_put (ws' := [[(y0, jO 1 [iI th, iI n, iI gr, iI pw, .ref aT, iI po, iI pr, iI ix, iI sd, iI gn, iI tk, iI ln, .ref aX, iI zs, iI 3, iI 0, iI zf, iI ze, iI zi, .ref aR, .ref aM, .ref aG, .ref aN, .ref aQ, lI ls, lI wn, .ref aO, .ref aS, .ref aH, .ref aU, lI sc, iI zc, .ref aW, lI al, lI nr, lI dr, iI bp, lI ba, lI bb, lI hh])]]) G FX2 (jAt_1 0 rfl) 15 (by decide) q1859 rfl rfl rfl (Nat.le_of_ble_eq_true rfl) dX2_begins_43 rfl ?_
        refine j_aload_n G 1 rfl dX2_begins_46 ?_
        refine j_iconst G dX2_begins_47 ?_
        refine j_put (ws' := [[(y0, jO 1 [iI th, iI n, iI gr, iI pw, .ref aT, iI po, iI pr, iI ix, iI sd, iI gn, iI tk, iI ln, .ref aX, iI zs, iI 3, iI 0, iI zf, iI 0, iI zi, .ref aR, .ref aM, .ref aG, .ref aN, .ref aQ, lI ls, lI wn, .ref aO, .ref aS, .ref aH, .ref aU, lI sc, iI zc, .ref aW, lI al, lI nr, lI dr, iI bp, lI ba, lI bb, lI hh])]]) G FX2 (jAt_1 0 rfl) 17 (by decide) q1861 rfl rfl rfl (Nat.le_of_ble_eq_true rfl) dX2_begins_48 rfl ?_
        refine j_aload_n G 1 rfl dX2_begins_51 ?_
        refine j_iload_n G 0 rfl dX2_begins_52 ?_
        refine j_if_eq 70 G (by unfold iR; omega) dX2_begins_53 (by decide) (fun c_53 => ?_) (fun c_53 => ?_)
        · skip
          refine j_aload_n G 1 rfl dX2_begins_70 ?_
          refine j_get G FX2 (jAt_1 0 rfl) 13 (by decide) q1857 rfl dX2_begins_71 ?_
          refine j_put (ws' := [[(y0, jO 1 [iI th, iI n, iI gr, iI pw, .ref aT, iI po, iI pr, iI ix, iI sd, iI gn, iI tk, iI ln, .ref aX, iI zs, iI 3, iI 0, iI zf, iI 0, iI zi, .ref aR, .ref aM, .ref aG, .ref aN, .ref aQ, lI ls, lI wn, .ref aO, .ref aS, .ref aH, .ref aU, lI sc, iI zc, .ref aW, lI al, lI nr, lI dr, iI bp, lI ba, lI bb, lI hh])]]) G FX2 (jAt_1 0 rfl) 13 (by decide) q1857 rfl rfl rfl (Nat.le_of_ble_eq_true rfl) dX2_begins_74 rfl ?_
          refine j_iload_n G 0 rfl dX2_begins_77 ?_
          exact j_zret G E (by (try unfold iR at *); omega) (Or.inr (Or.inr ⟨(by omega), (by omega), (by first | rfl | (exfalso; omega)), (by first | rfl | (exfalso; omega))⟩)) ⟨by omega, by omega⟩ dX2_begins_78
        · exact absurd c_53 (by decide)
    · skip
      refine j_iconst G dX2_begins_17 ?_
      refine j_goto 22 G dX2_begins_18 (by decide) ?_
      refine j_istore_n G [(2, iI 1), (0, .ref y0), (1, iI c)] rfl (by decide) dX2_begins_22 ?_
      refine j_aload_n G 1 rfl dX2_begins_23 ?_
      refine j_iload_n G 2 rfl dX2_begins_24 ?_
      refine j_bipush G (by decide) dX2_begins_25 ?_
      refine j_icmp_ne 34 G hRc (by unfold iR; omega) dX2_begins_27 (by decide) (fun c_27 => ?_) (fun c_27 => ?_)
      · skip
        refine j_iload_n G 2 rfl dX2_begins_34 ?_
        refine j_bipush G (by decide) dX2_begins_35 ?_
        refine j_isub G dX2_begins_37 ?_
        refine j_put (ws' := [[(y0, jO 1 [iI th, iI n, iI gr, iI pw, .ref aT, iI po, iI pr, iI ix, iI sd, iI gn, iI tk, iI ln, .ref aX, iI zs, iI (c - 65), iI za, iI zf, iI ze, iI zi, .ref aR, .ref aM, .ref aG, .ref aN, .ref aQ, lI ls, lI wn, .ref aO, .ref aS, .ref aH, .ref aU, lI sc, iI zc, .ref aW, lI al, lI nr, lI dr, iI bp, lI ba, lI bb, lI hh])]]) G FX2 (jAt_1 0 rfl) 14 (by decide) q1858 rfl rfl rfl (Nat.le_of_ble_eq_true rfl) dX2_begins_38 rfl ?_
        refine j_aload_n G 1 rfl dX2_begins_41 ?_
        refine j_iconst G dX2_begins_42 ?_
        refine j_put (ws' := [[(y0, jO 1 [iI th, iI n, iI gr, iI pw, .ref aT, iI po, iI pr, iI ix, iI sd, iI gn, iI tk, iI ln, .ref aX, iI zs, iI (c - 65), iI 0, iI zf, iI ze, iI zi, .ref aR, .ref aM, .ref aG, .ref aN, .ref aQ, lI ls, lI wn, .ref aO, .ref aS, .ref aH, .ref aU, lI sc, iI zc, .ref aW, lI al, lI nr, lI dr, iI bp, lI ba, lI bb, lI hh])]]) G FX2 (jAt_1 0 rfl) 15 (by decide) q1859 rfl rfl rfl (Nat.le_of_ble_eq_true rfl) dX2_begins_43 rfl ?_
        refine j_aload_n G 1 rfl dX2_begins_46 ?_
        refine j_iconst G dX2_begins_47 ?_
        refine j_put (ws' := [[(y0, jO 1 [iI th, iI n, iI gr, iI pw, .ref aT, iI po, iI pr, iI ix, iI sd, iI gn, iI tk, iI ln, .ref aX, iI zs, iI (c - 65), iI 0, iI zf, iI 0, iI zi, .ref aR, .ref aM, .ref aG, .ref aN, .ref aQ, lI ls, lI wn, .ref aO, .ref aS, .ref aH, .ref aU, lI sc, iI zc, .ref aW, lI al, lI nr, lI dr, iI bp, lI ba, lI bb, lI hh])]]) G FX2 (jAt_1 0 rfl) 17 (by decide) q1861 rfl rfl rfl (Nat.le_of_ble_eq_true rfl) dX2_begins_48 rfl ?_
        refine j_aload_n G 1 rfl dX2_begins_51 ?_
        refine j_iload_n G 0 rfl dX2_begins_52 ?_
        refine j_if_eq 70 G (by unfold iR; omega) dX2_begins_53 (by decide) (fun c_53 => ?_) (fun c_53 => ?_)
        · exact absurd c_53 (by decide)
        · skip
          refine j_iload_n G 2 rfl dX2_begins_56 ?_
          refine j_bipush G (by decide) dX2_begins_57 ?_
          refine j_icmp_ne 66 G hRc (by unfold iR; omega) dX2_begins_59 (by decide) (fun c_59 => ?_) (fun c_59 => ?_)
          · skip
            refine j_iconst G dX2_begins_66 ?_
            refine j_goto 74 G dX2_begins_67 (by decide) ?_
            refine j_put (ws' := [[(y0, jO 1 [iI th, iI n, iI gr, iI pw, .ref aT, iI po, iI pr, iI ix, iI sd, iI gn, iI tk, iI ln, .ref aX, iI 1, iI (c - 65), iI 0, iI zf, iI 0, iI zi, .ref aR, .ref aM, .ref aG, .ref aN, .ref aQ, lI ls, lI wn, .ref aO, .ref aS, .ref aH, .ref aU, lI sc, iI zc, .ref aW, lI al, lI nr, lI dr, iI bp, lI ba, lI bb, lI hh])]]) G FX2 (jAt_1 0 rfl) 13 (by decide) q1857 rfl rfl rfl (Nat.le_of_ble_eq_true rfl) dX2_begins_74 rfl ?_
            refine j_iload_n G 0 rfl dX2_begins_77 ?_
            exact j_zret G E (by (try unfold iR at *); omega) (Or.inl ⟨(by omega), (by first | rfl | (exfalso; omega)), (by first | rfl | (exfalso; omega))⟩) ⟨by omega, by omega⟩ dX2_begins_78
          · skip
            refine j_iconst G dX2_begins_62 ?_
            refine j_goto 74 G dX2_begins_63 (by decide) ?_
            refine j_put (ws' := [[(y0, jO 1 [iI th, iI n, iI gr, iI pw, .ref aT, iI po, iI pr, iI ix, iI sd, iI gn, iI tk, iI ln, .ref aX, iI 5, iI (c - 65), iI 0, iI zf, iI 0, iI zi, .ref aR, .ref aM, .ref aG, .ref aN, .ref aQ, lI ls, lI wn, .ref aO, .ref aS, .ref aH, .ref aU, lI sc, iI zc, .ref aW, lI al, lI nr, lI dr, iI bp, lI ba, lI bb, lI hh])]]) G FX2 (jAt_1 0 rfl) 13 (by decide) q1857 rfl rfl rfl (Nat.le_of_ble_eq_true rfl) dX2_begins_74 rfl ?_
            refine j_iload_n G 0 rfl dX2_begins_77 ?_
            exact j_zret G E (by (try unfold iR at *); omega) (Or.inr (Or.inl ⟨(by omega), (by first | rfl | (exfalso; omega)), (by first | rfl | (exfalso; omega))⟩)) ⟨by omega, by omega⟩ dX2_begins_78
      · skip
        refine j_iconst G dX2_begins_30 ?_
        refine j_goto 38 G dX2_begins_31 (by decide) ?_
        refine j_put (ws' := [[(y0, jO 1 [iI th, iI n, iI gr, iI pw, .ref aT, iI po, iI pr, iI ix, iI sd, iI gn, iI tk, iI ln, .ref aX, iI zs, iI 3, iI za, iI zf, iI ze, iI zi, .ref aR, .ref aM, .ref aG, .ref aN, .ref aQ, lI ls, lI wn, .ref aO, .ref aS, .ref aH, .ref aU, lI sc, iI zc, .ref aW, lI al, lI nr, lI dr, iI bp, lI ba, lI bb, lI hh])]]) G FX2 (jAt_1 0 rfl) 14 (by decide) q1858 rfl rfl rfl (Nat.le_of_ble_eq_true rfl) dX2_begins_38 rfl ?_
        refine j_aload_n G 1 rfl dX2_begins_41 ?_
        refine j_iconst G dX2_begins_42 ?_
        refine j_put (ws' := [[(y0, jO 1 [iI th, iI n, iI gr, iI pw, .ref aT, iI po, iI pr, iI ix, iI sd, iI gn, iI tk, iI ln, .ref aX, iI zs, iI 3, iI 0, iI zf, iI ze, iI zi, .ref aR, .ref aM, .ref aG, .ref aN, .ref aQ, lI ls, lI wn, .ref aO, .ref aS, .ref aH, .ref aU, lI sc, iI zc, .ref aW, lI al, lI nr, lI dr, iI bp, lI ba, lI bb, lI hh])]]) G FX2 (jAt_1 0 rfl) 15 (by decide) q1859 rfl rfl rfl (Nat.le_of_ble_eq_true rfl) dX2_begins_43 rfl ?_
        refine j_aload_n G 1 rfl dX2_begins_46 ?_
        refine j_iconst G dX2_begins_47 ?_
        refine j_put (ws' := [[(y0, jO 1 [iI th, iI n, iI gr, iI pw, .ref aT, iI po, iI pr, iI ix, iI sd, iI gn, iI tk, iI ln, .ref aX, iI zs, iI 3, iI 0, iI zf, iI 0, iI zi, .ref aR, .ref aM, .ref aG, .ref aN, .ref aQ, lI ls, lI wn, .ref aO, .ref aS, .ref aH, .ref aU, lI sc, iI zc, .ref aW, lI al, lI nr, lI dr, iI bp, lI ba, lI bb, lI hh])]]) G FX2 (jAt_1 0 rfl) 17 (by decide) q1861 rfl rfl rfl (Nat.le_of_ble_eq_true rfl) dX2_begins_48 rfl ?_
        refine j_aload_n G 1 rfl dX2_begins_51 ?_
        refine j_iload_n G 0 rfl dX2_begins_52 ?_
        refine j_if_eq 70 G (by unfold iR; omega) dX2_begins_53 (by decide) (fun c_53 => ?_) (fun c_53 => ?_)
        · exact absurd c_53 (by decide)
        · skip
          refine j_iload_n G 2 rfl dX2_begins_56 ?_
          refine j_bipush G (by decide) dX2_begins_57 ?_
          refine j_icmp_ne 66 G hRc (by unfold iR; omega) dX2_begins_59 (by decide) (fun c_59 => ?_) (fun c_59 => ?_)
          · skip
            refine j_iconst G dX2_begins_66 ?_
            refine j_goto 74 G dX2_begins_67 (by decide) ?_
            refine j_put (ws' := [[(y0, jO 1 [iI th, iI n, iI gr, iI pw, .ref aT, iI po, iI pr, iI ix, iI sd, iI gn, iI tk, iI ln, .ref aX, iI 1, iI 3, iI 0, iI zf, iI 0, iI zi, .ref aR, .ref aM, .ref aG, .ref aN, .ref aQ, lI ls, lI wn, .ref aO, .ref aS, .ref aH, .ref aU, lI sc, iI zc, .ref aW, lI al, lI nr, lI dr, iI bp, lI ba, lI bb, lI hh])]]) G FX2 (jAt_1 0 rfl) 13 (by decide) q1857 rfl rfl rfl (Nat.le_of_ble_eq_true rfl) dX2_begins_74 rfl ?_
            refine j_iload_n G 0 rfl dX2_begins_77 ?_
            exact j_zret G E (by (try unfold iR at *); omega) (Or.inl ⟨(by omega), (by first | rfl | (exfalso; omega)), (by first | rfl | (exfalso; omega))⟩) ⟨by omega, by omega⟩ dX2_begins_78
          · skip
            refine j_iconst G dX2_begins_62 ?_
            refine j_goto 74 G dX2_begins_63 (by decide) ?_
            refine j_put (ws' := [[(y0, jO 1 [iI th, iI n, iI gr, iI pw, .ref aT, iI po, iI pr, iI ix, iI sd, iI gn, iI tk, iI ln, .ref aX, iI 5, iI 3, iI 0, iI zf, iI 0, iI zi, .ref aR, .ref aM, .ref aG, .ref aN, .ref aQ, lI ls, lI wn, .ref aO, .ref aS, .ref aH, .ref aU, lI sc, iI zc, .ref aW, lI al, lI nr, lI dr, iI bp, lI ba, lI bb, lI hh])]]) G FX2 (jAt_1 0 rfl) 13 (by decide) q1857 rfl rfl rfl (Nat.le_of_ble_eq_true rfl) dX2_begins_74 rfl ?_
            refine j_iload_n G 0 rfl dX2_begins_77 ?_
            exact j_zret G E (by (try unfold iR at *); omega) (Or.inr (Or.inl ⟨(by omega), (by first | rfl | (exfalso; omega)), (by first | rfl | (exfalso; omega))⟩)) ⟨by omega, by omega⟩ dX2_begins_78
theorem hY_X2_goes : jY yX2_goes 2 := ⟨by decide +kernel, by decide +kernel, by decide +kernel⟩
set_option maxHeartbeats 4000000 in
set_option maxRecDepth 100000 in
theorem c_X2_goes (l : Launch) (u : jU) (y0 aT aX aR aM aG aN aQ aO aS aH aU aW : Nat) (th n gr pw po pr ix sd gn tk ln zs zl za zf ze zi zc bp ls wn sc al nr dr ba bb hh : Int) (b nx : Int) (hb : 0 ≤ b ∧ b ≤ 1) : jC l u yX2_goes cX2_goes 3 (some .boolean) 0 0 0 0 [.ref y0, iI b, iI nx] [[(y0, jO 1 [iI th, iI n, iI gr, iI pw, .ref aT, iI po, iI pr, iI ix, iI sd, iI gn, iI tk, iI ln, .ref aX, iI zs, iI zl, iI za, iI zf, iI ze, iI zi, .ref aR, .ref aM, .ref aG, .ref aN, .ref aQ, lI ls, lI wn, .ref aO, .ref aS, .ref aH, .ref aU, lI sc, iI zc, .ref aW, lI al, lI nr, lI dr, iI bp, lI ba, lI bb, lI hh])]] (fun v_ w_ => (b = 0 ∧ v_ = some (iI b) ∧ w_ = [[(y0, jO 1 [iI th, iI n, iI gr, iI pw, .ref aT, iI po, iI pr, iI ix, iI sd, iI gn, iI tk, iI ln, .ref aX, iI zs, iI zl, iI za, iI zf, iI ze, iI zi, .ref aR, .ref aM, .ref aG, .ref aN, .ref aQ, lI ls, lI wn, .ref aO, .ref aS, .ref aH, .ref aU, lI sc, iI zc, .ref aW, lI al, lI nr, lI dr, iI bp, lI ba, lI bb, lI hh])]]) ∨ (¬ b = 0 ∧ v_ = some (iI b) ∧ w_ = [[(y0, jO 1 [iI th, iI n, iI gr, iI pw, .ref aT, iI po, iI pr, iI ix, iI sd, iI gn, iI tk, iI ln, .ref aX, iI nx, iI zl, iI za, iI zf, iI ze, iI zi, .ref aR, .ref aM, .ref aG, .ref aN, .ref aQ, lI ls, lI wn, .ref aO, .ref aS, .ref aH, .ref aU, lI sc, iI zc, .ref aW, lI al, lI nr, lI dr, iI bp, lI ba, lI bb, lI hh])]])) := by
  refine jC.of "FlashRatchetModel" (by decide +kernel) rfl (Nat.le_of_ble_eq_true rfl) [(0, .ref y0), (1, iI b), (2, iI nx)] rfl (fun X G E I => ?_)
  refine j_aload_n G 0 rfl dX2_goes_0 ?_
  refine j_iload_n G 1 rfl dX2_goes_1 ?_
  refine j_if_eq 9 G (by unfold iR at *; omega) dX2_goes_2 (by decide) (fun c_2 => ?_) (fun c_2 => ?_)
  · skip
    refine j_aload_n G 0 rfl dX2_goes_9 ?_
    refine j_get G FX2 (jAt_1 0 rfl) 13 (by decide) q1857 rfl dX2_goes_10 ?_
    refine j_put (ws' := [[(y0, jO 1 [iI th, iI n, iI gr, iI pw, .ref aT, iI po, iI pr, iI ix, iI sd, iI gn, iI tk, iI ln, .ref aX, iI zs, iI zl, iI za, iI zf, iI ze, iI zi, .ref aR, .ref aM, .ref aG, .ref aN, .ref aQ, lI ls, lI wn, .ref aO, .ref aS, .ref aH, .ref aU, lI sc, iI zc, .ref aW, lI al, lI nr, lI dr, iI bp, lI ba, lI bb, lI hh])]]) G FX2 (jAt_1 0 rfl) 13 (by decide) q1857 rfl rfl rfl (Nat.le_of_ble_eq_true rfl) dX2_goes_13 rfl ?_
    refine j_iload_n G 1 rfl dX2_goes_16 ?_
    exact j_zret G E (by (try unfold iR at *); omega) (Or.inl ⟨(by omega), rfl, rfl⟩) ⟨by omega, by omega⟩ dX2_goes_17
  · skip
    refine j_iload_n G 2 rfl dX2_goes_5 ?_
    refine j_goto 13 G dX2_goes_6 (by decide) ?_
    refine j_put (ws' := [[(y0, jO 1 [iI th, iI n, iI gr, iI pw, .ref aT, iI po, iI pr, iI ix, iI sd, iI gn, iI tk, iI ln, .ref aX, iI nx, iI zl, iI za, iI zf, iI ze, iI zi, .ref aR, .ref aM, .ref aG, .ref aN, .ref aQ, lI ls, lI wn, .ref aO, .ref aS, .ref aH, .ref aU, lI sc, iI zc, .ref aW, lI al, lI nr, lI dr, iI bp, lI ba, lI bb, lI hh])]]) G FX2 (jAt_1 0 rfl) 13 (by decide) q1857 rfl rfl rfl (Nat.le_of_ble_eq_true rfl) dX2_goes_13 rfl ?_
    refine j_iload_n G 1 rfl dX2_goes_16 ?_
    exact j_zret G E (by (try unfold iR at *); omega) (Or.inr ⟨(by omega), rfl, rfl⟩) ⟨by omega, by omega⟩ dX2_goes_17
theorem hY_X2_takesForward : jY yX2_takesForward 1 := ⟨by decide +kernel, by decide +kernel, by decide +kernel⟩
set_option maxHeartbeats 4000000 in
set_option maxRecDepth 100000 in
theorem c_X2_takesForward (l : Launch) (u : jU) (y0 aT aX aR aM aG aN aQ aO aS aH aU aW : Nat) (th n gr pw po pr ix sd gn tk ln zs zl za zf ze zi zc bp ls wn sc al nr dr ba bb hh : Int) (rd : Int → Int) (c : Int) (hRc : iR c) (hzf : 0 ≤ zf ∧ zf ≤ 9) (hzi : 0 ≤ zi ∧ zi ≤ 15) (hza : 0 ≤ za ∧ za ≤ 3) : jC l u yX2_takesForward cX2_takesForward 3 (some .boolean) 1 22 0 0 [.ref y0, iI c] [[(y0, jO 1 [iI th, iI n, iI gr, iI pw, .ref aT, iI po, iI pr, iI ix, iI sd, iI gn, iI tk, iI ln, .ref aX, iI zs, iI zl, iI za, iI zf, iI ze, iI zi, .ref aR, .ref aM, .ref aG, .ref aN, .ref aQ, lI ls, lI wn, .ref aO, .ref aS, .ref aH, .ref aU, lI sc, iI zc, .ref aW, lI al, lI nr, lI dr, iI bp, lI ba, lI bb, lI hh])], [(aR, cI u 300 rd)]] (fun v_ w_ => (((48 ≤ c ∧ c ≤ 57) ∧ zf + c - 48 ≤ 10) ∧ v_ = some (iI 1) ∧ w_ = [[(y0, jO 1 [iI th, iI n, iI gr, iI pw, .ref aT, iI po, iI pr, iI ix, iI sd, iI gn, iI tk, iI ln, .ref aX, iI 4, iI zl, iI (za + 1), iI zf, iI ze, iI zi, .ref aR, .ref aM, .ref aG, .ref aN, .ref aQ, lI ls, lI wn, .ref aO, .ref aS, .ref aH, .ref aU, lI sc, iI zc, .ref aW, lI al, lI nr, lI dr, iI bp, lI ba, lI bb, lI hh])], [(aR, cI u 300 (uZ (uZ rd (10 * zi + 1 + 2 * za) zf) (10 * zi + 2 + 2 * za) (c - 48)))]]) ∨ ((¬ ((48 ≤ c ∧ c ≤ 57) ∧ zf + c - 48 ≤ 10)) ∧ v_ = some (iI 0) ∧ w_ = [[(y0, jO 1 [iI th, iI n, iI gr, iI pw, .ref aT, iI po, iI pr, iI ix, iI sd, iI gn, iI tk, iI ln, .ref aX, iI zs, iI zl, iI za, iI zf, iI ze, iI zi, .ref aR, .ref aM, .ref aG, .ref aN, .ref aQ, lI ls, lI wn, .ref aO, .ref aS, .ref aH, .ref aU, lI sc, iI zc, .ref aW, lI al, lI nr, lI dr, iI bp, lI ba, lI bb, lI hh])], [(aR, cI u 300 rd)]])) := by
  refine jC.of "FlashRatchetModel" (by decide +kernel) rfl (Nat.le_of_ble_eq_true rfl) [(0, .ref y0), (1, iI c)] rfl (fun X G E I => ?_)
  refine j_iload_n G 1 rfl dX2_takesForward_0 ?_
  refine j_bipush G (by decide) dX2_takesForward_1 ?_
  refine j_bipush G (by decide) dX2_takesForward_3 ?_
  refine j_callS (wr := [[(y0, jO 1 [iI th, iI n, iI gr, iI pw, .ref aT, iI po, iI pr, iI ix, iI sd, iI gn, iI tk, iI ln, .ref aX, iI zs, iI zl, iI za, iI zf, iI ze, iI zi, .ref aR, .ref aM, .ref aG, .ref aN, .ref aQ, lI ls, lI wn, .ref aO, .ref aS, .ref aH, .ref aU, lI sc, iI zc, .ref aW, lI al, lI nr, lI dr, iI bp, lI ba, lI bb, lI hh])], [(aR, cI u 300 rd)]]) (k' := 0) (n' := 0) G (c_X2_within l u c 48 57 hRc (by unfold iR; omega) (by unfold iR; omega)) hY_X2_within q1973 q1974 q90 q1975 (jcut 2 [0, 1] (by decide) rfl rfl) ⟨by omega, by omega, by omega, by omega, by omega, by omega⟩ (Nat.le_of_ble_eq_true rfl) dX2_takesForward_5 rfl (fun v_ w_ hp => ?_)
  obtain ⟨r_5, h5_1, rfl, rfl⟩ := hp
  show jJ X u 3 [[(y0, jO 1 [iI th, iI n, iI gr, iI pw, .ref aT, iI po, iI pr, iI ix, iI sd, iI gn, iI tk, iI ln, .ref aX, iI zs, iI zl, iI za, iI zf, iI ze, iI zi, .ref aR, .ref aM, .ref aG, .ref aN, .ref aQ, lI ls, lI wn, .ref aO, .ref aS, .ref aH, .ref aU, lI sc, iI zc, .ref aW, lI al, lI nr, lI dr, iI bp, lI ba, lI bb, lI hh])], [(aR, cI u 300 rd)]] [(0, .ref y0), (1, iI c)] 0 0 8 [iI r_5]
  refine j_if_eq 29 G (by unfold iR at *; omega) dX2_takesForward_8 (by decide) (fun c_8 => ?_) (fun c_8 => ?_)
  · skip
    refine j_iconst G dX2_takesForward_29 ?_
    refine j_istore_n G [(2, iI 0), (0, .ref y0), (1, iI c)] rfl (by decide) dX2_takesForward_30 ?_
    refine j_iload_n G 0 rfl dX2_takesForward_31 ?_
    refine j_if_eq 100 G (by unfold iR; omega) dX2_takesForward_32 (by decide) (fun c_32 => ?_) (fun c_32 => ?_)
    · skip
      refine j_iload_n G 0 rfl dX2_takesForward_100 ?_
      exact j_zret G E (by (try unfold iR at *); omega) (Or.inr ⟨(by omega), rfl, rfl⟩) ⟨by omega, by omega⟩ dX2_takesForward_101
    · exact absurd c_32 (by decide)
  · skip
    refine j_aload_n G 0 rfl dX2_takesForward_11 ?_
    refine j_get G FX2 (jAt_1 0 rfl) 16 (by decide) q1860 rfl dX2_takesForward_12 ?_
    refine j_iload_n G 1 rfl dX2_takesForward_15 ?_
    refine j_iadd G dX2_takesForward_16 ?_
    refine j_bipush G (by decide) dX2_takesForward_17 ?_
    refine j_isub G dX2_takesForward_19 ?_
    refine j_bipush G (by decide) dX2_takesForward_20 ?_
    refine j_icmp_gt 29 G (by unfold iR at *; omega) (by unfold iR; omega) dX2_takesForward_22 (by decide) (fun c_22 => ?_) (fun c_22 => ?_)
    · skip
      refine j_iconst G dX2_takesForward_29 ?_
      refine j_istore_n G [(2, iI 0), (0, .ref y0), (1, iI c)] rfl (by decide) dX2_takesForward_30 ?_
      refine j_iload_n G 0 rfl dX2_takesForward_31 ?_
      refine j_if_eq 100 G (by unfold iR; omega) dX2_takesForward_32 (by decide) (fun c_32 => ?_) (fun c_32 => ?_)
      · skip
        refine j_iload_n G 0 rfl dX2_takesForward_100 ?_
        exact j_zret G E (by (try unfold iR at *); omega) (Or.inr ⟨(by omega), rfl, rfl⟩) ⟨by omega, by omega⟩ dX2_takesForward_101
      · exact absurd c_32 (by decide)
    · skip
      refine j_iconst G dX2_takesForward_25 ?_
      refine j_goto 30 G dX2_takesForward_26 (by decide) ?_
      refine j_istore_n G [(2, iI 1), (0, .ref y0), (1, iI c)] rfl (by decide) dX2_takesForward_30 ?_
      refine j_iload_n G 0 rfl dX2_takesForward_31 ?_
      refine j_if_eq 100 G (by unfold iR; omega) dX2_takesForward_32 (by decide) (fun c_32 => ?_) (fun c_32 => ?_)
      · exact absurd c_32 (by decide)
      · skip
        refine j_aload_n G 1 rfl dX2_takesForward_35 ?_
        refine j_get G FX2 (jAt_1 0 rfl) 19 (by decide) q1863 rfl dX2_takesForward_36 ?_
        refine j_bipush G (by decide) dX2_takesForward_39 ?_
        refine j_aload_n G 1 rfl dX2_takesForward_41 ?_
        refine j_get G FX2 (jAt_1 0 rfl) 18 (by decide) q1862 rfl dX2_takesForward_42 ?_
        refine j_imul G dX2_takesForward_45 ?_
        refine j_iconst G dX2_takesForward_46 ?_
        refine j_iadd G dX2_takesForward_47 ?_
        refine j_iconst G dX2_takesForward_48 ?_
        refine j_aload_n G 1 rfl dX2_takesForward_49 ?_
        refine j_get G FX2 (jAt_1 0 rfl) 15 (by decide) q1859 rfl dX2_takesForward_50 ?_
        refine j_imul G dX2_takesForward_53 ?_
        refine j_iadd G dX2_takesForward_54 ?_
        refine j_aload_n G 1 rfl dX2_takesForward_55 ?_
        refine j_get G FX2 (jAt_1 0 rfl) 16 (by decide) q1860 rfl dX2_takesForward_56 ?_
        refine j_iastore (ws' := [[(y0, jO 1 [iI th, iI n, iI gr, iI pw, .ref aT, iI po, iI pr, iI ix, iI sd, iI gn, iI tk, iI ln, .ref aX, iI zs, iI zl, iI za, iI zf, iI ze, iI zi, .ref aR, .ref aM, .ref aG, .ref aN, .ref aQ, lI ls, lI wn, .ref aO, .ref aS, .ref aH, .ref aU, lI sc, iI zc, .ref aW, lI al, lI nr, lI dr, iI bp, lI ba, lI bb, lI hh])], [(aR, cI u 300 (uZ rd (((10 * zi) + 1) + (2 * za)) zf))]]) G (jAt_1 1 rfl) (by (try unfold iR at *); omega) (by (try unfold iR at *); omega) (by (try unfold iR at *); omega) dX2_takesForward_59 rfl ?_
        refine j_aload_n G 1 rfl dX2_takesForward_60 ?_
        refine j_get G FX2 (jAt_1 0 rfl) 19 (by decide) q1863 rfl dX2_takesForward_61 ?_
        refine j_bipush G (by decide) dX2_takesForward_64 ?_
        refine j_aload_n G 1 rfl dX2_takesForward_66 ?_
        refine j_get G FX2 (jAt_1 0 rfl) 18 (by decide) q1862 rfl dX2_takesForward_67 ?_
        refine j_imul G dX2_takesForward_70 ?_
        refine j_iconst G dX2_takesForward_71 ?_
        refine j_iadd G dX2_takesForward_72 ?_
        refine j_iconst G dX2_takesForward_73 ?_
        refine j_aload_n G 1 rfl dX2_takesForward_74 ?_
        refine j_get G FX2 (jAt_1 0 rfl) 15 (by decide) q1859 rfl dX2_takesForward_75 ?_
        refine j_imul G dX2_takesForward_78 ?_
        refine j_iadd G dX2_takesForward_79 ?_
        refine j_iload_n G 2 rfl dX2_takesForward_80 ?_
        refine j_bipush G (by decide) dX2_takesForward_81 ?_
        refine j_isub G dX2_takesForward_83 ?_
        refine j_iastore (ws' := [[(y0, jO 1 [iI th, iI n, iI gr, iI pw, .ref aT, iI po, iI pr, iI ix, iI sd, iI gn, iI tk, iI ln, .ref aX, iI zs, iI zl, iI za, iI zf, iI ze, iI zi, .ref aR, .ref aM, .ref aG, .ref aN, .ref aQ, lI ls, lI wn, .ref aO, .ref aS, .ref aH, .ref aU, lI sc, iI zc, .ref aW, lI al, lI nr, lI dr, iI bp, lI ba, lI bb, lI hh])], [(aR, cI u 300 (uZ (uZ rd (((10 * zi) + 1) + (2 * za)) zf) (((10 * zi) + 2) + (2 * za)) (c - 48)))]]) G (jAt_1 1 rfl) (by (try unfold iR at *); omega) (by (try unfold iR at *); omega) (by (try unfold iR at *); omega) dX2_takesForward_84 rfl ?_
        refine j_aload_n G 1 rfl dX2_takesForward_85 ?_
        refine j_dup G rfl dX2_takesForward_86 ?_
        refine j_get G FX2 (jAt_1 0 rfl) 15 (by decide) q1859 rfl dX2_takesForward_87 ?_
        refine j_iconst G dX2_takesForward_90 ?_
        refine j_iadd G dX2_takesForward_91 ?_
        refine j_put (ws' := [[(y0, jO 1 [iI th, iI n, iI gr, iI pw, .ref aT, iI po, iI pr, iI ix, iI sd, iI gn, iI tk, iI ln, .ref aX, iI zs, iI zl, iI (za + 1), iI zf, iI ze, iI zi, .ref aR, .ref aM, .ref aG, .ref aN, .ref aQ, lI ls, lI wn, .ref aO, .ref aS, .ref aH, .ref aU, lI sc, iI zc, .ref aW, lI al, lI nr, lI dr, iI bp, lI ba, lI bb, lI hh])], [(aR, cI u 300 (uZ (uZ rd (((10 * zi) + 1) + (2 * za)) zf) (((10 * zi) + 2) + (2 * za)) (c - 48)))]]) G FX2 (jAt_1 0 rfl) 15 (by decide) q1859 rfl rfl rfl (Nat.le_of_ble_eq_true rfl) dX2_takesForward_92 rfl ?_
        refine j_aload_n G 1 rfl dX2_takesForward_95 ?_
        refine j_iconst G dX2_takesForward_96 ?_
        refine j_put (ws' := [[(y0, jO 1 [iI th, iI n, iI gr, iI pw, .ref aT, iI po, iI pr, iI ix, iI sd, iI gn, iI tk, iI ln, .ref aX, iI 4, iI zl, iI (za + 1), iI zf, iI ze, iI zi, .ref aR, .ref aM, .ref aG, .ref aN, .ref aQ, lI ls, lI wn, .ref aO, .ref aS, .ref aH, .ref aU, lI sc, iI zc, .ref aW, lI al, lI nr, lI dr, iI bp, lI ba, lI bb, lI hh])], [(aR, cI u 300 (uZ (uZ rd (((10 * zi) + 1) + (2 * za)) zf) (((10 * zi) + 2) + (2 * za)) (c - 48)))]]) G FX2 (jAt_1 0 rfl) 13 (by decide) q1857 rfl rfl rfl (Nat.le_of_ble_eq_true rfl) dX2_takesForward_97 rfl ?_
        refine j_iload_n G 0 rfl dX2_takesForward_100 ?_
        exact j_zret G E (by (try unfold iR at *); omega) (Or.inl ⟨(by omega), rfl, rfl⟩) ⟨by omega, by omega⟩ dX2_takesForward_101
theorem hY_X2_takesLetter : jY yX2_takesLetter 1 := ⟨by decide +kernel, by decide +kernel, by decide +kernel⟩
set_option maxHeartbeats 4000000 in
set_option maxRecDepth 100000 in
theorem c_X2_takesLetter (l : Launch) (u : jU) (y0 aT aX aR aM aG aN aQ aO aS aH aU aW : Nat) (th n gr pw po pr ix sd gn tk ln zs zl za zf ze zi zc bp ls wn sc al nr dr ba bb hh : Int) (c : Int) (hRc : iR c) (hze : 0 ≤ ze ∧ ze ≤ 255) : jC l u yX2_takesLetter cX2_takesLetter 3 (some .boolean) 1 22 0 0 [.ref y0, iI c] [[(y0, jO 1 [iI th, iI n, iI gr, iI pw, .ref aT, iI po, iI pr, iI ix, iI sd, iI gn, iI tk, iI ln, .ref aX, iI zs, iI zl, iI za, iI zf, iI ze, iI zi, .ref aR, .ref aM, .ref aG, .ref aN, .ref aQ, lI ls, lI wn, .ref aO, .ref aS, .ref aH, .ref aU, lI sc, iI zc, .ref aW, lI al, lI nr, lI dr, iI bp, lI ba, lI bb, lI hh])]] (fun v_ w_ => (((65 ≤ c ∧ c ≤ 67) ∧ ze < 64) ∧ v_ = some (iI 1) ∧ w_ = [[(y0, jO 1 [iI th, iI n, iI gr, iI pw, .ref aT, iI po, iI pr, iI ix, iI sd, iI gn, iI tk, iI ln, .ref aX, iI zs, iI zl, iI za, iI zf, iI (4 * ze + c - 65 + 1), iI zi, .ref aR, .ref aM, .ref aG, .ref aN, .ref aQ, lI ls, lI wn, .ref aO, .ref aS, .ref aH, .ref aU, lI sc, iI zc, .ref aW, lI al, lI nr, lI dr, iI bp, lI ba, lI bb, lI hh])]]) ∨ ((¬ ((65 ≤ c ∧ c ≤ 67) ∧ ze < 64)) ∧ v_ = some (iI 0) ∧ w_ = [[(y0, jO 1 [iI th, iI n, iI gr, iI pw, .ref aT, iI po, iI pr, iI ix, iI sd, iI gn, iI tk, iI ln, .ref aX, iI zs, iI zl, iI za, iI zf, iI ze, iI zi, .ref aR, .ref aM, .ref aG, .ref aN, .ref aQ, lI ls, lI wn, .ref aO, .ref aS, .ref aH, .ref aU, lI sc, iI zc, .ref aW, lI al, lI nr, lI dr, iI bp, lI ba, lI bb, lI hh])]])) := by
  refine jC.of "FlashRatchetModel" (by decide +kernel) rfl (Nat.le_of_ble_eq_true rfl) [(0, .ref y0), (1, iI c)] rfl (fun X G E I => ?_)
  refine j_iload_n G 1 rfl dX2_takesLetter_0 ?_
  refine j_bipush G (by decide) dX2_takesLetter_1 ?_
  refine j_bipush G (by decide) dX2_takesLetter_3 ?_
  refine j_callS (wr := [[(y0, jO 1 [iI th, iI n, iI gr, iI pw, .ref aT, iI po, iI pr, iI ix, iI sd, iI gn, iI tk, iI ln, .ref aX, iI zs, iI zl, iI za, iI zf, iI ze, iI zi, .ref aR, .ref aM, .ref aG, .ref aN, .ref aQ, lI ls, lI wn, .ref aO, .ref aS, .ref aH, .ref aU, lI sc, iI zc, .ref aW, lI al, lI nr, lI dr, iI bp, lI ba, lI bb, lI hh])]]) (k' := 0) (n' := 0) G (c_X2_within l u c 65 67 hRc (by unfold iR; omega) (by unfold iR; omega)) hY_X2_within q1973 q1974 q90 q1975 (jcut 1 [0] (by decide) rfl rfl) ⟨by omega, by omega, by omega, by omega, by omega, by omega⟩ (Nat.le_of_ble_eq_true rfl) dX2_takesLetter_5 rfl (fun v_ w_ hp => ?_)
  obtain ⟨r_5, h5_1, rfl, rfl⟩ := hp
  show jJ X u 3 [[(y0, jO 1 [iI th, iI n, iI gr, iI pw, .ref aT, iI po, iI pr, iI ix, iI sd, iI gn, iI tk, iI ln, .ref aX, iI zs, iI zl, iI za, iI zf, iI ze, iI zi, .ref aR, .ref aM, .ref aG, .ref aN, .ref aQ, lI ls, lI wn, .ref aO, .ref aS, .ref aH, .ref aU, lI sc, iI zc, .ref aW, lI al, lI nr, lI dr, iI bp, lI ba, lI bb, lI hh])]] [(0, .ref y0), (1, iI c)] 0 0 8 [iI r_5]
  refine j_if_eq 24 G (by unfold iR at *; omega) dX2_takesLetter_8 (by decide) (fun c_8 => ?_) (fun c_8 => ?_)
  · skip
    refine j_iconst G dX2_takesLetter_24 ?_
    refine j_istore_n G [(2, iI 0), (0, .ref y0), (1, iI c)] rfl (by decide) dX2_takesLetter_25 ?_
    refine j_aload_n G 1 rfl dX2_takesLetter_26 ?_
    refine j_iload_n G 0 rfl dX2_takesLetter_27 ?_
    refine j_if_eq 47 G (by unfold iR; omega) dX2_takesLetter_28 (by decide) (fun c_28 => ?_) (fun c_28 => ?_)
    · skip
      refine j_aload_n G 1 rfl dX2_takesLetter_47 ?_
      refine j_get G FX2 (jAt_1 0 rfl) 17 (by decide) q1861 rfl dX2_takesLetter_48 ?_
      refine j_put (ws' := [[(y0, jO 1 [iI th, iI n, iI gr, iI pw, .ref aT, iI po, iI pr, iI ix, iI sd, iI gn, iI tk, iI ln, .ref aX, iI zs, iI zl, iI za, iI zf, iI ze, iI zi, .ref aR, .ref aM, .ref aG, .ref aN, .ref aQ, lI ls, lI wn, .ref aO, .ref aS, .ref aH, .ref aU, lI sc, iI zc, .ref aW, lI al, lI nr, lI dr, iI bp, lI ba, lI bb, lI hh])]]) G FX2 (jAt_1 0 rfl) 17 (by decide) q1861 rfl rfl rfl (Nat.le_of_ble_eq_true rfl) dX2_takesLetter_51 rfl ?_
      refine j_iload_n G 0 rfl dX2_takesLetter_54 ?_
      exact j_zret G E (by (try unfold iR at *); omega) (Or.inr ⟨(by omega), rfl, rfl⟩) ⟨by omega, by omega⟩ dX2_takesLetter_55
    · exact absurd c_28 (by decide)
  · skip
    refine j_aload_n G 0 rfl dX2_takesLetter_11 ?_
    refine j_get G FX2 (jAt_1 0 rfl) 17 (by decide) q1861 rfl dX2_takesLetter_12 ?_
    refine j_bipush G (by decide) dX2_takesLetter_15 ?_
    refine j_icmp_ge 24 G (by unfold iR at *; omega) (by unfold iR; omega) dX2_takesLetter_17 (by decide) (fun c_17 => ?_) (fun c_17 => ?_)
    · skip
      refine j_iconst G dX2_takesLetter_24 ?_
      refine j_istore_n G [(2, iI 0), (0, .ref y0), (1, iI c)] rfl (by decide) dX2_takesLetter_25 ?_
      refine j_aload_n G 1 rfl dX2_takesLetter_26 ?_
      refine j_iload_n G 0 rfl dX2_takesLetter_27 ?_
      refine j_if_eq 47 G (by unfold iR; omega) dX2_takesLetter_28 (by decide) (fun c_28 => ?_) (fun c_28 => ?_)
      · skip
        refine j_aload_n G 1 rfl dX2_takesLetter_47 ?_
        refine j_get G FX2 (jAt_1 0 rfl) 17 (by decide) q1861 rfl dX2_takesLetter_48 ?_
        refine j_put (ws' := [[(y0, jO 1 [iI th, iI n, iI gr, iI pw, .ref aT, iI po, iI pr, iI ix, iI sd, iI gn, iI tk, iI ln, .ref aX, iI zs, iI zl, iI za, iI zf, iI ze, iI zi, .ref aR, .ref aM, .ref aG, .ref aN, .ref aQ, lI ls, lI wn, .ref aO, .ref aS, .ref aH, .ref aU, lI sc, iI zc, .ref aW, lI al, lI nr, lI dr, iI bp, lI ba, lI bb, lI hh])]]) G FX2 (jAt_1 0 rfl) 17 (by decide) q1861 rfl rfl rfl (Nat.le_of_ble_eq_true rfl) dX2_takesLetter_51 rfl ?_
        refine j_iload_n G 0 rfl dX2_takesLetter_54 ?_
        exact j_zret G E (by (try unfold iR at *); omega) (Or.inr ⟨(by omega), rfl, rfl⟩) ⟨by omega, by omega⟩ dX2_takesLetter_55
      · exact absurd c_28 (by decide)
    · skip
      refine j_iconst G dX2_takesLetter_20 ?_
      refine j_goto 25 G dX2_takesLetter_21 (by decide) ?_
      refine j_istore_n G [(2, iI 1), (0, .ref y0), (1, iI c)] rfl (by decide) dX2_takesLetter_25 ?_
      refine j_aload_n G 1 rfl dX2_takesLetter_26 ?_
      refine j_iload_n G 0 rfl dX2_takesLetter_27 ?_
      refine j_if_eq 47 G (by unfold iR; omega) dX2_takesLetter_28 (by decide) (fun c_28 => ?_) (fun c_28 => ?_)
      · exact absurd c_28 (by decide)
      · skip
        refine j_iconst G dX2_takesLetter_31 ?_
        refine j_aload_n G 1 rfl dX2_takesLetter_32 ?_
        refine j_get G FX2 (jAt_1 0 rfl) 17 (by decide) q1861 rfl dX2_takesLetter_33 ?_
        refine j_imul G dX2_takesLetter_36 ?_
        refine j_iload_n G 2 rfl dX2_takesLetter_37 ?_
        refine j_iadd G dX2_takesLetter_38 ?_
        refine j_bipush G (by decide) dX2_takesLetter_39 ?_
        refine j_isub G dX2_takesLetter_41 ?_
        refine j_iconst G dX2_takesLetter_42 ?_
        refine j_iadd G dX2_takesLetter_43 ?_
        refine j_goto 51 G dX2_takesLetter_44 (by decide) ?_
        refine j_put (ws' := [[(y0, jO 1 [iI th, iI n, iI gr, iI pw, .ref aT, iI po, iI pr, iI ix, iI sd, iI gn, iI tk, iI ln, .ref aX, iI zs, iI zl, iI za, iI zf, iI ((((4 * ze) + c) - 65) + 1), iI zi, .ref aR, .ref aM, .ref aG, .ref aN, .ref aQ, lI ls, lI wn, .ref aO, .ref aS, .ref aH, .ref aU, lI sc, iI zc, .ref aW, lI al, lI nr, lI dr, iI bp, lI ba, lI bb, lI hh])]]) G FX2 (jAt_1 0 rfl) 17 (by decide) q1861 rfl rfl rfl (Nat.le_of_ble_eq_true rfl) dX2_takesLetter_51 rfl ?_
        refine j_iload_n G 0 rfl dX2_takesLetter_54 ?_
        exact j_zret G E (by (try unfold iR at *); omega) (Or.inl ⟨(by omega), rfl, rfl⟩) ⟨by omega, by omega⟩ dX2_takesLetter_55
theorem hY_X2_canEnd : jY yX2_canEnd 0 := ⟨by decide +kernel, by decide +kernel, by decide +kernel⟩
set_option maxHeartbeats 4000000 in
set_option maxRecDepth 100000 in
theorem c_X2_canEnd (l : Launch) (u : jU) (y0 aT aX aR aM aG aN aQ aO aS aH aU aW : Nat) (th n gr pw po pr ix sd gn tk ln zs zl za zf ze zi zc bp ls wn sc al nr dr ba bb hh : Int) (hn : 2 ≤ n ∧ n ≤ 4) (hzs : 0 ≤ zs ∧ zs ≤ 6) (hza : zs ≠ 0 → iR za) (hze : 5 ≤ zs → 0 ≤ ze ∧ ze ≤ 255) : jC l u yX2_canEnd cX2_canEnd 1 (some .boolean) 0 0 0 0 [.ref y0] [[(y0, jO 1 [iI th, iI n, iI gr, iI pw, .ref aT, iI po, iI pr, iI ix, iI sd, iI gn, iI tk, iI ln, .ref aX, iI zs, iI zl, iI za, iI zf, iI ze, iI zi, .ref aR, .ref aM, .ref aG, .ref aN, .ref aQ, lI ls, lI wn, .ref aO, .ref aS, .ref aH, .ref aU, lI sc, iI zc, .ref aW, lI al, lI nr, lI dr, iI bp, lI ba, lI bb, lI hh])]] (fun v_ w_ => ∃ (r : Int), ((r = 1 ∧ (zs = 4 ∧ za = n ∨ zs = 6 ∧ 0 < ze)) ∨ (r = 0 ∧ ¬ ((zs = 4 ∧ za = n ∨ zs = 6 ∧ 0 < ze)))) ∧ v_ = some (iI r) ∧ w_ = [[(y0, jO 1 [iI th, iI n, iI gr, iI pw, .ref aT, iI po, iI pr, iI ix, iI sd, iI gn, iI tk, iI ln, .ref aX, iI zs, iI zl, iI za, iI zf, iI ze, iI zi, .ref aR, .ref aM, .ref aG, .ref aN, .ref aQ, lI ls, lI wn, .ref aO, .ref aS, .ref aH, .ref aU, lI sc, iI zc, .ref aW, lI al, lI nr, lI dr, iI bp, lI ba, lI bb, lI hh])]]) := by
  refine jC.of "FlashRatchetModel" (by decide +kernel) rfl (Nat.le_of_ble_eq_true rfl) [(0, .ref y0)] rfl (fun X G E I => ?_)
  refine j_aload_n G 0 rfl dX2_canEnd_0 ?_
  refine j_get G FX2 (jAt_1 0 rfl) 13 (by decide) q1857 rfl dX2_canEnd_1 ?_
  refine j_iconst G dX2_canEnd_4 ?_
  refine j_icmp_ne 19 G (by unfold iR at *; omega) (by unfold iR; omega) dX2_canEnd_5 (by decide) (fun c_5 => ?_) (fun c_5 => ?_)
  · skip
    refine j_aload_n G 0 rfl dX2_canEnd_19 ?_
    refine j_get G FX2 (jAt_1 0 rfl) 13 (by decide) q1857 rfl dX2_canEnd_20 ?_
    refine j_bipush G (by decide) dX2_canEnd_23 ?_
    refine j_icmp_ne 39 G (by unfold iR at *; omega) (by unfold iR; omega) dX2_canEnd_25 (by decide) (fun c_25 => ?_) (fun c_25 => ?_)
    · skip
      refine j_iconst G dX2_canEnd_39 ?_
      exact j_zret G E (by (try unfold iR at *); omega) ⟨0, (by omega), rfl, rfl⟩ ⟨by omega, by omega⟩ dX2_canEnd_40
    · skip
      refine j_aload_n G 0 rfl dX2_canEnd_28 ?_
      refine j_get G FX2 (jAt_1 0 rfl) 17 (by decide) q1861 rfl dX2_canEnd_29 ?_
      refine j_if_le 39 G (by have := hze (by omega); unfold iR; omega) dX2_canEnd_32 (by decide) (fun c_32 => ?_) (fun c_32 => ?_)
      · skip
        refine j_iconst G dX2_canEnd_39 ?_
        exact j_zret G E (by (try unfold iR at *); omega) ⟨0, (by omega), rfl, rfl⟩ ⟨by omega, by omega⟩ dX2_canEnd_40
      · skip
        refine j_iconst G dX2_canEnd_35 ?_
        refine j_goto 40 G dX2_canEnd_36 (by decide) ?_
        exact j_zret G E (by (try unfold iR at *); omega) ⟨1, (by omega), rfl, rfl⟩ ⟨by omega, by omega⟩ dX2_canEnd_40
  · skip
    refine j_aload_n G 0 rfl dX2_canEnd_8 ?_
    refine j_get G FX2 (jAt_1 0 rfl) 15 (by decide) q1859 rfl dX2_canEnd_9 ?_
    refine j_aload_n G 0 rfl dX2_canEnd_12 ?_
    refine j_get G FX2 (jAt_1 0 rfl) 1 (by decide) q1845 rfl dX2_canEnd_13 ?_
    refine j_icmp_eq 35 G (hza (by omega)) (by unfold iR at *; omega) dX2_canEnd_16 (by decide) (fun c_16 => ?_) (fun c_16 => ?_)
    · skip
      refine j_iconst G dX2_canEnd_35 ?_
      refine j_goto 40 G dX2_canEnd_36 (by decide) ?_
      exact j_zret G E (by (try unfold iR at *); omega) ⟨1, (by omega), rfl, rfl⟩ ⟨by omega, by omega⟩ dX2_canEnd_40
    · skip
      refine j_aload_n G 0 rfl dX2_canEnd_19 ?_
      refine j_get G FX2 (jAt_1 0 rfl) 13 (by decide) q1857 rfl dX2_canEnd_20 ?_
      refine j_bipush G (by decide) dX2_canEnd_23 ?_
      refine j_icmp_ne 39 G (by unfold iR at *; omega) (by unfold iR; omega) dX2_canEnd_25 (by decide) (fun c_25 => ?_) (fun c_25 => ?_)
      · skip
        refine j_iconst G dX2_canEnd_39 ?_
        exact j_zret G E (by (try unfold iR at *); omega) ⟨0, (by omega), rfl, rfl⟩ ⟨by omega, by omega⟩ dX2_canEnd_40
      · skip
        refine j_aload_n G 0 rfl dX2_canEnd_28 ?_
        refine j_get G FX2 (jAt_1 0 rfl) 17 (by decide) q1861 rfl dX2_canEnd_29 ?_
        refine j_if_le 39 G (by have := hze (by omega); unfold iR; omega) dX2_canEnd_32 (by decide) (fun c_32 => ?_) (fun c_32 => ?_)
        · skip
          refine j_iconst G dX2_canEnd_39 ?_
          exact j_zret G E (by (try unfold iR at *); omega) ⟨0, (by omega), rfl, rfl⟩ ⟨by omega, by omega⟩ dX2_canEnd_40
        · skip
          refine j_iconst G dX2_canEnd_35 ?_
          refine j_goto 40 G dX2_canEnd_36 (by decide) ?_
          exact j_zret G E (by (try unfold iR at *); omega) ⟨1, (by omega), rfl, rfl⟩ ⟨by omega, by omega⟩ dX2_canEnd_40
theorem hY_X2_endItem : jY yX2_endItem 0 := ⟨by decide +kernel, by decide +kernel, by decide +kernel⟩
set_option maxHeartbeats 4000000 in
set_option maxRecDepth 100000 in
theorem c_X2_endItem (l : Launch) (u : jU) (y0 aT aX aR aM aG aN aQ aO aS aH aU aW : Nat) (th n gr pw po pr ix sd gn tk ln zs zl za zf ze zi zc bp ls wn sc al nr dr ba bb hh : Int) (rd : Int → Int) (hzi : 0 ≤ zi ∧ zi ≤ 15) (hzl : 0 ≤ zl ∧ zl ≤ 3) : jC l u yX2_endItem cX2_endItem 1 none 0 0 0 0 [.ref y0] [[(y0, jO 1 [iI th, iI n, iI gr, iI pw, .ref aT, iI po, iI pr, iI ix, iI sd, iI gn, iI tk, iI ln, .ref aX, iI zs, iI zl, iI za, iI zf, iI ze, iI zi, .ref aR, .ref aM, .ref aG, .ref aN, .ref aQ, lI ls, lI wn, .ref aO, .ref aS, .ref aH, .ref aU, lI sc, iI zc, .ref aW, lI al, lI nr, lI dr, iI bp, lI ba, lI bb, lI hh])], [(aR, cI u 300 rd)]] (fun v_ w_ => v_ = none ∧ w_ = [[(y0, jO 1 [iI th, iI n, iI gr, iI pw, .ref aT, iI po, iI pr, iI ix, iI sd, iI gn, iI tk, iI ln, .ref aX, iI 0, iI zl, iI za, iI zf, iI ze, iI (zi + 1), .ref aR, .ref aM, .ref aG, .ref aN, .ref aQ, lI ls, lI wn, .ref aO, .ref aS, .ref aH, .ref aU, lI sc, iI zc, .ref aW, lI al, lI nr, lI dr, iI bp, lI ba, lI bb, lI hh])], [(aR, cI u 300 (if zl = 3 then uZ (uZ rd (10 * zi) zl) (10 * zi + 1) ze else uZ rd (10 * zi) zl))]]) := by
  refine jC.of "FlashRatchetModel" (by decide +kernel) rfl (Nat.le_of_ble_eq_true rfl) [(0, .ref y0)] rfl (fun X G E I => ?_)
  refine j_aload_n G 0 rfl dX2_endItem_0 ?_
  refine j_get G FX2 (jAt_1 0 rfl) 19 (by decide) q1863 rfl dX2_endItem_1 ?_
  refine j_bipush G (by decide) dX2_endItem_4 ?_
  refine j_aload_n G 0 rfl dX2_endItem_6 ?_
  refine j_get G FX2 (jAt_1 0 rfl) 18 (by decide) q1862 rfl dX2_endItem_7 ?_
  refine j_imul G dX2_endItem_10 ?_
  refine j_aload_n G 0 rfl dX2_endItem_11 ?_
  refine j_get G FX2 (jAt_1 0 rfl) 14 (by decide) q1858 rfl dX2_endItem_12 ?_
  refine j_iastore (ws' := [[(y0, jO 1 [iI th, iI n, iI gr, iI pw, .ref aT, iI po, iI pr, iI ix, iI sd, iI gn, iI tk, iI ln, .ref aX, iI zs, iI zl, iI za, iI zf, iI ze, iI zi, .ref aR, .ref aM, .ref aG, .ref aN, .ref aQ, lI ls, lI wn, .ref aO, .ref aS, .ref aH, .ref aU, lI sc, iI zc, .ref aW, lI al, lI nr, lI dr, iI bp, lI ba, lI bb, lI hh])], [(aR, cI u 300 (uZ rd (10 * zi) zl))]]) G (jAt_1 1 rfl) (by (try unfold iR at *); omega) (by (try unfold iR at *); omega) (by (try unfold iR at *); omega) dX2_endItem_15 rfl ?_
  refine j_aload_n G 0 rfl dX2_endItem_16 ?_
  refine j_get G FX2 (jAt_1 0 rfl) 14 (by decide) q1858 rfl dX2_endItem_17 ?_
  refine j_iconst G dX2_endItem_20 ?_
  refine j_icmp_ne 42 G (by unfold iR at *; omega) (by unfold iR; omega) dX2_endItem_21 (by decide) (fun c_21 => ?_) (fun c_21 => ?_)
  · skip
    refine j_aload_n G 0 rfl dX2_endItem_42 ?_
    refine j_dup G rfl dX2_endItem_43 ?_
    refine j_get G FX2 (jAt_1 0 rfl) 18 (by decide) q1862 rfl dX2_endItem_44 ?_
    refine j_iconst G dX2_endItem_47 ?_
    refine j_iadd G dX2_endItem_48 ?_
    refine j_put (ws' := [[(y0, jO 1 [iI th, iI n, iI gr, iI pw, .ref aT, iI po, iI pr, iI ix, iI sd, iI gn, iI tk, iI ln, .ref aX, iI zs, iI zl, iI za, iI zf, iI ze, iI (zi + 1), .ref aR, .ref aM, .ref aG, .ref aN, .ref aQ, lI ls, lI wn, .ref aO, .ref aS, .ref aH, .ref aU, lI sc, iI zc, .ref aW, lI al, lI nr, lI dr, iI bp, lI ba, lI bb, lI hh])], [(aR, cI u 300 (uZ rd (10 * zi) zl))]]) G FX2 (jAt_1 0 rfl) 18 (by decide) q1862 rfl rfl rfl (Nat.le_of_ble_eq_true rfl) dX2_endItem_49 rfl ?_
    refine j_aload_n G 0 rfl dX2_endItem_52 ?_
    refine j_iconst G dX2_endItem_53 ?_
    refine j_put (ws' := [[(y0, jO 1 [iI th, iI n, iI gr, iI pw, .ref aT, iI po, iI pr, iI ix, iI sd, iI gn, iI tk, iI ln, .ref aX, iI 0, iI zl, iI za, iI zf, iI ze, iI (zi + 1), .ref aR, .ref aM, .ref aG, .ref aN, .ref aQ, lI ls, lI wn, .ref aO, .ref aS, .ref aH, .ref aU, lI sc, iI zc, .ref aW, lI al, lI nr, lI dr, iI bp, lI ba, lI bb, lI hh])], [(aR, cI u 300 (uZ rd (10 * zi) zl))]]) G FX2 (jAt_1 0 rfl) 13 (by decide) q1857 rfl rfl rfl (Nat.le_of_ble_eq_true rfl) dX2_endItem_54 rfl ?_
    exact j_vret G E ⟨rfl, (by first | rw [if_pos c_21] | rw [if_neg c_21])⟩ ⟨by omega, by omega⟩ dX2_endItem_57
  · skip
    refine j_aload_n G 0 rfl dX2_endItem_24 ?_
    refine j_get G FX2 (jAt_1 0 rfl) 19 (by decide) q1863 rfl dX2_endItem_25 ?_
    refine j_bipush G (by decide) dX2_endItem_28 ?_
    refine j_aload_n G 0 rfl dX2_endItem_30 ?_
    refine j_get G FX2 (jAt_1 0 rfl) 18 (by decide) q1862 rfl dX2_endItem_31 ?_
    refine j_imul G dX2_endItem_34 ?_
    refine j_iconst G dX2_endItem_35 ?_
    refine j_iadd G dX2_endItem_36 ?_
    refine j_aload_n G 0 rfl dX2_endItem_37 ?_
    refine j_get G FX2 (jAt_1 0 rfl) 17 (by decide) q1861 rfl dX2_endItem_38 ?_
    refine j_iastore (ws' := [[(y0, jO 1 [iI th, iI n, iI gr, iI pw, .ref aT, iI po, iI pr, iI ix, iI sd, iI gn, iI tk, iI ln, .ref aX, iI zs, iI zl, iI za, iI zf, iI ze, iI zi, .ref aR, .ref aM, .ref aG, .ref aN, .ref aQ, lI ls, lI wn, .ref aO, .ref aS, .ref aH, .ref aU, lI sc, iI zc, .ref aW, lI al, lI nr, lI dr, iI bp, lI ba, lI bb, lI hh])], [(aR, cI u 300 (uZ (uZ rd (10 * zi) zl) ((10 * zi) + 1) ze))]]) G (jAt_1 1 rfl) (by (try unfold iR at *); omega) (by (try unfold iR at *); omega) (by (try unfold iR at *); omega) dX2_endItem_41 rfl ?_
    refine j_aload_n G 0 rfl dX2_endItem_42 ?_
    refine j_dup G rfl dX2_endItem_43 ?_
    refine j_get G FX2 (jAt_1 0 rfl) 18 (by decide) q1862 rfl dX2_endItem_44 ?_
    refine j_iconst G dX2_endItem_47 ?_
    refine j_iadd G dX2_endItem_48 ?_
    refine j_put (ws' := [[(y0, jO 1 [iI th, iI n, iI gr, iI pw, .ref aT, iI po, iI pr, iI ix, iI sd, iI gn, iI tk, iI ln, .ref aX, iI zs, iI zl, iI za, iI zf, iI ze, iI (zi + 1), .ref aR, .ref aM, .ref aG, .ref aN, .ref aQ, lI ls, lI wn, .ref aO, .ref aS, .ref aH, .ref aU, lI sc, iI zc, .ref aW, lI al, lI nr, lI dr, iI bp, lI ba, lI bb, lI hh])], [(aR, cI u 300 (uZ (uZ rd (10 * zi) zl) ((10 * zi) + 1) ze))]]) G FX2 (jAt_1 0 rfl) 18 (by decide) q1862 rfl rfl rfl (Nat.le_of_ble_eq_true rfl) dX2_endItem_49 rfl ?_
    refine j_aload_n G 0 rfl dX2_endItem_52 ?_
    refine j_iconst G dX2_endItem_53 ?_
    refine j_put (ws' := [[(y0, jO 1 [iI th, iI n, iI gr, iI pw, .ref aT, iI po, iI pr, iI ix, iI sd, iI gn, iI tk, iI ln, .ref aX, iI 0, iI zl, iI za, iI zf, iI ze, iI (zi + 1), .ref aR, .ref aM, .ref aG, .ref aN, .ref aQ, lI ls, lI wn, .ref aO, .ref aS, .ref aH, .ref aU, lI sc, iI zc, .ref aW, lI al, lI nr, lI dr, iI bp, lI ba, lI bb, lI hh])], [(aR, cI u 300 (uZ (uZ rd (10 * zi) zl) ((10 * zi) + 1) ze))]]) G FX2 (jAt_1 0 rfl) 13 (by decide) q1857 rfl rfl rfl (Nat.le_of_ble_eq_true rfl) dX2_endItem_54 rfl ?_
    exact j_vret G E ⟨rfl, (by first | rw [if_pos c_21] | rw [if_neg c_21])⟩ ⟨by omega, by omega⟩ dX2_endItem_57
theorem hY_X2_takes : jY yX2_takes 1 := ⟨by decide +kernel, by decide +kernel, by decide +kernel⟩
set_option maxHeartbeats 4000000 in
set_option maxRecDepth 100000 in
theorem c_X2_takes (l : Launch) (u : jU) (y0 aT aX aR aM aG aN aQ aO aS aH aU aW : Nat) (th n gr pw po pr ix sd gn tk ln zs zl za zf ze zi zc bp ls wn sc al nr dr ba bb hh : Int) (rd : Int → Int) (k lq num : Int) (cur : List (Int × Int)) (done : List rI) (c : Int) (hRc : iR c) (hn : 2 ≤ n ∧ n ≤ 4) (hk : k < 60) (hI : rInv n k (zs, lq, cur, num, done)) (hT : rTw rd zl za zf ze zi (zs, lq, cur, num, done)) : jC l u yX2_takes cX2_takes 2 (some .boolean) 2 44 0 0 [.ref y0, iI c] [[(y0, jO 1 [iI th, iI n, iI gr, iI pw, .ref aT, iI po, iI pr, iI ix, iI sd, iI gn, iI tk, iI ln, .ref aX, iI zs, iI zl, iI za, iI zf, iI ze, iI zi, .ref aR, .ref aM, .ref aG, .ref aN, .ref aQ, lI ls, lI wn, .ref aO, .ref aS, .ref aH, .ref aU, lI sc, iI zc, .ref aW, lI al, lI nr, lI dr, iI bp, lI ba, lI bb, lI hh])], [(aR, cI u 300 rd)]] (fun v_ w_ => (∃ (zs2 zl2 za2 zf2 ze2 zi2 lq2 num2 : Int) (cur2 : List (Int × Int)) (done2 : List rI) (rd2 : Int → Int), rNx n c (zs, lq, cur, num, done) = some (zs2, lq2, cur2, num2, done2) ∧ rTw rd2 zl2 za2 zf2 ze2 zi2 (zs2, lq2, cur2, num2, done2) ∧ v_ = some (iI 1) ∧ w_ = [[(y0, jO 1 [iI th, iI n, iI gr, iI pw, .ref aT, iI po, iI pr, iI ix, iI sd, iI gn, iI tk, iI ln, .ref aX, iI zs2, iI zl2, iI za2, iI zf2, iI ze2, iI zi2, .ref aR, .ref aM, .ref aG, .ref aN, .ref aQ, lI ls, lI wn, .ref aO, .ref aS, .ref aH, .ref aU, lI sc, iI zc, .ref aW, lI al, lI nr, lI dr, iI bp, lI ba, lI bb, lI hh])], [(aR, cI u 300 rd2)]]) ∨ (∃ (zs2 zl2 za2 zf2 ze2 zi2 : Int), rNx n c (zs, lq, cur, num, done) = none ∧ v_ = some (iI 0) ∧ w_ = [[(y0, jO 1 [iI th, iI n, iI gr, iI pw, .ref aT, iI po, iI pr, iI ix, iI sd, iI gn, iI tk, iI ln, .ref aX, iI zs2, iI zl2, iI za2, iI zf2, iI ze2, iI zi2, .ref aR, .ref aM, .ref aG, .ref aN, .ref aQ, lI ls, lI wn, .ref aO, .ref aS, .ref aH, .ref aU, lI sc, iI zc, .ref aW, lI al, lI nr, lI dr, iI bp, lI ba, lI bb, lI hh])], [(aR, cI u 300 rd)]])) := by
  refine jC.of "FlashRatchetModel" (by decide +kernel) rfl (Nat.le_of_ble_eq_true rfl) [(0, .ref y0), (1, iI c)] rfl (fun X G E I => ?_)
  have hR := tw_R hn (by omega) hI hT
  have hQ := tw_e (n := n) hT
  obtain ⟨g_1, g_2, g_3, g_4, g_5⟩ := id hT
  have L19 : (¬ (c = 59 ∧ ((zs = 4 ∧ (cur.length : Int) = n) ∨ (zs = 6 ∧ 0 < num)))) → jJ X u 2 [[(y0, jO 1 [iI th, iI n, iI gr, iI pw, .ref aT, iI po, iI pr, iI ix, iI sd, iI gn, iI tk, iI ln, .ref aX, iI zs, iI zl, iI za, iI zf, iI ze, iI zi, .ref aR, .ref aM, .ref aG, .ref aN, .ref aQ, lI ls, lI wn, .ref aO, .ref aS, .ref aH, .ref aU, lI sc, iI zc, .ref aW, lI al, lI nr, lI dr, iI bp, lI ba, lI bb, lI hh])], [(aR, cI u 300 rd)]] [(0, .ref y0), (1, iI c)] 0 0 19 [] := by
    intro hE
    refine j_aload_n G 0 rfl dX2_takes_19 ?_
    refine j_get G FX2 (jAt_1 0 rfl) 13 (by decide) q1857 rfl dX2_takes_20 ?_
    by_cases c_23 : 0 ≤ zs ∧ zs ≤ 5
    · skip
      have d_23 : zs = 0 ∨ zs = 1 ∨ zs = 2 ∨ zs = 3 ∨ zs = 4 ∨ zs = 5 := by omega
      rcases d_23 with e_23 | e_23 | e_23 | e_23 | e_23 | e_23
      · skip
        refine j_tsIn 60 G (by unfold iR at *; omega) dX2_takes_23 (by omega) (by omega) (show _ = some (37 : Int) by rw [e_23]; rfl) (by decide) ?_
        refine j_aload_n G 0 rfl dX2_takes_60 ?_
        refine j_iload_n G 1 rfl dX2_takes_61 ?_
        refine j_callV (wr := [[(aR, cI u 300 rd)]]) (k' := 0) (n' := 0) G FX2 (c_X2_begins l u y0 aT aX aR aM aG aN aQ aO aS aH aU aW th n gr pw po pr ix sd gn tk ln zs zl za zf ze zi zc bp ls wn sc al nr dr ba bb hh c hRc) (jAt_1 0 rfl) ⟨rfl, hY_X2_begins⟩ q2068 q2070 qs54 q90 q2071 (jcut 2 [0, 1] (by decide) rfl rfl) ⟨by omega, by omega, by omega, by omega, by omega, by omega⟩ (Nat.le_of_ble_eq_true rfl) dX2_takes_62 rfl (fun v_ w_ hp => ?_)
        rcases hp with ⟨h62_1, rfl, rfl⟩ | ⟨h62_1, rfl, rfl⟩ | ⟨h62_1, h62_2, rfl, rfl⟩
        · skip
          show jJ X u 2 [[(y0, jO 1 [iI th, iI n, iI gr, iI pw, .ref aT, iI po, iI pr, iI ix, iI sd, iI gn, iI tk, iI ln, .ref aX, iI 1, iI (c - 65), iI 0, iI zf, iI 0, iI zi, .ref aR, .ref aM, .ref aG, .ref aN, .ref aQ, lI ls, lI wn, .ref aO, .ref aS, .ref aH, .ref aU, lI sc, iI zc, .ref aW, lI al, lI nr, lI dr, iI bp, lI ba, lI bb, lI hh])], [(aR, cI u 300 rd)]] [(0, .ref y0), (1, iI c)] 0 0 65 [iI 1]
          exact j_zret G E (by (try unfold iR at *); omega) (Or.inl ⟨1, (c - 65), 0, zf, 0, zi, (c - 65), 0, ([]), done, rd, (by rw [rN_0 hE e_23, if_pos h62_1]), (tw_beg hT _ (by omega)), rfl, rfl⟩) ⟨by omega, by omega⟩ dX2_takes_65
        · skip
          show jJ X u 2 [[(y0, jO 1 [iI th, iI n, iI gr, iI pw, .ref aT, iI po, iI pr, iI ix, iI sd, iI gn, iI tk, iI ln, .ref aX, iI 5, iI 3, iI 0, iI zf, iI 0, iI zi, .ref aR, .ref aM, .ref aG, .ref aN, .ref aQ, lI ls, lI wn, .ref aO, .ref aS, .ref aH, .ref aU, lI sc, iI zc, .ref aW, lI al, lI nr, lI dr, iI bp, lI ba, lI bb, lI hh])], [(aR, cI u 300 rd)]] [(0, .ref y0), (1, iI c)] 0 0 65 [iI 1]
          exact j_zret G E (by (try unfold iR at *); omega) (Or.inl ⟨5, 3, 0, zf, 0, zi, 3, 0, ([]), done, rd, (by rw [rN_0 hE e_23, if_neg (by omega), if_pos h62_1]), (tw_beg hT _ (by omega)), rfl, rfl⟩) ⟨by omega, by omega⟩ dX2_takes_65
        · skip
          show jJ X u 2 [[(y0, jO 1 [iI th, iI n, iI gr, iI pw, .ref aT, iI po, iI pr, iI ix, iI sd, iI gn, iI tk, iI ln, .ref aX, iI zs, iI (c - 65), iI 0, iI zf, iI 0, iI zi, .ref aR, .ref aM, .ref aG, .ref aN, .ref aQ, lI ls, lI wn, .ref aO, .ref aS, .ref aH, .ref aU, lI sc, iI zc, .ref aW, lI al, lI nr, lI dr, iI bp, lI ba, lI bb, lI hh])], [(aR, cI u 300 rd)]] [(0, .ref y0), (1, iI c)] 0 0 65 [iI 0]
          exact j_zret G E (by (try unfold iR at *); omega) (Or.inr ⟨zs, (c - 65), 0, zf, 0, zi, (by rw [rN_0 hE e_23, if_neg h62_1, if_neg h62_2]), rfl, rfl⟩) ⟨by omega, by omega⟩ dX2_takes_65
      · skip
        refine j_tsIn 66 G (by unfold iR at *; omega) dX2_takes_23 (by omega) (by omega) (show _ = some (43 : Int) by rw [e_23]; rfl) (by decide) ?_
        refine j_aload_n G 0 rfl dX2_takes_66 ?_
        refine j_iload_n G 1 rfl dX2_takes_67 ?_
        refine j_bipush G (by decide) dX2_takes_68 ?_
        refine j_icmp_ne 77 G hRc (by unfold iR; omega) dX2_takes_70 (by decide) (fun c_70 => ?_) (fun c_70 => ?_)
        · skip
          refine j_iconst G dX2_takes_77 ?_
          refine j_iconst G dX2_takes_78 ?_
          refine j_callV (wr := [[(aR, cI u 300 rd)]]) (k' := 0) (n' := 0) G FX2 (c_X2_goes l u y0 aT aX aR aM aG aN aQ aO aS aH aU aW th n gr pw po pr ix sd gn tk ln zs zl za zf ze zi zc bp ls wn sc al nr dr ba bb hh 0 2 (by (try unfold iR at *); omega)) (jAt_1 0 rfl) ⟨rfl, hY_X2_goes⟩ q2072 q2074 qs55 q90 q2075 (jcut 2 [0, 1] (by decide) rfl rfl) ⟨by omega, by omega, by omega, by omega, by omega, by omega⟩ (Nat.le_of_ble_eq_true rfl) dX2_takes_79 rfl (fun v_ w_ hp => ?_)
          rcases hp with ⟨h79_1, rfl, rfl⟩ | ⟨h79_1, rfl, rfl⟩
          · skip
            show jJ X u 2 [[(y0, jO 1 [iI th, iI n, iI gr, iI pw, .ref aT, iI po, iI pr, iI ix, iI sd, iI gn, iI tk, iI ln, .ref aX, iI zs, iI zl, iI za, iI zf, iI ze, iI zi, .ref aR, .ref aM, .ref aG, .ref aN, .ref aQ, lI ls, lI wn, .ref aO, .ref aS, .ref aH, .ref aU, lI sc, iI zc, .ref aW, lI al, lI nr, lI dr, iI bp, lI ba, lI bb, lI hh])], [(aR, cI u 300 rd)]] [(0, .ref y0), (1, iI c)] 0 0 82 [iI 0]
            exact j_zret G E (by (try unfold iR at *); omega) (Or.inr ⟨zs, zl, za, zf, ze, zi, (by rw [rN_1 hE e_23, if_neg (by omega)]), rfl, rfl⟩) ⟨by omega, by omega⟩ dX2_takes_82
          · skip
            exact absurd h79_1 (by decide)
        · skip
          refine j_iconst G dX2_takes_73 ?_
          refine j_goto 78 G dX2_takes_74 (by decide) ?_
          refine j_iconst G dX2_takes_78 ?_
          refine j_callV (wr := [[(aR, cI u 300 rd)]]) (k' := 0) (n' := 0) G FX2 (c_X2_goes l u y0 aT aX aR aM aG aN aQ aO aS aH aU aW th n gr pw po pr ix sd gn tk ln zs zl za zf ze zi zc bp ls wn sc al nr dr ba bb hh 1 2 (by (try unfold iR at *); omega)) (jAt_1 0 rfl) ⟨rfl, hY_X2_goes⟩ q2072 q2074 qs55 q90 q2075 (jcut 2 [0, 1] (by decide) rfl rfl) ⟨by omega, by omega, by omega, by omega, by omega, by omega⟩ (Nat.le_of_ble_eq_true rfl) dX2_takes_79 rfl (fun v_ w_ hp => ?_)
          rcases hp with ⟨h79_1, rfl, rfl⟩ | ⟨h79_1, rfl, rfl⟩
          · skip
            exact absurd h79_1 (by decide)
          · skip
            show jJ X u 2 [[(y0, jO 1 [iI th, iI n, iI gr, iI pw, .ref aT, iI po, iI pr, iI ix, iI sd, iI gn, iI tk, iI ln, .ref aX, iI 2, iI zl, iI za, iI zf, iI ze, iI zi, .ref aR, .ref aM, .ref aG, .ref aN, .ref aQ, lI ls, lI wn, .ref aO, .ref aS, .ref aH, .ref aU, lI sc, iI zc, .ref aW, lI al, lI nr, lI dr, iI bp, lI ba, lI bb, lI hh])], [(aR, cI u 300 rd)]] [(0, .ref y0), (1, iI c)] 0 0 82 [iI 1]
            exact j_zret G E (by (try unfold iR at *); omega) (Or.inl ⟨2, zl, za, zf, ze, zi, lq, num, cur, done, rd, (by rw [rN_1 hE e_23, if_pos (by omega)]), (tw_go hT (by omega) (by omega) (by omega)), rfl, rfl⟩) ⟨by omega, by omega⟩ dX2_takes_82
      · skip
        refine j_tsIn 83 G (by unfold iR at *; omega) dX2_takes_23 (by omega) (by omega) (show _ = some (60 : Int) by rw [e_23]; rfl) (by decide) ?_
        refine j_aload_n G 0 rfl dX2_takes_83 ?_
        refine j_iload_n G 1 rfl dX2_takes_84 ?_
        refine j_bipush G (by decide) dX2_takes_85 ?_
        refine j_isub G dX2_takes_87 ?_
        refine j_put (ws' := [[(y0, jO 1 [iI th, iI n, iI gr, iI pw, .ref aT, iI po, iI pr, iI ix, iI sd, iI gn, iI tk, iI ln, .ref aX, iI zs, iI zl, iI za, iI (c - 48), iI ze, iI zi, .ref aR, .ref aM, .ref aG, .ref aN, .ref aQ, lI ls, lI wn, .ref aO, .ref aS, .ref aH, .ref aU, lI sc, iI zc, .ref aW, lI al, lI nr, lI dr, iI bp, lI ba, lI bb, lI hh])], [(aR, cI u 300 rd)]]) G FX2 (jAt_1 0 rfl) 16 (by decide) q1860 rfl rfl rfl (Nat.le_of_ble_eq_true rfl) dX2_takes_88 rfl ?_
        refine j_aload_n G 0 rfl dX2_takes_91 ?_
        refine j_iload_n G 1 rfl dX2_takes_92 ?_
        refine j_bipush G (by decide) dX2_takes_93 ?_
        refine j_bipush G (by decide) dX2_takes_95 ?_
        refine j_callS (wr := [[(y0, jO 1 [iI th, iI n, iI gr, iI pw, .ref aT, iI po, iI pr, iI ix, iI sd, iI gn, iI tk, iI ln, .ref aX, iI zs, iI zl, iI za, iI (c - 48), iI ze, iI zi, .ref aR, .ref aM, .ref aG, .ref aN, .ref aQ, lI ls, lI wn, .ref aO, .ref aS, .ref aH, .ref aU, lI sc, iI zc, .ref aW, lI al, lI nr, lI dr, iI bp, lI ba, lI bb, lI hh])], [(aR, cI u 300 rd)]]) (k' := 0) (n' := 0) G (c_X2_within l u c 48 57 hRc (by unfold iR; omega) (by unfold iR; omega)) hY_X2_within q1973 q1974 q90 q1975 (jcut 2 [0, 1] (by decide) rfl rfl) ⟨by omega, by omega, by omega, by omega, by omega, by omega⟩ (Nat.le_of_ble_eq_true rfl) dX2_takes_97 rfl (fun v_ w_ hp => ?_)
        obtain ⟨r_97, h97_1, rfl, rfl⟩ := hp
        show jJ X u 2 [[(y0, jO 1 [iI th, iI n, iI gr, iI pw, .ref aT, iI po, iI pr, iI ix, iI sd, iI gn, iI tk, iI ln, .ref aX, iI zs, iI zl, iI za, iI (c - 48), iI ze, iI zi, .ref aR, .ref aM, .ref aG, .ref aN, .ref aQ, lI ls, lI wn, .ref aO, .ref aS, .ref aH, .ref aU, lI sc, iI zc, .ref aW, lI al, lI nr, lI dr, iI bp, lI ba, lI bb, lI hh])], [(aR, cI u 300 rd)]] [(0, .ref y0), (1, iI c)] 0 0 100 [iI r_97, .ref y0]
        refine j_iconst G dX2_takes_100 ?_
        refine j_callV (wr := [[(aR, cI u 300 rd)]]) (k' := 0) (n' := 0) G FX2 (c_X2_goes l u y0 aT aX aR aM aG aN aQ aO aS aH aU aW th n gr pw po pr ix sd gn tk ln zs zl za (c - 48) ze zi zc bp ls wn sc al nr dr ba bb hh r_97 3 (by (try unfold iR at *); omega)) (jAt_1 0 rfl) ⟨rfl, hY_X2_goes⟩ q2072 q2074 qs55 q90 q2075 (jcut 2 [0, 1] (by decide) rfl rfl) ⟨by omega, by omega, by omega, by omega, by omega, by omega⟩ (Nat.le_of_ble_eq_true rfl) dX2_takes_101 rfl (fun v_ w_ hp => ?_)
        rcases hp with ⟨h101_1, rfl, rfl⟩ | ⟨h101_1, rfl, rfl⟩
        · skip
          show jJ X u 2 [[(y0, jO 1 [iI th, iI n, iI gr, iI pw, .ref aT, iI po, iI pr, iI ix, iI sd, iI gn, iI tk, iI ln, .ref aX, iI zs, iI zl, iI za, iI (c - 48), iI ze, iI zi, .ref aR, .ref aM, .ref aG, .ref aN, .ref aQ, lI ls, lI wn, .ref aO, .ref aS, .ref aH, .ref aU, lI sc, iI zc, .ref aW, lI al, lI nr, lI dr, iI bp, lI ba, lI bb, lI hh])], [(aR, cI u 300 rd)]] [(0, .ref y0), (1, iI c)] 0 0 104 [iI r_97]
          exact j_zret G E (by (try unfold iR at *); omega) (Or.inr ⟨zs, zl, za, (c - 48), ze, zi, (by rw [rN_2 hE e_23, if_neg (by omega)]), (by first | rfl | rw [show r_97 = 1 by omega] | rw [show r_97 = 0 by omega]), rfl⟩) ⟨by omega, by omega⟩ dX2_takes_104
        · skip
          show jJ X u 2 [[(y0, jO 1 [iI th, iI n, iI gr, iI pw, .ref aT, iI po, iI pr, iI ix, iI sd, iI gn, iI tk, iI ln, .ref aX, iI 3, iI zl, iI za, iI (c - 48), iI ze, iI zi, .ref aR, .ref aM, .ref aG, .ref aN, .ref aQ, lI ls, lI wn, .ref aO, .ref aS, .ref aH, .ref aU, lI sc, iI zc, .ref aW, lI al, lI nr, lI dr, iI bp, lI ba, lI bb, lI hh])], [(aR, cI u 300 rd)]] [(0, .ref y0), (1, iI c)] 0 0 104 [iI r_97]
          exact j_zret G E (by (try unfold iR at *); omega) (Or.inl ⟨3, zl, za, (c - 48), ze, zi, lq, (c - 48), cur, done, rd, (by rw [rN_2 hE e_23, if_pos (by omega)]), (tw_back hT e_23 _), (by first | rfl | rw [show r_97 = 1 by omega] | rw [show r_97 = 0 by omega]), rfl⟩) ⟨by omega, by omega⟩ dX2_takes_104
      · skip
        refine j_tsIn 105 G (by unfold iR at *; omega) dX2_takes_23 (by omega) (by omega) (show _ = some (82 : Int) by rw [e_23]; rfl) (by decide) ?_
        have hz3 := g_3 e_23
        refine j_aload_n G 0 rfl dX2_takes_105 ?_
        refine j_iload_n G 1 rfl dX2_takes_106 ?_
        refine j_callV (wr := []) (k' := 0) (n' := 0) G FX2 (c_X2_takesForward l u y0 aT aX aR aM aG aN aQ aO aS aH aU aW th n gr pw po pr ix sd gn tk ln zs zl za zf ze zi zc bp ls wn sc al nr dr ba bb hh rd c hRc (by (try unfold iR at *); omega) (by (try unfold iR at *); omega) (by (try unfold iR at *); omega)) (jAt_1 0 rfl) ⟨rfl, hY_X2_takesForward⟩ q2076 q2078 qs56 q90 q2079 (jcut 2 [0, 1] (by decide) rfl rfl) ⟨by omega, by omega, by omega, by omega, by omega, by omega⟩ (Nat.le_of_ble_eq_true rfl) dX2_takes_107 rfl (fun v_ w_ hp => ?_)
        rcases hp with ⟨h107_1, rfl, rfl⟩ | ⟨h107_1, rfl, rfl⟩
        · skip
          show jJ X u 2 [[(y0, jO 1 [iI th, iI n, iI gr, iI pw, .ref aT, iI po, iI pr, iI ix, iI sd, iI gn, iI tk, iI ln, .ref aX, iI 4, iI zl, iI (za + 1), iI zf, iI ze, iI zi, .ref aR, .ref aM, .ref aG, .ref aN, .ref aQ, lI ls, lI wn, .ref aO, .ref aS, .ref aH, .ref aU, lI sc, iI zc, .ref aW, lI al, lI nr, lI dr, iI bp, lI ba, lI bb, lI hh])], [(aR, cI u 300 (uZ (uZ rd (10 * zi + 1 + 2 * za) zf) (10 * zi + 2 + 2 * za) (c - 48)))]] [(0, .ref y0), (1, iI c)] 0 0 110 [iI 1]
          exact j_zret G E (by (try unfold iR at *); omega) (Or.inl ⟨4, zl, (za + 1), zf, ze, zi, lq, num, (cur ++ [(num, c - 48)]), done, (uZ (uZ rd (10 * zi + 1 + 2 * za) zf) (10 * zi + 2 + 2 * za) (c - 48)), (by rw [rN_3 hE e_23, if_pos (by omega)]), (tw_forw hn hI hT e_23 _), rfl, rfl⟩) ⟨by omega, by omega⟩ dX2_takes_110
        · skip
          show jJ X u 2 [[(y0, jO 1 [iI th, iI n, iI gr, iI pw, .ref aT, iI po, iI pr, iI ix, iI sd, iI gn, iI tk, iI ln, .ref aX, iI zs, iI zl, iI za, iI zf, iI ze, iI zi, .ref aR, .ref aM, .ref aG, .ref aN, .ref aQ, lI ls, lI wn, .ref aO, .ref aS, .ref aH, .ref aU, lI sc, iI zc, .ref aW, lI al, lI nr, lI dr, iI bp, lI ba, lI bb, lI hh])], [(aR, cI u 300 rd)]] [(0, .ref y0), (1, iI c)] 0 0 110 [iI 0]
          exact j_zret G E (by (try unfold iR at *); omega) (Or.inr ⟨zs, zl, za, zf, ze, zi, (by rw [rN_3 hE e_23, if_neg (by omega)]), rfl, rfl⟩) ⟨by omega, by omega⟩ dX2_takes_110
      · skip
        refine j_tsIn 111 G (by unfold iR at *; omega) dX2_takes_23 (by omega) (by omega) (show _ = some (88 : Int) by rw [e_23]; rfl) (by decide) ?_
        have hz4 := (g_2 (by omega)).2.1
        refine j_aload_n G 0 rfl dX2_takes_111 ?_
        refine j_iload_n G 1 rfl dX2_takes_112 ?_
        refine j_bipush G (by decide) dX2_takes_113 ?_
        refine j_icmp_ne 133 G hRc (by unfold iR; omega) dX2_takes_115 (by decide) (fun c_115 => ?_) (fun c_115 => ?_)
        · skip
          refine j_iconst G dX2_takes_133 ?_
          refine j_iconst G dX2_takes_134 ?_
          refine j_callV (wr := [[(aR, cI u 300 rd)]]) (k' := 0) (n' := 0) G FX2 (c_X2_goes l u y0 aT aX aR aM aG aN aQ aO aS aH aU aW th n gr pw po pr ix sd gn tk ln zs zl za zf ze zi zc bp ls wn sc al nr dr ba bb hh 0 2 (by (try unfold iR at *); omega)) (jAt_1 0 rfl) ⟨rfl, hY_X2_goes⟩ q2072 q2074 qs55 q90 q2075 (jcut 2 [0, 1] (by decide) rfl rfl) ⟨by omega, by omega, by omega, by omega, by omega, by omega⟩ (Nat.le_of_ble_eq_true rfl) dX2_takes_135 rfl (fun v_ w_ hp => ?_)
          rcases hp with ⟨h135_1, rfl, rfl⟩ | ⟨h135_1, rfl, rfl⟩
          · skip
            show jJ X u 2 [[(y0, jO 1 [iI th, iI n, iI gr, iI pw, .ref aT, iI po, iI pr, iI ix, iI sd, iI gn, iI tk, iI ln, .ref aX, iI zs, iI zl, iI za, iI zf, iI ze, iI zi, .ref aR, .ref aM, .ref aG, .ref aN, .ref aQ, lI ls, lI wn, .ref aO, .ref aS, .ref aH, .ref aU, lI sc, iI zc, .ref aW, lI al, lI nr, lI dr, iI bp, lI ba, lI bb, lI hh])], [(aR, cI u 300 rd)]] [(0, .ref y0), (1, iI c)] 0 0 138 [iI 0]
            exact j_zret G E (by (try unfold iR at *); omega) (Or.inr ⟨zs, zl, za, zf, ze, zi, (by rw [rN_4 hE e_23, if_neg (by omega)]), rfl, rfl⟩) ⟨by omega, by omega⟩ dX2_takes_138
          · skip
            exact absurd h135_1 (by decide)
        · skip
          refine j_aload_n G 0 rfl dX2_takes_118 ?_
          refine j_get G FX2 (jAt_1 0 rfl) 15 (by decide) q1859 rfl dX2_takes_119 ?_
          refine j_aload_n G 0 rfl dX2_takes_122 ?_
          refine j_get G FX2 (jAt_1 0 rfl) 1 (by decide) q1845 rfl dX2_takes_123 ?_
          refine j_icmp_ge 133 G (by unfold iR at *; omega) (by unfold iR at *; omega) dX2_takes_126 (by decide) (fun c_126 => ?_) (fun c_126 => ?_)
          · skip
            refine j_iconst G dX2_takes_133 ?_
            refine j_iconst G dX2_takes_134 ?_
            refine j_callV (wr := [[(aR, cI u 300 rd)]]) (k' := 0) (n' := 0) G FX2 (c_X2_goes l u y0 aT aX aR aM aG aN aQ aO aS aH aU aW th n gr pw po pr ix sd gn tk ln zs zl za zf ze zi zc bp ls wn sc al nr dr ba bb hh 0 2 (by (try unfold iR at *); omega)) (jAt_1 0 rfl) ⟨rfl, hY_X2_goes⟩ q2072 q2074 qs55 q90 q2075 (jcut 2 [0, 1] (by decide) rfl rfl) ⟨by omega, by omega, by omega, by omega, by omega, by omega⟩ (Nat.le_of_ble_eq_true rfl) dX2_takes_135 rfl (fun v_ w_ hp => ?_)
            rcases hp with ⟨h135_1, rfl, rfl⟩ | ⟨h135_1, rfl, rfl⟩
            · skip
              show jJ X u 2 [[(y0, jO 1 [iI th, iI n, iI gr, iI pw, .ref aT, iI po, iI pr, iI ix, iI sd, iI gn, iI tk, iI ln, .ref aX, iI zs, iI zl, iI za, iI zf, iI ze, iI zi, .ref aR, .ref aM, .ref aG, .ref aN, .ref aQ, lI ls, lI wn, .ref aO, .ref aS, .ref aH, .ref aU, lI sc, iI zc, .ref aW, lI al, lI nr, lI dr, iI bp, lI ba, lI bb, lI hh])], [(aR, cI u 300 rd)]] [(0, .ref y0), (1, iI c)] 0 0 138 [iI 0]
              exact j_zret G E (by (try unfold iR at *); omega) (Or.inr ⟨zs, zl, za, zf, ze, zi, (by rw [rN_4 hE e_23, if_neg (by omega)]), rfl, rfl⟩) ⟨by omega, by omega⟩ dX2_takes_138
            · skip
              exact absurd h135_1 (by decide)
          · skip
            refine j_iconst G dX2_takes_129 ?_
            refine j_goto 134 G dX2_takes_130 (by decide) ?_
            refine j_iconst G dX2_takes_134 ?_
            refine j_callV (wr := [[(aR, cI u 300 rd)]]) (k' := 0) (n' := 0) G FX2 (c_X2_goes l u y0 aT aX aR aM aG aN aQ aO aS aH aU aW th n gr pw po pr ix sd gn tk ln zs zl za zf ze zi zc bp ls wn sc al nr dr ba bb hh 1 2 (by (try unfold iR at *); omega)) (jAt_1 0 rfl) ⟨rfl, hY_X2_goes⟩ q2072 q2074 qs55 q90 q2075 (jcut 2 [0, 1] (by decide) rfl rfl) ⟨by omega, by omega, by omega, by omega, by omega, by omega⟩ (Nat.le_of_ble_eq_true rfl) dX2_takes_135 rfl (fun v_ w_ hp => ?_)
            rcases hp with ⟨h135_1, rfl, rfl⟩ | ⟨h135_1, rfl, rfl⟩
            · skip
              exact absurd h135_1 (by decide)
            · skip
              show jJ X u 2 [[(y0, jO 1 [iI th, iI n, iI gr, iI pw, .ref aT, iI po, iI pr, iI ix, iI sd, iI gn, iI tk, iI ln, .ref aX, iI 2, iI zl, iI za, iI zf, iI ze, iI zi, .ref aR, .ref aM, .ref aG, .ref aN, .ref aQ, lI ls, lI wn, .ref aO, .ref aS, .ref aH, .ref aU, lI sc, iI zc, .ref aW, lI al, lI nr, lI dr, iI bp, lI ba, lI bb, lI hh])], [(aR, cI u 300 rd)]] [(0, .ref y0), (1, iI c)] 0 0 138 [iI 1]
              exact j_zret G E (by (try unfold iR at *); omega) (Or.inl ⟨2, zl, za, zf, ze, zi, lq, num, cur, done, rd, (by rw [rN_4 hE e_23, if_pos (by omega)]), (tw_go hT (by omega) (by omega) (by omega)), rfl, rfl⟩) ⟨by omega, by omega⟩ dX2_takes_138
      · skip
        refine j_tsIn 139 G (by unfold iR at *; omega) dX2_takes_23 (by omega) (by omega) (show _ = some (116 : Int) by rw [e_23]; rfl) (by decide) ?_
        refine j_aload_n G 0 rfl dX2_takes_139 ?_
        refine j_iload_n G 1 rfl dX2_takes_140 ?_
        refine j_bipush G (by decide) dX2_takes_141 ?_
        refine j_icmp_ne 150 G hRc (by unfold iR; omega) dX2_takes_143 (by decide) (fun c_143 => ?_) (fun c_143 => ?_)
        · skip
          refine j_iconst G dX2_takes_150 ?_
          refine j_bipush G (by decide) dX2_takes_151 ?_
          refine j_callV (wr := [[(aR, cI u 300 rd)]]) (k' := 0) (n' := 0) G FX2 (c_X2_goes l u y0 aT aX aR aM aG aN aQ aO aS aH aU aW th n gr pw po pr ix sd gn tk ln zs zl za zf ze zi zc bp ls wn sc al nr dr ba bb hh 0 6 (by (try unfold iR at *); omega)) (jAt_1 0 rfl) ⟨rfl, hY_X2_goes⟩ q2072 q2074 qs55 q90 q2075 (jcut 2 [0, 1] (by decide) rfl rfl) ⟨by omega, by omega, by omega, by omega, by omega, by omega⟩ (Nat.le_of_ble_eq_true rfl) dX2_takes_153 rfl (fun v_ w_ hp => ?_)
          rcases hp with ⟨h153_1, rfl, rfl⟩ | ⟨h153_1, rfl, rfl⟩
          · skip
            show jJ X u 2 [[(y0, jO 1 [iI th, iI n, iI gr, iI pw, .ref aT, iI po, iI pr, iI ix, iI sd, iI gn, iI tk, iI ln, .ref aX, iI zs, iI zl, iI za, iI zf, iI ze, iI zi, .ref aR, .ref aM, .ref aG, .ref aN, .ref aQ, lI ls, lI wn, .ref aO, .ref aS, .ref aH, .ref aU, lI sc, iI zc, .ref aW, lI al, lI nr, lI dr, iI bp, lI ba, lI bb, lI hh])], [(aR, cI u 300 rd)]] [(0, .ref y0), (1, iI c)] 0 0 156 [iI 0]
            exact j_zret G E (by (try unfold iR at *); omega) (Or.inr ⟨zs, zl, za, zf, ze, zi, (by rw [rN_5 hE e_23, if_neg (by omega)]), rfl, rfl⟩) ⟨by omega, by omega⟩ dX2_takes_156
          · skip
            exact absurd h153_1 (by decide)
        · skip
          refine j_iconst G dX2_takes_146 ?_
          refine j_goto 151 G dX2_takes_147 (by decide) ?_
          refine j_bipush G (by decide) dX2_takes_151 ?_
          refine j_callV (wr := [[(aR, cI u 300 rd)]]) (k' := 0) (n' := 0) G FX2 (c_X2_goes l u y0 aT aX aR aM aG aN aQ aO aS aH aU aW th n gr pw po pr ix sd gn tk ln zs zl za zf ze zi zc bp ls wn sc al nr dr ba bb hh 1 6 (by (try unfold iR at *); omega)) (jAt_1 0 rfl) ⟨rfl, hY_X2_goes⟩ q2072 q2074 qs55 q90 q2075 (jcut 2 [0, 1] (by decide) rfl rfl) ⟨by omega, by omega, by omega, by omega, by omega, by omega⟩ (Nat.le_of_ble_eq_true rfl) dX2_takes_153 rfl (fun v_ w_ hp => ?_)
          rcases hp with ⟨h153_1, rfl, rfl⟩ | ⟨h153_1, rfl, rfl⟩
          · skip
            exact absurd h153_1 (by decide)
          · skip
            show jJ X u 2 [[(y0, jO 1 [iI th, iI n, iI gr, iI pw, .ref aT, iI po, iI pr, iI ix, iI sd, iI gn, iI tk, iI ln, .ref aX, iI 6, iI zl, iI za, iI zf, iI ze, iI zi, .ref aR, .ref aM, .ref aG, .ref aN, .ref aQ, lI ls, lI wn, .ref aO, .ref aS, .ref aH, .ref aU, lI sc, iI zc, .ref aW, lI al, lI nr, lI dr, iI bp, lI ba, lI bb, lI hh])], [(aR, cI u 300 rd)]] [(0, .ref y0), (1, iI c)] 0 0 156 [iI 1]
            exact j_zret G E (by (try unfold iR at *); omega) (Or.inl ⟨6, zl, za, zf, ze, zi, lq, num, cur, done, rd, (by rw [rN_5 hE e_23, if_pos (by omega)]), (tw_go hT (by omega) (by omega) (by omega)), rfl, rfl⟩) ⟨by omega, by omega⟩ dX2_takes_156
    · skip
      refine j_tsOut 157 G (by unfold iR at *; omega) dX2_takes_23 (by omega) (by decide) ?_
      have hs6 : zs = 6 := by omega
      have hz5 := g_4 (by omega)
      refine j_aload_n G 0 rfl dX2_takes_157 ?_
      refine j_iload_n G 1 rfl dX2_takes_158 ?_
      refine j_callV (wr := [[(aR, cI u 300 rd)]]) (k' := 0) (n' := 0) G FX2 (c_X2_takesLetter l u y0 aT aX aR aM aG aN aQ aO aS aH aU aW th n gr pw po pr ix sd gn tk ln zs zl za zf ze zi zc bp ls wn sc al nr dr ba bb hh c hRc (by (try unfold iR at *); omega)) (jAt_1 0 rfl) ⟨rfl, hY_X2_takesLetter⟩ q2080 q2082 qs57 q90 q2083 (jcut 2 [0, 1] (by decide) rfl rfl) ⟨by omega, by omega, by omega, by omega, by omega, by omega⟩ (Nat.le_of_ble_eq_true rfl) dX2_takes_159 rfl (fun v_ w_ hp => ?_)
      rcases hp with ⟨h159_1, rfl, rfl⟩ | ⟨h159_1, rfl, rfl⟩
      · skip
        show jJ X u 2 [[(y0, jO 1 [iI th, iI n, iI gr, iI pw, .ref aT, iI po, iI pr, iI ix, iI sd, iI gn, iI tk, iI ln, .ref aX, iI zs, iI zl, iI za, iI zf, iI (4 * ze + c - 65 + 1), iI zi, .ref aR, .ref aM, .ref aG, .ref aN, .ref aQ, lI ls, lI wn, .ref aO, .ref aS, .ref aH, .ref aU, lI sc, iI zc, .ref aW, lI al, lI nr, lI dr, iI bp, lI ba, lI bb, lI hh])], [(aR, cI u 300 rd)]] [(0, .ref y0), (1, iI c)] 0 0 162 [iI 1]
        exact j_zret G E (by (try unfold iR at *); omega) (Or.inl ⟨zs, zl, za, zf, (4 * ze + c - 65 + 1), zi, lq, (4 * num + c - 64), cur, done, rd, (by rw [rN_6 hE hs6, if_pos (by omega), hs6]), (by rw [hs6]; exact tw_let hT hs6 (by omega)), rfl, rfl⟩) ⟨by omega, by omega⟩ dX2_takes_162
      · skip
        show jJ X u 2 [[(y0, jO 1 [iI th, iI n, iI gr, iI pw, .ref aT, iI po, iI pr, iI ix, iI sd, iI gn, iI tk, iI ln, .ref aX, iI zs, iI zl, iI za, iI zf, iI ze, iI zi, .ref aR, .ref aM, .ref aG, .ref aN, .ref aQ, lI ls, lI wn, .ref aO, .ref aS, .ref aH, .ref aU, lI sc, iI zc, .ref aW, lI al, lI nr, lI dr, iI bp, lI ba, lI bb, lI hh])], [(aR, cI u 300 rd)]] [(0, .ref y0), (1, iI c)] 0 0 162 [iI 0]
        exact j_zret G E (by (try unfold iR at *); omega) (Or.inr ⟨zs, zl, za, zf, ze, zi, (by rw [rN_6 hE hs6, if_neg (by omega)]), rfl, rfl⟩) ⟨by omega, by omega⟩ dX2_takes_162
  refine j_iload_n G 1 rfl dX2_takes_0 ?_
  refine j_bipush G (by decide) dX2_takes_1 ?_
  refine j_icmp_ne 19 G hRc (by unfold iR; omega) dX2_takes_3 (by decide) (fun c_3 => ?_) (fun c_3 => ?_)
  · skip
    exact L19 (fun hh => by first | exact c_3 hh.1 | (have := hQ.mpr hh.2; omega))
  · skip
    refine j_aload_n G 0 rfl dX2_takes_6 ?_
    refine j_callV (wr := [[(aR, cI u 300 rd)]]) (k' := 0) (n' := 0) G FX2 (c_X2_canEnd l u y0 aT aX aR aM aG aN aQ aO aS aH aU aW th n gr pw po pr ix sd gn tk ln zs zl za zf ze zi zc bp ls wn sc al nr dr ba bb hh hn (by (try unfold iR at *); omega) (fun h => by have := hR.2.2.2.2.1 h; unfold iR; omega) (by omega)) (jAt_1 0 rfl) ⟨rfl, hY_X2_canEnd⟩ q2060 q2062 qs52 q90 q2063 (jcut 2 [0, 1] (by decide) rfl rfl) ⟨by omega, by omega, by omega, by omega, by omega, by omega⟩ (Nat.le_of_ble_eq_true rfl) dX2_takes_7 rfl (fun v_ w_ hp => ?_)
    obtain ⟨r_7, h7_1, rfl, rfl⟩ := hp
    show jJ X u 2 [[(y0, jO 1 [iI th, iI n, iI gr, iI pw, .ref aT, iI po, iI pr, iI ix, iI sd, iI gn, iI tk, iI ln, .ref aX, iI zs, iI zl, iI za, iI zf, iI ze, iI zi, .ref aR, .ref aM, .ref aG, .ref aN, .ref aQ, lI ls, lI wn, .ref aO, .ref aS, .ref aH, .ref aU, lI sc, iI zc, .ref aW, lI al, lI nr, lI dr, iI bp, lI ba, lI bb, lI hh])], [(aR, cI u 300 rd)]] [(0, .ref y0), (1, iI c)] 0 0 10 [iI r_7]
    refine j_if_eq 19 G (by unfold iR at *; omega) dX2_takes_10 (by decide) (fun c_10 => ?_) (fun c_10 => ?_)
    · skip
      exact L19 (fun hh => by first | exact c_3 hh.1 | (have := hQ.mpr hh.2; omega))
    · skip
      have hE := hQ.mp (by omega)
      refine j_aload_n G 0 rfl dX2_takes_13 ?_
      refine j_callV (wr := []) (k' := 0) (n' := 0) G FX2 (c_X2_endItem l u y0 aT aX aR aM aG aN aQ aO aS aH aU aW th n gr pw po pr ix sd gn tk ln zs zl za zf ze zi zc bp ls wn sc al nr dr ba bb hh rd (by (try unfold iR at *); omega) (by omega)) (jAt_1 0 rfl) ⟨rfl, hY_X2_endItem⟩ q2064 q2066 qs53 q90 q2067 (jcut 2 [0, 1] (by decide) rfl rfl) ⟨by omega, by omega, by omega, by omega, by omega, by omega⟩ (Nat.le_of_ble_eq_true rfl) dX2_takes_14 rfl (fun v_ w_ hp => ?_)
      obtain ⟨rfl, rfl⟩ := hp
      show jJ X u 2 [[(y0, jO 1 [iI th, iI n, iI gr, iI pw, .ref aT, iI po, iI pr, iI ix, iI sd, iI gn, iI tk, iI ln, .ref aX, iI 0, iI zl, iI za, iI zf, iI ze, iI (zi + 1), .ref aR, .ref aM, .ref aG, .ref aN, .ref aQ, lI ls, lI wn, .ref aO, .ref aS, .ref aH, .ref aU, lI sc, iI zc, .ref aW, lI al, lI nr, lI dr, iI bp, lI ba, lI bb, lI hh])], [(aR, cI u 300 (if zl = 3 then uZ (uZ rd (10 * zi) zl) (10 * zi + 1) ze else uZ rd (10 * zi) zl))]] [(0, .ref y0), (1, iI c)] 0 0 17 []
      refine j_iconst G dX2_takes_17 ?_
      exact j_zret G E (by (try unfold iR at *); omega) (Or.inl ⟨0, zl, za, zf, ze, (zi + 1), 0, 0, ([]), (done ++ [rItem lq cur num]), (if zl = 3 then uZ (uZ rd (10 * zi) zl) (10 * zi + 1) ze else uZ rd (10 * zi) zl), (rN_e c_3 hE), (tw_end hn hI hT hE), rfl, rfl⟩) ⟨by omega, by omega⟩ dX2_takes_18
