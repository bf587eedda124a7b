theorem hY_X2_whole : jY yX2_whole 2 := ⟨by decide +kernel, by decide +kernel, by decide +kernel⟩
set_option maxHeartbeats 4000000 in
set_option maxRecDepth 100000 in
theorem c_X2_whole (l : Launch) (u : jU) (a b : Int) (ha : -1000000000000000000 ≤ a ∧ a ≤ 1000000000000000000) (hb : 0 < b ∧ b ≤ 1000000000000000000) : jC l u yX2_whole cX2_whole 4 (some .long) 0 0 0 0 [lI a, lI b] [] (fun v_ w_ => v_ = some (lI (a / b)) ∧ w_ = []) := by
  refine jC.of "FlashRatchetModel" (by decide +kernel) rfl (Nat.le_of_ble_eq_true rfl) [(0, lI a), (2, lI b)] rfl (fun X G E I => ?_)
  refine j_lload_n G 0 rfl dX2_whole_0 ?_
  refine j_lconst 0 G rfl dX2_whole_1 ?_
  refine j_lcmp G (by unfold lR at *; omega) (by unfold lR; omega) dX2_whole_2 ?_
  have k_3 := jCmp_c a 0
  refine j_if_lt 12 G (by unfold iR at *; omega) dX2_whole_3 (by decide) (fun c_3 => ?_) (fun c_3 => ?_)
  · skip
    refine j_lload_n G 0 rfl dX2_whole_12 ?_
    refine j_lneg G dX2_whole_13 ?_
    refine j_lload_n G 1 rfl dX2_whole_14 ?_
    refine j_ladd G dX2_whole_15 ?_
    refine j_lconst 1 G rfl dX2_whole_16 ?_
    refine j_lsub G dX2_whole_17 ?_
    refine j_lload_n G 1 rfl dX2_whole_18 ?_
    refine j_ldiv G (by unfold lR at *; omega) (by unfold lR at *; omega) (by (try unfold iR at *); omega) dX2_whole_19 ?_
    refine j_lneg G dX2_whole_20 ?_
    exact j_lret G E ⟨(by first | (rw [Int.tdiv_eq_ediv_of_nonneg (by omega)]; done) | (rw [Int.tdiv_eq_ediv_of_nonneg (by omega), floor_neg hb.1, Int.neg_neg])), rfl⟩ ⟨by omega, by omega⟩ dX2_whole_21
  · skip
    refine j_lload_n G 0 rfl dX2_whole_6 ?_
    refine j_lload_n G 1 rfl dX2_whole_7 ?_
    refine j_ldiv G (by unfold lR at *; omega) (by unfold lR at *; omega) (by (try unfold iR at *); omega) dX2_whole_8 ?_
    refine j_goto 21 G dX2_whole_9 (by decide) ?_
    exact j_lret G E ⟨(by first | (rw [Int.tdiv_eq_ediv_of_nonneg (by omega)]; done) | (rw [Int.tdiv_eq_ediv_of_nonneg (by omega), floor_neg hb.1, Int.neg_neg])), rfl⟩ ⟨by omega, by omega⟩ dX2_whole_21
theorem hY_X2_sign : jY yX2_sign 4 := ⟨by decide +kernel, by decide +kernel, by decide +kernel⟩
set_option maxHeartbeats 4000000 in
set_option maxRecDepth 100000 in
theorem c_X2_sign (l : Launch) (u : jU) (a b c d : Int) (ha : -1000000000000000000 ≤ a ∧ a ≤ 1000000000000000000) (hb : 0 < b ∧ b ≤ 1000000000000000000) (hc : -1000000000000000000 ≤ c ∧ c ≤ 1000000000000000000) (hd : 0 < d ∧ d ≤ 1000000000000000000) : jC l u yX2_sign cX2_sign 25 (some .int) 1 23 0 0 [lI a, lI b, lI c, lI d] [] (fun v_ w_ => v_ = some (iI (cmpQ a b c d)) ∧ w_ = []) := by
  refine jC.of "FlashRatchetModel" (by decide +kernel) rfl (Nat.le_of_ble_eq_true rfl) [(0, lI a), (2, lI b), (4, lI c), (6, lI d)] rfl (fun X G E I => ?_)
  refine j_lload_n G 0 rfl dX2_sign_0 ?_
  refine j_lstore G [(8, lI a), (0, lI a), (2, lI b), (4, lI c), (6, lI d)] rfl (by decide) dX2_sign_1 ?_
  refine j_lload_n G 2 rfl dX2_sign_3 ?_
  refine j_lstore G [(10, lI b), (8, lI a), (0, lI a), (2, lI b), (4, lI c), (6, lI d)] rfl (by decide) dX2_sign_4 ?_
  refine j_lload G 4 rfl dX2_sign_6 ?_
  refine j_lstore G [(12, lI c), (10, lI b), (8, lI a), (0, lI a), (2, lI b), (4, lI c), (6, lI d)] rfl (by decide) dX2_sign_8 ?_
  refine j_lload G 6 rfl dX2_sign_10 ?_
  refine j_lstore G [(14, lI d), (12, lI c), (10, lI b), (8, lI a), (0, lI a), (2, lI b), (4, lI c), (6, lI d)] rfl (by decide) dX2_sign_12 ?_
  refine j_iconst G dX2_sign_14 ?_
  refine j_istore G [(16, iI 1), (14, lI d), (12, lI c), (10, lI b), (8, lI a), (0, lI a), (2, lI b), (4, lI c), (6, lI d)] rfl (by decide) dX2_sign_15 ?_
  have L17 : ∀ (m : Nat) (p : Int) (q : Int) (r : Int) (s : Int) (t : Int), q.toNat < m → (-1000000000000000000 ≤ p ∧ p ≤ 1000000000000000000) → (0 < q ∧ q ≤ 1000000000000000000) → (-1000000000000000000 ≤ r ∧ r ≤ 1000000000000000000) → (0 < s ∧ s ≤ 1000000000000000000) → (t = 1 ∨ t = -1) → t * cmpQ p q r s = cmpQ a b c d → jJ X u 25 [] [(0, lI a), (2, lI b), (4, lI c), (6, lI d), (8, lI p), (10, lI q), (12, lI r), (14, lI s), (16, iI t)] 0 0 17 [] := by
    intro m
    induction m with
    | zero =>
      intro p q r s t g1 g2 g3 g4 g5 g6 g7
      exfalso
      omega
    | succ m ih_L17 =>
      intro p q r s t g1 g2 g3 g4 g5 g6 g7
      have rp := rem_R (p := p) g3.1
      have rr := rem_R (p := r) g5.1
      have qp := quo_R g2 g3.1
      have qr := quo_R g4 g5.1
      refine j_lload G 4 rfl dX2_sign_17 ?_
      refine j_lload G 5 rfl dX2_sign_19 ?_
      refine j_callS (wr := []) (k' := 0) (n' := 0) G (c_X2_whole l u p q g2 g3) hY_X2_whole q2203 q2204 q90 q2205 (jcut 0 [] (by decide) rfl rfl) ⟨by omega, by omega, by omega, by omega, by omega, by omega⟩ (Nat.le_of_ble_eq_true rfl) dX2_sign_21 rfl (fun v_ w_ hp => ?_)
      obtain ⟨rfl, rfl⟩ := hp
      show jJ X u 25 [] [(0, lI a), (2, lI b), (4, lI c), (6, lI d), (8, lI p), (10, lI q), (12, lI r), (14, lI s), (16, iI t)] 0 0 24 [lI (p / q)]
      refine j_lstore G [(17, lI (p / q)), (0, lI a), (2, lI b), (4, lI c), (6, lI d), (8, lI p), (10, lI q), (12, lI r), (14, lI s), (16, iI t)] rfl (by decide) dX2_sign_24 ?_
      refine j_lload G 7 rfl dX2_sign_26 ?_
      refine j_lload G 8 rfl dX2_sign_28 ?_
      refine j_callS (wr := []) (k' := 0) (n' := 0) G (c_X2_whole l u r s g4 g5) hY_X2_whole q2203 q2204 q90 q2205 (jcut 0 [] (by decide) rfl rfl) ⟨by omega, by omega, by omega, by omega, by omega, by omega⟩ (Nat.le_of_ble_eq_true rfl) dX2_sign_30 rfl (fun v_ w_ hp => ?_)
      obtain ⟨rfl, rfl⟩ := hp
      show jJ X u 25 [] [(17, lI (p / q)), (0, lI a), (2, lI b), (4, lI c), (6, lI d), (8, lI p), (10, lI q), (12, lI r), (14, lI s), (16, iI t)] 0 0 33 [lI (r / s)]
      refine j_lstore G [(19, lI (r / s)), (17, lI (p / q)), (0, lI a), (2, lI b), (4, lI c), (6, lI d), (8, lI p), (10, lI q), (12, lI r), (14, lI s), (16, iI t)] rfl (by decide) dX2_sign_33 ?_
      refine j_lload G 1 rfl dX2_sign_35 ?_
      refine j_lload G 0 rfl dX2_sign_37 ?_
      refine j_lcmp G (by unfold lR at *; omega) (by unfold lR at *; omega) dX2_sign_39 ?_
      have k_40 := jCmp_c (p / q) (r / s)
      refine j_if_eq 60 G (by unfold iR at *; omega) dX2_sign_40 (by decide) (fun c_40 => ?_) (fun c_40 => ?_)
      · skip
        refine j_lload G 6 rfl dX2_sign_60 ?_
        refine j_lload G 1 rfl dX2_sign_62 ?_
        refine j_lload G 7 rfl dX2_sign_64 ?_
        refine j_lmul G dX2_sign_66 ?_
        refine j_lsub G dX2_sign_67 ?_
        refine j_lstore G [(21, lI (p - ((p / q) * q))), (19, lI (r / s)), (17, lI (p / q)), (0, lI a), (2, lI b), (4, lI c), (6, lI d), (8, lI p), (10, lI q), (12, lI r), (14, lI s), (16, iI t)] rfl (by decide) dX2_sign_68 ?_
        refine j_lload G 9 rfl dX2_sign_70 ?_
        refine j_lload G 1 rfl dX2_sign_72 ?_
        refine j_lload G 10 rfl dX2_sign_74 ?_
        refine j_lmul G dX2_sign_76 ?_
        refine j_lsub G dX2_sign_77 ?_
        refine j_lstore G [(23, lI (r - ((r / s) * s))), (21, lI (p - ((p / q) * q))), (19, lI (r / s)), (17, lI (p / q)), (0, lI a), (2, lI b), (4, lI c), (6, lI d), (8, lI p), (10, lI q), (12, lI r), (14, lI s), (16, iI t)] rfl (by decide) dX2_sign_78 ?_
        refine j_lload G 1 rfl dX2_sign_80 ?_
        refine j_lconst 0 G rfl dX2_sign_82 ?_
        refine j_lcmp G (by unfold lR at *; omega) (by unfold lR at *; omega) dX2_sign_83 ?_
        have k_84 := jCmp_c (p - ((p / q) * q)) 0
        refine j_if_eq 94 G (by unfold iR at *; omega) dX2_sign_84 (by decide) (fun c_84 => ?_) (fun c_84 => ?_)
        · skip
          refine j_lload G 1 rfl dX2_sign_94 ?_
          refine j_lload G 0 rfl dX2_sign_96 ?_
          refine j_lcmp G (by unfold lR at *; omega) (by unfold lR at *; omega) dX2_sign_98 ?_
          have k_99 := jCmp_c (p - ((p / q) * q)) (r - ((r / s) * s))
          refine j_if_ne 106 G (by unfold iR at *; omega) dX2_sign_99 (by decide) (fun c_99 => ?_) (fun c_99 => ?_)
          · skip
            refine j_lload G 1 rfl dX2_sign_106 ?_
            refine j_lconst 0 G rfl dX2_sign_108 ?_
            refine j_lcmp G (by unfold lR at *; omega) (by unfold lR at *; omega) dX2_sign_109 ?_
            have k_110 := jCmp_c (p - ((p / q) * q)) 0
            refine j_if_ne 119 G (by unfold iR at *; omega) dX2_sign_110 (by decide) (fun c_110 => ?_) (fun c_110 => ?_)
            · skip
              refine j_iload G 12 rfl dX2_sign_119 ?_
              exact j_iret G E ⟨(by rw [← g7, cmp_z g3.1 g5.1 (by omega) (by omega)]; first | (rw [if_pos (by omega), Int.mul_zero]; done) | (rw [if_neg (by omega), if_pos (by omega)]; congr 2; omega) | (rw [if_neg (by omega), if_neg (by omega)]; congr 2; omega)), rfl⟩ ⟨by omega, by omega⟩ dX2_sign_121
            · skip
              refine j_iload G 12 rfl dX2_sign_113 ?_
              refine j_ineg G dX2_sign_115 ?_
              refine j_goto 121 G dX2_sign_116 (by decide) ?_
              exact j_iret G E ⟨(by rw [← g7, cmp_z g3.1 g5.1 (by omega) (by omega)]; first | (rw [if_pos (by omega), Int.mul_zero]; done) | (rw [if_neg (by omega), if_pos (by omega)]; congr 2; omega) | (rw [if_neg (by omega), if_neg (by omega)]; congr 2; omega)), rfl⟩ ⟨by omega, by omega⟩ dX2_sign_121
          · skip
            refine j_iconst G dX2_sign_102 ?_
            refine j_goto 121 G dX2_sign_103 (by decide) ?_
            exact j_iret G E ⟨(by rw [← g7, cmp_z g3.1 g5.1 (by omega) (by omega)]; first | (rw [if_pos (by omega), Int.mul_zero]; done) | (rw [if_neg (by omega), if_pos (by omega)]; congr 2; omega) | (rw [if_neg (by omega), if_neg (by omega)]; congr 2; omega)), rfl⟩ ⟨by omega, by omega⟩ dX2_sign_121
        · skip
          refine j_lload G 0 rfl dX2_sign_87 ?_
          refine j_lconst 0 G rfl dX2_sign_89 ?_
          refine j_lcmp G (by unfold lR at *; omega) (by unfold lR at *; omega) dX2_sign_90 ?_
          have k_91 := jCmp_c (r - ((r / s) * s)) 0
          refine j_if_ne 122 G (by unfold iR at *; omega) dX2_sign_91 (by decide) (fun c_91 => ?_) (fun c_91 => ?_)
          · skip
            refine j_lload G 9 rfl dX2_sign_122 ?_
            refine j_lstore G [(8, lI q), (23, lI (r - ((r / s) * s))), (21, lI (p - ((p / q) * q))), (19, lI (r / s)), (17, lI (p / q)), (0, lI a), (2, lI b), (4, lI c), (6, lI d), (10, lI q), (12, lI r), (14, lI s), (16, iI t)] rfl (by decide) dX2_sign_124 ?_
            refine j_lload G 2 rfl dX2_sign_126 ?_
            refine j_lstore G [(10, lI (p - ((p / q) * q))), (8, lI q), (23, lI (r - ((r / s) * s))), (21, lI (p - ((p / q) * q))), (19, lI (r / s)), (17, lI (p / q)), (0, lI a), (2, lI b), (4, lI c), (6, lI d), (12, lI r), (14, lI s), (16, iI t)] rfl (by decide) dX2_sign_128 ?_
            refine j_lload G 11 rfl dX2_sign_130 ?_
            refine j_lstore G [(12, lI s), (10, lI (p - ((p / q) * q))), (8, lI q), (23, lI (r - ((r / s) * s))), (21, lI (p - ((p / q) * q))), (19, lI (r / s)), (17, lI (p / q)), (0, lI a), (2, lI b), (4, lI c), (6, lI d), (14, lI s), (16, iI t)] rfl (by decide) dX2_sign_132 ?_
            refine j_lload G 3 rfl dX2_sign_134 ?_
            refine j_lstore G [(14, lI (r - ((r / s) * s))), (12, lI s), (10, lI (p - ((p / q) * q))), (8, lI q), (23, lI (r - ((r / s) * s))), (21, lI (p - ((p / q) * q))), (19, lI (r / s)), (17, lI (p / q)), (0, lI a), (2, lI b), (4, lI c), (6, lI d), (16, iI t)] rfl (by decide) dX2_sign_136 ?_
            refine j_iload G 12 rfl dX2_sign_138 ?_
            refine j_ineg G dX2_sign_140 ?_
            refine j_istore G [(16, iI (-t)), (14, lI (r - ((r / s) * s))), (12, lI s), (10, lI (p - ((p / q) * q))), (8, lI q), (23, lI (r - ((r / s) * s))), (21, lI (p - ((p / q) * q))), (19, lI (r / s)), (17, lI (p / q)), (0, lI a), (2, lI b), (4, lI c), (6, lI d)] rfl (by decide) dX2_sign_141 ?_
            refine j_goto 17 G dX2_sign_143 (by decide) ?_
            refine j_lv [9, 10, 11, 12, 4, 3, 2, 1, 0] rfl ?_
            exact ih_L17 q (p - ((p / q) * q)) s (r - ((r / s) * s)) (-t) (by (try unfold iR at *); omega) (by (try unfold iR at *); omega) (by (try unfold iR at *); omega) (by (try unfold iR at *); omega) (by (try unfold iR at *); omega) (by (try unfold iR at *); omega) (by rw [← g7, cmp_s g3.1 g5.1 (by omega) (by omega) (by omega)]; rw [Int.neg_mul, Int.mul_neg])
          · skip
            refine j_lload G 1 rfl dX2_sign_94 ?_
            refine j_lload G 0 rfl dX2_sign_96 ?_
            refine j_lcmp G (by unfold lR at *; omega) (by unfold lR at *; omega) dX2_sign_98 ?_
            have k_99 := jCmp_c (p - ((p / q) * q)) (r - ((r / s) * s))
            refine j_if_ne 106 G (by unfold iR at *; omega) dX2_sign_99 (by decide) (fun c_99 => ?_) (fun c_99 => ?_)
            · skip
              refine j_lload G 1 rfl dX2_sign_106 ?_
              refine j_lconst 0 G rfl dX2_sign_108 ?_
              refine j_lcmp G (by unfold lR at *; omega) (by unfold lR at *; omega) dX2_sign_109 ?_
              have k_110 := jCmp_c (p - ((p / q) * q)) 0
              refine j_if_ne 119 G (by unfold iR at *; omega) dX2_sign_110 (by decide) (fun c_110 => ?_) (fun c_110 => ?_)
              · skip
                refine j_iload G 12 rfl dX2_sign_119 ?_
                exact j_iret G E ⟨(by rw [← g7, cmp_z g3.1 g5.1 (by omega) (by omega)]; first | (rw [if_pos (by omega), Int.mul_zero]; done) | (rw [if_neg (by omega), if_pos (by omega)]; congr 2; omega) | (rw [if_neg (by omega), if_neg (by omega)]; congr 2; omega)), rfl⟩ ⟨by omega, by omega⟩ dX2_sign_121
              · skip
                refine j_iload G 12 rfl dX2_sign_113 ?_
                refine j_ineg G dX2_sign_115 ?_
                refine j_goto 121 G dX2_sign_116 (by decide) ?_
                exact j_iret G E ⟨(by rw [← g7, cmp_z g3.1 g5.1 (by omega) (by omega)]; first | (rw [if_pos (by omega), Int.mul_zero]; done) | (rw [if_neg (by omega), if_pos (by omega)]; congr 2; omega) | (rw [if_neg (by omega), if_neg (by omega)]; congr 2; omega)), rfl⟩ ⟨by omega, by omega⟩ dX2_sign_121
            · skip
              refine j_iconst G dX2_sign_102 ?_
              refine j_goto 121 G dX2_sign_103 (by decide) ?_
              exact j_iret G E ⟨(by rw [← g7, cmp_z g3.1 g5.1 (by omega) (by omega)]; first | (rw [if_pos (by omega), Int.mul_zero]; done) | (rw [if_neg (by omega), if_pos (by omega)]; congr 2; omega) | (rw [if_neg (by omega), if_neg (by omega)]; congr 2; omega)), rfl⟩ ⟨by omega, by omega⟩ dX2_sign_121
      · skip
        refine j_lload G 1 rfl dX2_sign_43 ?_
        refine j_lload G 0 rfl dX2_sign_45 ?_
        refine j_lcmp G (by unfold lR at *; omega) (by unfold lR at *; omega) dX2_sign_47 ?_
        have k_48 := jCmp_c (p / q) (r / s)
        refine j_if_ge 57 G (by unfold iR at *; omega) dX2_sign_48 (by decide) (fun c_48 => ?_) (fun c_48 => ?_)
        · skip
          refine j_iload G 10 rfl dX2_sign_57 ?_
          exact j_iret G E ⟨(by first | (rw [← g7, cmp_lt g3.1 g5.1 (by omega)]; congr 2; omega) | (rw [← g7, cmp_gt g3.1 g5.1 (by omega)]; congr 2; omega)), rfl⟩ ⟨by omega, by omega⟩ dX2_sign_59
        · skip
          refine j_iload G 10 rfl dX2_sign_51 ?_
          refine j_ineg G dX2_sign_53 ?_
          refine j_goto 59 G dX2_sign_54 (by decide) ?_
          exact j_iret G E ⟨(by first | (rw [← g7, cmp_lt g3.1 g5.1 (by omega)]; congr 2; omega) | (rw [← g7, cmp_gt g3.1 g5.1 (by omega)]; congr 2; omega)), rfl⟩ ⟨by omega, by omega⟩ dX2_sign_59
  refine j_lv [5, 6, 7, 8, 4, 3, 2, 1, 0] rfl ?_
  exact L17 (b.toNat + 1) a b c d 1 (by (try unfold iR at *); omega) (by (try unfold iR at *); omega) (by (try unfold iR at *); omega) (by (try unfold iR at *); omega) (by (try unfold iR at *); omega) (by (try unfold iR at *); omega) (Int.one_mul _)
