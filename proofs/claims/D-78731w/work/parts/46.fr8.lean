theorem hY_X4_init : jY yX4_init 1 := ⟨by decide +kernel, by decide +kernel, by decide +kernel⟩
set_option maxHeartbeats 4000000 in
set_option maxRecDepth 100000 in
theorem c_X4_init (l : Launch) (u : jU) (r0 x0 : Nat)  : jC l u yX4_init cX4_init 2 none 1 20 2 120 [.ref r0, .ref x0] [[(r0, jO 3 [.null, .null, iI 0, iI 0, iI 0, iI 0, iI 0, iI 0, iI 0, .null])]] (fun v_ w_ => ∃ (aw av : Nat), v_ = none ∧ w_ = [[(r0, jO 3 [.ref aw, .ref av, iI 0, iI 0, iI 0, iI 0, iI 0, iI 0, iI 0, .ref x0])], [(aw, cI u 60 (fun _ => 0))], [(av, cI u 60 (fun _ => 0))]]) := by
  refine jC.of "FlashRatchet$Reader" (by decide +kernel) rfl (Nat.le_of_ble_eq_true rfl) [(0, .ref r0), (1, .ref x0)] rfl (fun X G E I => ?_)
  have I := I rfl
  refine j_aload_n G 0 rfl dX4_init_0 ?_
  refine j_aload_n G 1 rfl dX4_init_1 ?_
  refine j_putF (ws' := [[(r0, jO 3 [.null, .null, iI 0, iI 0, iI 0, iI 0, iI 0, iI 0, iI 0, .ref x0])]]) G I FX4 (jAt_1 0 rfl) 9 (by decide) q593 rfl rfl rfl rfl (Nat.le_of_ble_eq_true rfl) dX4_init_2 rfl ?_
  refine j_aload_n G 0 rfl dX4_init_5 ?_
  refine j_objInit G q581 q136 q137 ⟨by omega, by omega⟩ (Nat.le_of_ble_eq_true rfl) dX4_init_6 ?_
  refine j_aload_n G 0 rfl dX4_init_9 ?_
  refine j_bipush G (by decide) dX4_init_10 ?_
  refine j_newarr_i (k' := 1) (n' := 60) 60 G q170 rfl (by (try unfold iR at *); omega) ⟨by omega, by omega, by omega, by omega⟩ dX4_init_12 (fun o12 => ?_)
  refine j_putF (ws' := [[(o12, cI u 60 (fun _ => 0))], [(r0, jO 3 [.ref o12, .null, iI 0, iI 0, iI 0, iI 0, iI 0, iI 0, iI 0, .ref x0])]]) G I FX4 (jAt_1 1 rfl) 0 (by decide) q582 rfl rfl rfl rfl (Nat.le_of_ble_eq_true rfl) dX4_init_14 rfl ?_
  refine j_aload_n G 0 rfl dX4_init_17 ?_
  refine j_bipush G (by decide) dX4_init_18 ?_
  refine j_newarr_i (k' := 2) (n' := 120) 60 G q170 rfl (by (try unfold iR at *); omega) ⟨by omega, by omega, by omega, by omega⟩ dX4_init_20 (fun o20 => ?_)
  refine j_putF (ws' := [[(o20, cI u 60 (fun _ => 0))], [(o12, cI u 60 (fun _ => 0))], [(r0, jO 3 [.ref o12, .ref o20, iI 0, iI 0, iI 0, iI 0, iI 0, iI 0, iI 0, .ref x0])]]) G I FX4 (jAt_1 2 rfl) 1 (by decide) q583 rfl rfl rfl rfl (Nat.le_of_ble_eq_true rfl) dX4_init_22 rfl ?_
  refine j_ws (ws' := [[(r0, jO 3 [.ref o12, .ref o20, iI 0, iI 0, iI 0, iI 0, iI 0, iI 0, iI 0, .ref x0])], [(o12, cI u 60 (fun _ => 0))], [(o20, cI u 60 (fun _ => 0))]]) (jperm 3 [2, 1, 0] (by decide) rfl rfl) ?_
  exact j_vret G E ⟨o12, o20, rfl, rfl⟩ ⟨by omega, by omega⟩ dX4_init_25
