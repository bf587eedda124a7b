/-! more rows: statics, super calls, inherited calls -/
theorem jK.z {u : jU} {U : State} {C n d : String} {z : Int32} (hK : jK u U) (h1 : Cond.laysStatic C n d ∈ lw_tbl) (h2 : Cond.initialized C ∈ lw_tbl) (h3 : Cond.eq (.static C n d) (.int z) ∈ flatC (Jvm.Cond.and given_1 narrow_1)) : va_Z C n d (.int z) (jA u) U U.heap := by
  obtain ⟨s0, b0, h, hw, hz, hk⟩ := hK
  have hA : ∀ a : Nat, a < s0.heap.size → ¬ jA u a := fun a ha hA => by
    have : jb u ≤ a := hA
    rw [h.2.2.1] at this
    omega
  have h0 : va_Z C n d (.int z) (jA u) s0 s0.heap := va_Zof (h.1 _ h1) (h.1 _ h2) (va_eqi (flat_of_before _ h.2.1 _ h3)) hA
  exact (va_Z.moved hw.alike h0).kept (fun a ha _ => hk a ha)
theorem lw_SU {own : String} {idx : Nat} {y : MethodName} {b : ByteArray} {L : Nat} {r : Option FieldType} (h1 : Cond.methodLink own idx y ∈ lw_all) (h2 : Cond.sameMethod y.cls y.cls y.name y.desc ∈ lw_all) (h3 : Cond.superclass own y.cls ∈ lw_all) (h4 : Cond.instanceMethod y ∈ lw_all) (h5 : Cond.initialized y.cls ∈ lw_all) (h6 : Cond.code y b L r ∈ lw_all) : GoodIn lw_all (va_wsSU own idx y (ws_ y b L r)) := by
  refine lw_app ?_ (lw_meth h6)
  intro w hw
  simp only [List.mem_cons, List.not_mem_nil, or_false] at hw
  rcases hw with e | e | e | e | e
  · rw [e]; exact h1
  · rw [e]; exact h2
  · rw [e]; exact h3
  · rw [e]; exact h4
  · rw [e]; exact h5
theorem lw_U {own C owner : String} {idx : Nat} {x y : MethodName} {b : ByteArray} {L : Nat} {r : Option FieldType} (h1 : Cond.methodLink own idx x ∈ lw_all) (h2 : Cond.sameMethod x.cls owner x.name x.desc ∈ lw_all) (h3 : Cond.selects C x y ∈ lw_all) (h4 : Cond.instanceMethod y ∈ lw_all) (h5 : Cond.initialized y.cls ∈ lw_all) (h6 : Cond.code y b L r ∈ lw_all) : GoodIn lw_all (va_wsU own idx C owner x y (ws_ y b L r)) := by
  refine lw_app ?_ (lw_meth h6)
  intro w hw
  simp only [List.mem_cons, List.not_mem_nil, or_false] at hw
  rcases hw with e | e | e | e | e
  · rw [e]; exact h1
  · rw [e]; exact h2
  · rw [e]; exact h3
  · rw [e]; exact h4
  · rw [e]; exact h5
section
variable {X : jX} {l : Launch} {u : jU} {own : String} {cc : ByteArray} {nL : Nat} {ret : Option FieldType} {Rf Rl Rc Rs : Nat} {ws : List va_W} {lv : List (Nat × Value)} {k n pc : Nat} {st : List Value}
theorem j_getsi {C nm de : String} {index : Nat} (z : Int) (G : jG X l u own cc nL ret Rf Rl Rc Rs) (hf : Cond.fieldLink own index C nm de ∈ lw_all) (h1 : Cond.laysStatic C nm de ∈ lw_tbl) (h2 : Cond.initialized C ∈ lw_tbl) (h3 : Cond.eq (.static C nm de) (.int (Int32.ofInt z)) ∈ flatC (Jvm.Cond.and given_1 narrow_1)) (d : decode cc pc = .ok (.getstatic index, 3)) (kk : jJ X u nL ws lv k n (pc + 3) (iI z :: st)) : jJ X u nL ws lv k n pc st := by
  obtain ⟨p, l', e, R', s, m, args, below, meth, c, Q, tl⟩ := X
  obtain ⟨hx, hb, hml, hr, hlk, hown, hts, hK, hR, hl'⟩ := G
  intro H locs ls hP hD hS hl
  exact va_gets hx hb (hK.z h1 h2 h3) hS hown (hts _ hf) (fun _ h => h) d (kk H locs ls hP hD hS hl)
theorem j_getsq {C nm de : String} {index : Nat} (G : jG X l u own cc nL ret Rf Rl Rc Rs) (hf : Cond.fieldLink own index C nm de ∈ lw_all) (h1 : Cond.laysStatic C nm de ∈ lw_tbl) (h2 : Cond.initialized C ∈ lw_tbl) (h3 : Cond.isRef (.static C nm de) ∈ flatC (Jvm.Cond.and given_1 narrow_1)) (d : decode cc pc = .ok (.getstatic index, 3)) (kk : ∀ o : Option Nat, jJ X u nL ws lv k n (pc + 3) (va_rf o :: st)) : jJ X u nL ws lv k n pc st := by
  obtain ⟨p, l', e, R', s, m, args, below, meth, c, Q, tl⟩ := X
  obtain ⟨hx, hb, hml, hr, hlk, hown, hts, hK, hR, hl'⟩ := G
  intro H locs ls hP hD hS hl
  rcases (hK.zq h1 h2 h3).1 with h | ⟨t, h⟩
  · exact va_gets hx hb h hS hown (hts _ hf) (fun _ h => h) d (kk none H locs ls hP hD hS hl)
  · exact va_gets hx hb h hS hown (hts _ hf) (fun _ h => h) d (kk (some t) H locs ls hP hD hS hl)
theorem j_callU {C owner : String} {T : u_T} {N ci : Nat} {ty : Nat → FieldType} {y : MethodName} {cb : ByteArray} {nL' index a : Nat} {ret' : Option FieldType} {fr lo mc ms k' n' : Nat} {As : List Value} {w1 wr : List va_W} {fs : List Value} {up : va_E → List va_W} {post : Option Value → List va_W → Prop} (G : jG X l u own cc nL ret Rf Rl Rc Rs) (F : jF C T N ci ty) (hM : jC l u y cb nL' ret' fr lo mc ms (.ref a :: As) w1 post) (h : jAt ws a (.inr (ci, fs)) up) (hY : y.cls = owner ∧ jY y As.length)
    (q1 : Cond.methodLink own index y ∈ lw_all) (q2 : Cond.sameMethod y.cls owner y.name y.desc ∈ lw_all) (q3 : Cond.selects C y y ∈ lw_all) (q4 : Cond.instanceMethod y ∈ lw_all) (q5 : Cond.initialized y.cls ∈ lw_all) (q6 : Cond.code y cb nL' ret' ∈ lw_all)
    (hcut : ∀ tl : va_W, (ws.flatten ++ tl).Perm (w1.flatten ++ (wr.flatten ++ tl))) (hk : fr + 1 ≤ Rf ∧ 8 + (nL' + 11) + lo ≤ Rl ∧ k + mc ≤ k' ∧ k' ≤ Rc ∧ n + ms ≤ n' ∧ n' ≤ Rs) (hst : (st.map fun v => v.category).sum ≤ 8)
    (d : decode cc pc = .ok (.invokevirtual index, 3)) {st0 : List Value} (hst0 : st0 = As.reverse ++ .ref a :: st) (kk : ∀ (v : Option Value) (w : List va_W), post v w → jJ X u nL (w ++ wr) lv k' n' (pc + 3) (v.toList ++ st)) : jJ X u nL ws lv k n pc st0 := by
  obtain ⟨p, l', e, R', s, m, args, below, meth, c, Q, tl⟩ := X
  obtain ⟨hx, hb, hml, hr, hlk, hown, hts, hK, hR, hl'⟩ := G
  obtain ⟨hyo, hY⟩ := hY
  subst hyo
  intro H locs ls hP hD hS hl
  subst hR
  subst hl'
  subst hst0
  exact j_run (va_runU (As := As) (rest := st) (b := a) (C := C) ⟨hx, hb, hml, hown, hts⟩ (hM (wr.flatten ++ tl)) (va_cwU As.length hts (lw_U q1 q2 q3 q4 q5 q6) rfl rfl rfl rfl hY ⟨hk.1, hk.2.1⟩) ⟨jPre.blind, j_recv hK F.2.1 h hP, fun U hU hW => ⟨rfl, hK.moved hS hU hW, by rw [hU]; exact hP.perm (hcut tl), hD.perm (hcut tl)⟩⟩ rfl rfl hl.1 rfl (lv_room hst) d ⟨Nat.le_trans hk.2.2.1 hk.2.2.2.1, Nat.le_trans hk.2.2.2.2.1 hk.2.2.2.2.2⟩) hS hl hk.2.2.1 hk.2.2.2.2.1 kk
theorem j_callSU {C : String} {T : u_T} {N ci : Nat} {ty : Nat → FieldType} {y : MethodName} {cb : ByteArray} {nL' index a : Nat} {ret' : Option FieldType} {fr lo mc ms k' n' : Nat} {As : List Value} {w1 wr : List va_W} {fs : List Value} {up : va_E → List va_W} {post : Option Value → List va_W → Prop} (G : jG X l u own cc nL ret Rf Rl Rc Rs) (F : jF C T N ci ty) (hM : jC l u y cb nL' ret' fr lo mc ms (.ref a :: As) w1 post) (h : jAt ws a (.inr (ci, fs)) up) (hY : y.name ≠ "<init>" ∧ (parseMethodDescriptor y.desc).map (fun d => d.parameters.length) = some As.length)
    (q1 : Cond.methodLink own index y ∈ lw_all) (q2 : Cond.sameMethod y.cls y.cls y.name y.desc ∈ lw_all) (q3 : Cond.superclass own y.cls ∈ lw_all) (q4 : Cond.instanceMethod y ∈ lw_all) (q5 : Cond.initialized y.cls ∈ lw_all) (q6 : Cond.code y cb nL' ret' ∈ lw_all)
    (hcut : ∀ tl : va_W, (ws.flatten ++ tl).Perm (w1.flatten ++ (wr.flatten ++ tl))) (hk : fr + 1 ≤ Rf ∧ 8 + (nL' + 11) + lo ≤ Rl ∧ k + mc ≤ k' ∧ k' ≤ Rc ∧ n + ms ≤ n' ∧ n' ≤ Rs) (hst : (st.map fun v => v.category).sum ≤ 8)
    (d : decode cc pc = .ok (.invokespecial index, 3)) {st0 : List Value} (hst0 : st0 = As.reverse ++ .ref a :: st) (kk : ∀ (v : Option Value) (w : List va_W), post v w → jJ X u nL (w ++ wr) lv k' n' (pc + 3) (v.toList ++ st)) : jJ X u nL ws lv k n pc st0 := by
  obtain ⟨p, l', e, R', s, m, args, below, meth, c, Q, tl⟩ := X
  obtain ⟨hx, hb, hml, hr, hlk, hown, hts, hK, hR, hl'⟩ := G
  intro H locs ls hP hD hS hl
  subst hR
  subst hl'
  subst hst0
  exact j_run (va_runSU (As := As) (rest := st) (b := a) (C := C) (cC := (jD u).1 ci) (hK.K.1 ci _ F.2.1).2 ⟨hx, hb, hml, hown, hts⟩ (hM (wr.flatten ++ tl)) (va_cwSU As.length hts (lw_SU q1 q2 q3 q4 q5 q6) rfl rfl rfl hY ⟨hk.1, hk.2.1⟩) ⟨jPre.blind, j_recv hK F.2.1 h hP, fun U hU hW => ⟨rfl, hK.moved hS hU hW, by rw [hU]; exact hP.perm (hcut tl), hD.perm (hcut tl)⟩⟩ rfl rfl hl.1 rfl (lv_room hst) d ⟨Nat.le_trans hk.2.2.1 hk.2.2.2.1, Nat.le_trans hk.2.2.2.2.1 hk.2.2.2.2.2⟩) hS hl hk.2.2.1 hk.2.2.2.2.1 kk
end
theorem jE1 : Cond.eq (.static "java/lang/String" "COMPACT_STRINGS" "Z") (.int (Int32.ofInt 1)) ∈ flatC (Jvm.Cond.and given_1 narrow_1) := by decide +kernel
theorem jE2 : Cond.isRef (.static "jdk/internal/util/Preconditions" "SIOOBE_FORMATTER" "Ljava/util/function/BiFunction;") ∈ flatC (Jvm.Cond.and given_1 narrow_1) := by decide +kernel
theorem jByt_f : ∀ a : Fin 128, jByt ((a : Nat) : Int) = ((a : Nat) : Int) := by decide +kernel
theorem jByt_c {a : Int} (h : 0 ≤ a ∧ a < 128) : jByt a = a := by
  obtain ⟨x, rfl⟩ := fin_of (n := 128) h.1 h.2
  exact jByt_f x
theorem jChr_f : ∀ a : Fin 128, jChr (jAnd ((a : Nat) : Int) 255) = ((a : Nat) : Int) ∧ jChr ((a : Nat) : Int) = ((a : Nat) : Int) := by decide +kernel
theorem jChr_c {a : Int} (h : 0 ≤ a ∧ a < 128) : jChr (jAnd a 255) = a ∧ jChr a = a := by
  obtain ⟨x, rfl⟩ := fin_of (n := 128) h.1 h.2
  exact jChr_f x
theorem jShr_60 : jShr 60 0 = 60 := by decide +kernel
theorem jNar_f : ∀ a : Fin 128, vp_nar .byte (Int32.ofInt ((a : Nat) : Int)) = Int32.ofInt ((a : Nat) : Int) := by decide +kernel
theorem jNar_c {a : Int} (h : 0 ≤ a ∧ a < 128) : vp_nar .byte (Int32.ofInt a) = Int32.ofInt a := by
  obtain ⟨x, rfl⟩ := fin_of (n := 128) h.1 h.2
  exact jNar_f x
