/-! a private method of the class above -/
theorem jK.priv {u : jU} {U : State} {y : MethodName} {args : Array Value} (hK : jK u U) (hw : Cond.privateMethod y ∈ lw_tbl) : (Cond.privateMethod y).before args U = true := by
  obtain ⟨s0, b0, h1, h2, -⟩ := hK
  have e := h1.1 _ hw
  rw [← Cond.privateMethod_setVm h2.alike] at e
  exact va_tabs (A := #[Value.ref b0]) (u := s0.setVm U.vm) rfl rfl e
theorem jSel_priv {C : String} {cC : ClassId} {y z : MethodName} {s : State} {args : Array Value} (hC : ClassAt s C cC) (hy : y.cls ≠ "java/lang/invoke/MethodHandle" ∧ y.cls ≠ "java/lang/invoke/VarHandle") (hpriv : (Cond.privateMethod y).before args s = true) (hinst : (Cond.instanceMethod y).before args s = true) (hz : (Cond.selects C z z).before args s = true) (hzc : z.cls = y.cls) : (Cond.selects C y y).before args s = true := by
  obtain ⟨mk, methM, hnamed, hmethM, -, -⟩ := Cond.instanceMethod_spec hinst
  have hfound : s.methodFound? y.cls y.name y.desc = some mk := State.methodFound?_of_named hnamed hy
  obtain ⟨c2, r2, m2, h1, h2, h3, h4, k2, h5, h6⟩ := Cond.selects_spec hz
  have e : mk.cls = m2.cls := by
    have a := findClass_of_methodNamed hnamed
    have b := findClass_of_methodNamed h3
    rw [hzc] at b
    exact Option.some.inj (a.symm.trans b)
  have hsel : selectMethod {} s.vm cC mk = .method mk := selectMethod_private hmethM (Cond.privateMethod_at hpriv mk methM hnamed hmethM)
  rw [← e] at h5
  simp only [Cond.before, Cond.holds, Cond.value, hC.1, hfound, hnamed, hsel, h5]
  simp [h6]
section
variable {X : jX} {l : Launch} {u : jU} {own : String} {cc : ByteArray} {nL : Nat} {ret : Option FieldType} {Rf Rl Rc Rs : Nat} {ws : List va_W} {lv : List (Nat × Value)} {k n pc : Nat} {st : List Value}
theorem j_callP {C : String} {T : u_T} {N ci : Nat} {ty : Nat → FieldType} {y z : MethodName} {cb : ByteArray} {nL' index a : Nat} {ret' : Option FieldType} {fr lo mc ms k' n' : Nat} {As : List Value} {w1 wr : List va_W} {fs : List Value} {up : va_E → List va_W} {post : Option Value → List va_W → Prop} (G : jG X l u own cc nL ret Rf Rl Rc Rs) (F : jF C T N ci ty) (hM : jC l u y cb nL' ret' fr lo mc ms (.ref a :: As) w1 post) (h : jAt ws a (.inr (ci, fs)) up) (hY : jY y As.length)
    (q1 : Cond.methodLink own index y ∈ lw_all) (q2 : Cond.privateMethod y ∈ lw_tbl) (q3 : z.cls = y.cls ∧ Cond.selects C z z ∈ lw_all) (q4 : Cond.instanceMethod y ∈ lw_all) (q5 : Cond.initialized y.cls ∈ lw_all) (q6 : Cond.code y cb nL' ret' ∈ lw_all) (q7 : Cond.sameMethod y.cls y.cls y.name y.desc ∈ lw_all)
    (hcut : ∀ tl : va_W, (ws.flatten ++ tl).Perm (w1.flatten ++ (wr.flatten ++ tl))) (hk : fr + 1 ≤ Rf ∧ 8 + (nL' + 11) + lo ≤ Rl ∧ k + mc ≤ k' ∧ k' ≤ Rc ∧ n + ms ≤ n' ∧ n' ≤ Rs) (hst : (st.map fun v => v.category).sum ≤ 8)
    (d : decode cc pc = .ok (.invokevirtual index, 3)) {st0 : List Value} (hst0 : st0 = As.reverse ++ .ref a :: st) (kk : ∀ (v : Option Value) (w : List va_W), post v w → jJ X u nL (w ++ wr) lv k' n' (pc + 3) (v.toList ++ st)) : jJ X u nL ws lv k n pc st0 := by
  obtain ⟨p, l', e, R', s, m, args, below, meth, c, Q, tl⟩ := X
  obtain ⟨hx, hb, hml, hr, hlk, hown, hts, hK, hR, hl'⟩ := G
  intro H locs ls hP hD hS hl
  subst hR
  subst hl'
  subst hst0
  have hsel : (Cond.selects C y y).before args s = true := jSel_priv (hK.K.1 ci _ F.2.1).2 ⟨hY.1, hY.2.1⟩ (hK.priv q2) (hts _ q4) (hts _ q3.2) q3.1
  have hlen : ∀ sig, parseMethodDescriptor y.desc = some sig → As.length = sig.parameters.length := fun sig h => by
    have h2 := hY.2.2
    rw [h] at h2
    exact (Option.some.inj h2).symm
  exact j_run (va_runU (As := As) (rest := st) (b := a) (C := C) (owner := y.cls) (x := y) ⟨hx, hb, hml, hown, hts⟩ (hM (wr.flatten ++ tl)) ⟨⟨rfl, rfl, hk.1, hk.2.1, pay_in hts (lw_meth q6), List.mem_cons_self⟩, hts _ q6, hts _ q5, ⟨hY.1, hY.2.1⟩, hlen, hts _ q1, hts _ q7, va_Decl.of (hts _ q4) (hts _ q6), hsel, hts _ q4⟩ ⟨jPre.blind, j_recv hK F.2.1 h hP, fun U hU hW => ⟨rfl, hK.moved hS hU hW, by rw [hU]; exact hP.perm (hcut tl), hD.perm (hcut tl)⟩⟩ rfl rfl hl.1 rfl (lv_room hst) d ⟨Nat.le_trans hk.2.2.1 hk.2.2.2.1, Nat.le_trans hk.2.2.2.2.1 hk.2.2.2.2.2⟩) hS hl hk.2.2.1 hk.2.2.2.2.1 kk
end
theorem jNarC_f : ∀ a : Fin 128, narrow FieldType.char (iI ((a : Nat) : Int)) = iI ((a : Nat) : Int) := by decide +kernel
theorem jNarC_c {a : Int} (h : 0 ≤ a ∧ a < 128) : narrow FieldType.char (iI a) = iI a := by
  obtain ⟨x, rfl⟩ := fin_of (n := 128) h.1 h.2
  exact jNarC_f x
theorem jMin_code : Cond.code Lib.Math.min.name Lib.Math.min.code 2 (some .int) ∈ lw_all := q292
section
variable {X : jX} {l : Launch} {u : jU} {own : String} {cc : ByteArray} {nL : Nat} {ret : Option FieldType} {Rf Rl Rc Rs : Nat} {ws : List va_W} {lv : List (Nat × Value)} {k n pc : Nat} {st : List Value}
theorem j_mmin {index : Nat} {a b : Int} (G : jG X l u own cc nL ret Rf Rl Rc Rs) (ha : iR a) (hb : iR b) (q1 : Cond.methodLink own index Lib.Math.min.name ∈ lw_all) (q2 : Cond.static Lib.Math.min.name ∈ lw_all) (q3 : Cond.initialized "java/lang/Math" ∈ lw_all) (hk : 1 ≤ Rf ∧ 21 ≤ Rl ∧ k ≤ Rc ∧ n ≤ Rs) (hst : (st.map fun v => v.category).sum ≤ 8) (d : decode cc pc = .ok (.invokestatic index, 3)) (kk : jJ X u nL ws lv k n (pc + 3) (iI (if b < a then b else a) :: st)) : jJ X u nL ws lv k n pc (iI b :: iI a :: st) := by
  obtain ⟨p, l', e, R', s, m, args, below, meth, c, Q, tl⟩ := X
  obtain ⟨hx, hb', hml, hr, hlk, hown, hts, hK, hR, hl'⟩ := G
  intro H locs ls hP hD hS hl
  subst hR
  refine va_mmin hx hb' (by rw [hml]; exact hl.1.symm) hown (hts _ q1) (hts _ q2) (hts _ q3) (hts _ jMin_code) hk.1 (by show _ + 13 ≤ Rl; omega) hk.2.2.1 hk.2.2.2 d ?_
  have e1 : (if Int32.ofInt b < Int32.ofInt a then Int32.ofInt b else Int32.ofInt a) = Int32.ofInt (if b < a then b else a) := by
    by_cases h : b < a
    · rw [if_pos h, if_pos (Int32.lt_iff_toInt_lt.mpr (by rw [iI_toInt ha, iI_toInt hb]; exact h))]
    · rw [if_neg h, if_neg (fun h2 => h (by have := Int32.lt_iff_toInt_lt.mp h2; rw [iI_toInt ha, iI_toInt hb] at this; exact this))]
  have kk' := kk H locs ls hP hD hS hl
  rw [e1]
  exact kk'
end
