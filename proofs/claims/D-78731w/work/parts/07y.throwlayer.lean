/-! THE LAYER for methods that throw or catch -/
set_option maxRecDepth 100000
def jXP (u : jU) (xp : String → List va_W → Prop) (tl : va_W) : String → State → State → Prop := fun E st t => (∃ ws : List va_W, xp E ws ∧ va_P (jD u) jCl (ws.flatten ++ tl) t.heap ∧ va_D (jA u) (ws.flatten ++ tl)) ∧ va_F (jA u) st t
/-- the contract of a method that returns (post) or throws (xp: the exception's class, the world) -/
def jCX (l : Launch) (u : jU) (y : MethodName) (cc : ByteArray) (nL : Nat) (ret : Option FieldType) (fr lo mc ms : Nat) (av : List Value) (ws : List va_W) (post : Option Value → List va_W → Prop) (xp : String → List va_W → Prop) : Prop :=
  ∀ tl : va_W, vx_Met l y (ws_ y cc nL ret) ({ frames := fr, cells := mc, slots := ms, locals := lo }) (jPre u av ws tl) (jPost u post tl) (jXP u xp tl) mc ms (jA u)
/-- the contract of a method with handlers that does not throw -/
def jCW (l : Launch) (u : jU) (y : MethodName) (cc : ByteArray) (nL : Nat) (ret : Option FieldType) (hh : List (Nat × Nat × Nat × Nat)) (fr lo mc ms : Nat) (av : List Value) (ws : List va_W) (post : Option Value → List va_W → Prop) : Prop :=
  ∀ tl : va_W, Met l y (wsW_ y cc nL ret hh) ({ frames := fr, cells := mc, slots := ms, locals := lo }) (jPre u av ws tl) (jPost u post tl) mc ms (jA u)
/-- how a body that may throw ends, where no handler stands -/
def jEX (X : jX) (u : jU) (post : Option Value → List va_W → Prop) (xp : String → List va_W → Prop) (mc ms : Nat) : Prop := match X with
  | (p, l, e, R, s, m, args, below, meth, c, Q, tl) => Q = vx_MQ below (jPost u post tl) (jXP u xp tl) args s mc ms (jA u) ∧ ∀ x ∈ c.exceptionTable.toList, False
theorem jEX.E {X : jX} {u : jU} {post : Option Value → List va_W → Prop} {xp : String → List va_W → Prop} {mc ms : Nat} (h : jEX X u post xp mc ms) : jE X u post mc ms := by
  obtain ⟨p, l, e, R, s, m, args, below, meth, c, Q, tl⟩ := X
  obtain ⟨rfl, h2⟩ := h
  intro H locs k n g h1 h2 h3
  exact W.widen h1 h2 (vx_ret h3)
theorem jCX.of (own : String) {l : Launch} {u : jU} {y : MethodName} {cc : ByteArray} {nL : Nat} {ret : Option FieldType} {fr lo mc ms : Nat} {av : List Value} {ws : List va_W} {post : Option Value → List va_W → Prop} {xp : String → List va_W → Prop} (hy : plainName y.cls = true) (hown : y.cls = own) (hlen : (lg_sl av).length ≤ nL) (lv : List (Nat × Value)) (hlv : lv_args 0 av = lv)
    (body : ∀ X : jX, jG X l u own cc nL ret fr lo mc ms → jEX X u post xp mc ms → jJ X u nL ws lv 0 0 0 []) : jCX l u y cc nL ret fr lo mc ms av ws post xp := by
  intro tl
  refine vx_ofW (cc := cc) (maxL := nL) (ret := ret) hy rfl ?_
  intro p e s m args below meth c s₁ B hml htab hv
  obtain ⟨ha, hK, hP, hD⟩ := hv
  have hts := atoms_spec (ws := ws_ y cc nL ret) B.pre
  have hts : ∀ w ∈ lw_all, w.before args s = true := fun w h => hts w (List.mem_cons_of_mem _ h)
  have hl := lv_entry av (n := nL) hlen
  subst ha
  subst hlv
  subst hown
  rw [lg_entry_eq]
  exact body (p, l, e, _, s, m, av.toArray, below, meth, c, vx_MQ below (jPost u post tl) (jXP u xp tl) av.toArray s mc ms (jA u), tl) ⟨B.exec, B.bytes, hml, B.returns, B.notSynchronized, findClass_of_methodNamed B.named, hts, hK, rfl, rfl⟩
    ⟨rfl, htab⟩ s.heap [] _ hP hD va_S.rf hl
/-- the handlers of the body -/
def jH (X : jX) (hh : List (Nat × Nat × Nat × Nat)) : Prop := match X with
  | (p, l, e, R, s, m, args, below, meth, c, Q, tl) => c.exceptionTable.toList = tableOf hh
theorem jCW.of (own : String) {l : Launch} {u : jU} {y : MethodName} {cc : ByteArray} {nL : Nat} {ret : Option FieldType} {hh : List (Nat × Nat × Nat × Nat)} {fr lo mc ms : Nat} {av : List Value} {ws : List va_W} {post : Option Value → List va_W → Prop} (hy : plainName y.cls = true) (hown : y.cls = own) (hlen : (lg_sl av).length ≤ nL) (lv : List (Nat × Value)) (hlv : lv_args 0 av = lv)
    (body : ∀ X : jX, jG X l u own cc nL ret fr lo mc ms → jE X u post mc ms → jH X hh → jJ X u nL ws lv 0 0 0 []) : jCW l u y cc nL ret hh fr lo mc ms av ws post := by
  intro tl
  refine MetFree.of_bodyS (code := cc) (maxLocals := nL) (ret := ret) hy ?_ ?_
  · intro args s m h hn
    obtain ⟨m9, meth, c, hn9, h1, h2, h3, h4, -, h5, h6, -⟩ := Cond.codeWith_spec (atoms_spec (ws := wsW_ y cc nL ret hh) h _ List.mem_cons_self)
    cases hn.symm.trans hn9
    exact ⟨meth, c, h1, h2, h3, h4, h5, h6⟩
  · intro p e s m args below meth c s₁ B hml hv _
    have hh0 : s₁.heap = s.heap := by rw [B.state]; rfl
    obtain ⟨ha, hK, hP, hD⟩ := hv
    have hts0 := atoms_spec (ws := wsW_ y cc nL ret hh) B.pre
    have hts : ∀ w ∈ lw_all, w.before args s = true := fun w h => hts0 w (List.mem_cons_of_mem _ h)
    have htab := vx_table (x := y) B (hts0 _ List.mem_cons_self)
    have hl := lv_entry av (n := nL) hlen
    subst ha
    subst hlv
    subst hown
    have hb := body (p, l, e, _, s, m, av.toArray, below, meth, c, MQ below (jPost u post tl) av.toArray s mc ms (jA u), tl) ⟨B.exec, B.bytes, hml, B.returns, B.notSynchronized, findClass_of_methodNamed B.named, hts, hK, rfl, rfl⟩
      (fun H locs k n g h1 h2 h3 => W.widen h1 h2 h3) htab s.heap [] _ hP hD va_S.rf hl
    have hb2 : W p l e ({ frames := fr, cells := mc, slots := ms, locals := lo } : Room) s m av.toArray below meth c s.heap [] 0 0 (MQ below (jPost u post tl) av.toArray s mc ms (jA u)) (entryFrame m av.toArray nL) := by
      rw [lg_entry_eq]
      exact hb
    obtain ⟨t, a1, o, b1, b2, b3⟩ := hb2 s₁ hh0 (Stand.of_body B)
    exact ⟨t, o, a1, b1, b2, ⟨b3.1, b3.2⟩⟩
/-- an exception of class E is on its way, at this row -/
def jJx (X : jX) (u : jU) (nL : Nat) (ws : List va_W) (lv : List (Nat × Value)) (k n pc : Nat) (E : String) : Prop := match X with
  | (p, l, e, R, s, m, args, below, meth, c, Q, tl) => ∀ (H : Heap) (locs : List Loc) (ls : Array Slot) (rest : List Value) (q : Addr) (ce : Cell), va_P (jD u) jCl (ws.flatten ++ tl) H → va_D (jA u) (ws.flatten ++ tl) → va_S (jA u) s.heap H locs → lv_has ls nL lv → H[q]? = some ce → ce.vm = .none → s.vm.findClass E = some ce.cls → vx_W p l e R s m args below meth c H locs k n Q (F0 m pc ls rest) q
theorem jK.zq {u : jU} {U : State} {C n d : String} (hK : jK u U) (h1 : Cond.laysStatic C n d ∈ lw_tbl) (h2 : Cond.initialized C ∈ lw_tbl) (h3 : Cond.isRef (.static C n d) ∈ flatC (Jvm.Cond.and given_1 narrow_1)) : vx_Zq C n d (jA u) U U.heap := by
  obtain ⟨s0, b0, h, hw, hz, hk⟩ := hK
  have hA : ∀ a : Nat, a < s0.heap.size → ¬ jA u a := fun a ha hA => by
    have : jb u ≤ a := hA
    rw [h.2.2.1] at this
    omega
  have h0 : vx_Zq C n d (jA u) s0 s0.heap := vx_Zqof (h.1 _ h1) (h.1 _ h2) (flat_of_before _ h.2.1 _ h3) hA
  exact (vx_Zq.moved hw.alike h0).kept (fun a ha _ => hk a ha)
theorem jK.decl {u : jU} {U : State} {y : MethodName} {args : Array Value} (hK : jK u U) (hw : Cond.declares y ∈ lw_tbl) : (Cond.declares y).before args U = true := by
  obtain ⟨s0, b0, h1, h2, -⟩ := hK
  exact va_Nw.use rfl (va_Nw.warmD h2 (va_Nw.of rfl (h1.1 _ hw)))
theorem lw_inT (ws : List Cond) (ps : List Nat) (hp : ws = ps.filterMap (fun i => lw_tbl[i]?)) : ∀ w ∈ ws, w ∈ lw_tbl := by
  intro w h
  rw [hp] at h
  obtain ⟨i, -, hi⟩ := List.mem_filterMap.mp h
  exact List.mem_of_getElem? hi
theorem jZ1 : Cond.isRef (.static Bundle.tN "UNASSIGNED_STACK" Bundle.steD) ∈ flatC (Jvm.Cond.and given_1 narrow_1) := by decide +kernel
theorem jZ2 : Cond.isRef (.static Bundle.tN "SUPPRESSED_SENTINEL" Bundle.listD) ∈ flatC (Jvm.Cond.and given_1 narrow_1) := by decide +kernel
/-- what a throw of cls out of the class FlashRatchet asks of the tables -/
def jTw (ic : Nat) (cls : String) : Prop := (∀ w ∈ vx_at0 "FlashRatchet" ic cls ["java/lang/RuntimeException", "java/lang/Exception"], w ∈ lw_tbl) ∧ Bundle.fit cls = true ∧
  (∀ w ∈ (vx_at0 "FlashRatchet" ic cls ["java/lang/RuntimeException", "java/lang/Exception"]).filter (fun w => !goodWord w), w ∈ [Cond.castable cls cls, Cond.declares ⟨"java/lang/RuntimeException", "<init>", "()V"⟩, Cond.declares ⟨"java/lang/Exception", "<init>", "()V"⟩, Cond.declares ⟨"java/lang/Throwable", "<init>", "()V"⟩]) ∧ Cond.castable cls cls ∈ lw_tbl
theorem jTw_iae : jTw 3 "java/lang/IllegalArgumentException" := ⟨lw_inT _ [91, 446, 455, 461, 464, 466, 447, 448, 136, 137, 449, 454, 462, 487, 436, 488, 438, 489, 440, 450, 452, 442, 828, 829, 830, 831, 427, 831, 832, 833, 834, 429, 834, 835, 836, 447, 431, 1618, 425, 426, 433, 434, 435, 437, 439, 441, 445, 444, 443] (by decide +kernel), by decide +kernel, by decide +kernel, q426⟩
theorem jTg_iae : ∀ ik : Nat, ∀ w ∈ Cond.classLink "FlashRatchet" ik "java/lang/IllegalArgumentException" :: Cond.initialized "java/lang/IllegalArgumentException" :: vx_at0 "FlashRatchet" 3 "java/lang/IllegalArgumentException" ["java/lang/RuntimeException", "java/lang/Exception"], vx_ot w = true := by
  intro ik
  refine List.forall_mem_cons.mpr ⟨rfl, List.forall_mem_cons.mpr ⟨rfl, ?_⟩⟩
  decide +kernel
theorem jTw_ise : jTw 9 "java/lang/IllegalStateException" := ⟨lw_inT _ [91, 446, 455, 461, 464, 466, 447, 448, 136, 137, 449, 454, 462, 487, 436, 488, 438, 489, 440, 450, 452, 442, 1711, 1712, 1713, 831, 427, 831, 832, 833, 834, 429, 834, 835, 836, 447, 431, 1710, 1702, 1703, 1704, 458, 1705, 1706, 1707, 1708, 445, 444, 1709] (by decide +kernel), by decide +kernel, by decide +kernel, q1703⟩
theorem jTg_ise : ∀ ik : Nat, ∀ w ∈ Cond.classLink "FlashRatchet" ik "java/lang/IllegalStateException" :: Cond.initialized "java/lang/IllegalStateException" :: vx_at0 "FlashRatchet" 9 "java/lang/IllegalStateException" ["java/lang/RuntimeException", "java/lang/Exception"], vx_ot w = true := by
  intro ik
  refine List.forall_mem_cons.mpr ⟨rfl, List.forall_mem_cons.mpr ⟨rfl, ?_⟩⟩
  decide +kernel
theorem jTw_iob : jTw 12 "java/lang/IndexOutOfBoundsException" := ⟨lw_inT _ [91, 446, 455, 461, 464, 466, 447, 448, 136, 137, 449, 454, 462, 487, 436, 488, 438, 489, 440, 450, 452, 442, 1647, 1648, 1649, 831, 427, 831, 832, 833, 834, 429, 834, 835, 836, 447, 431, 1646, 1638, 1639, 1640, 459, 1641, 1642, 1643, 1644, 445, 444, 1645] (by decide +kernel), by decide +kernel, by decide +kernel, q1639⟩
theorem jTg_iob : ∀ ik : Nat, ∀ w ∈ Cond.classLink "FlashRatchet" ik "java/lang/IndexOutOfBoundsException" :: Cond.initialized "java/lang/IndexOutOfBoundsException" :: vx_at0 "FlashRatchet" 12 "java/lang/IndexOutOfBoundsException" ["java/lang/RuntimeException", "java/lang/Exception"], vx_ot w = true := by
  intro ik
  refine List.forall_mem_cons.mpr ⟨rfl, List.forall_mem_cons.mpr ⟨rfl, ?_⟩⟩
  decide +kernel
section
variable {X : jX} {l : Launch} {u : jU} {own : String} {cc : ByteArray} {nL : Nat} {ret : Option FieldType} {Rf Rl Rc Rs : Nat} {ws : List va_W} {lv : List (Nat × Value)} {k n pc : Nat} {st : List Value}
theorem j_throw0 {cls : String} {ik ic : Nat} {post : Option Value → List va_W → Prop} {xp : String → List va_W → Prop} {mc ms : Nat} (G : jG X l u "FlashRatchet" cc nL ret Rf Rl Rc Rs) (E : jEX X u post xp mc ms) (hl0 : l.stackTraces = false) (T : jTw ic cls) (hgood : ∀ w ∈ Cond.classLink "FlashRatchet" ik cls :: Cond.initialized cls :: vx_at0 "FlashRatchet" ic cls ["java/lang/RuntimeException", "java/lang/Exception"], vx_ot w = true)
    (q1 : Cond.classLink "FlashRatchet" ik cls ∈ lw_all) (q2 : Cond.initialized cls ∈ lw_all) (d0 : decode cc pc = .ok (.new ik, 3)) (d3 : decode cc (pc + 3) = .ok (.dup, 1)) (d4 : decode cc (pc + 4) = .ok (.invokespecial ic, 3)) (d7 : decode cc (pc + 7) = .ok (.athrow, 1))
    (hst : (st.map fun v => v.category).sum ≤ 8) (hk : 6 ≤ Rf ∧ 89 ≤ Rl ∧ k + 1 ≤ Rc ∧ n + 6 ≤ Rs ∧ k + 1 ≤ mc ∧ n + 6 ≤ ms) (hx : xp cls ws) : jJ X u nL ws lv k n pc st := by
  obtain ⟨p, l', e, R', s, m, args, below, meth, c, Q, tl⟩ := X
  obtain ⟨hx', hb, hml, hr, hlk, hown, hts, hK, hR, hl'⟩ := G
  obtain ⟨rfl, htab⟩ := E
  intro H locs ls hP hD hS hl
  subst hR
  subst hl'
  have hat : ∀ w ∈ vx_at0 "FlashRatchet" ic cls ["java/lang/RuntimeException", "java/lang/Exception"], w.before args s = true :=
    vx_hat (fun w hw => hts w (lw_g (T.1 w (List.mem_filter.mp hw).1) (List.mem_filter.mp hw).2)) T.2.2.1
      (vx_c (va_Nw.use rfl (hK.cast T.2.2.2)) (vx_c (hK.decl q427) (vx_c (hK.decl q429) (vx_c (hK.decl q431) vx_n))))
  refine vx_throw0 (own := "FlashRatchet") (names := ["java/lang/RuntimeException", "java/lang/Exception"]) (A := jA u) hx' hb hl0 hown T.2.1 (by decide +kernel) (hts _ q1) (hts _ q2) hat hgood (hK.zq q451 (lw_all_tbl q91) jZ1) (hK.zq q453 (lw_all_tbl q91) jZ2) hS (hl.1.trans hml.symm) d0 d3 d4 d7 (fun x h => (htab x h).elim)
    (by show 2 + 3 < Rf; omega) (by show _ + (13 * 3 + 42) ≤ Rl; omega) hk.2.2.1 hk.2.2.2.1 hlk ?_ hS.2.2 hk.2.2.2.2.1 hk.2.2.2.2.2
  intro t hvm hz hq
  refine ⟨⟨ws, hx, hP.kept (fun i q hi => hq q.1 (hP i q hi).lt), hD⟩, Nat.le_trans hS.1 hz, fun q h1 h2 => ?_⟩
  rw [hq q (Nat.lt_of_lt_of_le h1 hS.1)]
  exact hS.2.1 q h1 h2
theorem jx_out {post : Option Value → List va_W → Prop} {xp : String → List va_W → Prop} {mc ms : Nat} {E0 : String} (G : jG X l u own cc nL ret Rf Rl Rc Rs) (E : jEX X u post xp mc ms) (hx : xp E0 ws) (hk : k ≤ mc ∧ n ≤ ms) : jJx X u nL ws lv k n pc E0 := by
  obtain ⟨p, l', e, R', s, m, args, below, meth, c, Q, tl⟩ := X
  obtain ⟨hx', hb, hml, hr, hlk, hown, hts, hK, hR, hl'⟩ := G
  obtain ⟨rfl, htab⟩ := E
  intro H locs ls rest q ce hP hD hS hl hq hv hc
  exact vx_out (fun x h => (htab x h).elim) hlk hq hv hc (fun t ht _ => ⟨⟨ws, hx, by rw [ht]; exact hP, hD⟩, hS.F ht⟩) hS.2.2 hk.1 hk.2
theorem jx_ws {ws' : List va_W} {E0 : String} (h : ws.Perm ws') (kk : jJx X u nL ws' lv k n pc E0) : jJx X u nL ws lv k n pc E0 := by
  obtain ⟨p, l', e, R', s, m, args, below, meth, c, Q, tl⟩ := X
  intro H locs ls rest q ce hP hD hS hl hq hv hc
  exact kk H locs ls rest q ce (hP.perm (jpermF h)) (hD.perm (jpermF h)) hS hl hq hv hc
theorem jx_drop {w : va_W} {E0 : String} (kk : jJx X u nL ws lv k n pc E0) : jJx X u nL (w :: ws) lv k n pc E0 := by
  obtain ⟨p, l', e, R', s, m, args, below, meth, c, Q, tl⟩ := X
  intro H locs ls rest q ce hP hD hS hl hq hv hc
  have e1 : (w :: ws).flatten ++ tl = w ++ (ws.flatten ++ tl) := by rw [List.flatten_cons, List.append_assoc]
  rw [e1] at hP hD
  refine kk H locs ls rest q ce (fun i q hi => hP (w.length + i) q (by rw [List.getElem?_append_right (Nat.le_add_right _ _), Nat.add_sub_cancel_left]; exact hi)) ?_ hS hl hq hv hc
  rw [va_D.nodup] at hD ⊢
  rw [List.map_append] at hD
  exact ⟨(List.nodup_append.mp hD.1).2.1, fun q hq => hD.2 q (List.mem_append_right _ hq)⟩
/-- a handler: the z-th row of the table -/
theorem jx_catch {E0 name : String} {hh : List (Nat × Nat × Nat × Nat)} (pre : List ExceptionTableEntry) (x : ExceptionTableEntry) (suf : List ExceptionTableEntry) (G : jG X l u own cc nL ret Rf Rl Rc Rs) (T : jH X hh) (hsplit : tableOf hh = pre ++ x :: suf)
    (hpass : ∀ z ∈ pre, covers z pc = false ∨ (z.catchType ≠ 0 ∧ ∃ nm : String, Cond.classLink own z.catchType nm ∈ lw_all ∧ Cond.not (.castable E0 nm) ∈ flatC (Jvm.Cond.and given_1 narrow_1))) (hc : covers x pc = true) (h0 : x.catchType ≠ 0)
    (hlink : Cond.classLink own x.catchType name ∈ lw_all) (hcast : Cond.castable E0 name ∈ lw_tbl) (tgt : Nat) (ht : x.handlerPc = tgt) (kk : ∀ q : Nat, jJ X u nL ws lv k n tgt [.ref q]) : jJx X u nL ws lv k n pc E0 := by
  obtain ⟨p, l', e, R', s, m, args, below, meth, c, Q, tl⟩ := X
  obtain ⟨hx', hb, hml, hr, hlk, hown, hts, hK, hR, hl'⟩ := G
  subst ht
  intro H locs ls rest q ce hP hD hS hl hq hv hcl
  refine vx_catch hown pre x suf ((show c.exceptionTable.toList = tableOf hh from T).trans hsplit) (fun z hz => ?_) hc h0 (hts _ hlink) (va_Nw.use rfl (hK.cast hcast)) hq hv hcl (kk q H locs ls hP hD hS hl)
  rcases hpass z hz with h | ⟨h1, nm, h2, h3⟩
  · exact Or.inl h
  · refine Or.inr ⟨h1, nm, hts _ h2, ?_⟩
    obtain ⟨s0, b0, g, hw, -⟩ := hK
    exact va_Nc.moved hw.alike (va_Nc.of (flat_of_before _ g.2.1 _ h3))
theorem jx_run {p : Program} {l : Launch} {e : Env} {R : Room} {s : State} {m : MethodId} {args : Array Value} {below : List Frame} {meth : Method} {c : Code} {Q : State → Prop} {tl : va_W} {H : Heap} {locs : List Loc} {ls : Array Slot} {mc ms k' n' : Nat} {st0 : List Value} {wr : List va_W} {post : Option Value → List va_W → Prop} {xp : String → List va_W → Prop} {a : Array Value}
    (hr : vx_Run p l e R s m args below meth c H locs k n mc ms (F0 m pc ls st0) st (jPost u post (wr.flatten ++ tl) a) (jXP u xp (wr.flatten ++ tl)) (jA u)) (hS : va_S (jA u) s.heap H locs) (hl : lv_has ls nL lv) (hk : k + mc ≤ k') (hn : n + ms ≤ n')
    (kx : ∀ (E : String) (w : List va_W), xp E w → jJx (p, l, e, R, s, m, args, below, meth, c, Q, tl) u nL (w ++ wr) lv k' n' pc E)
    (kk : ∀ (v : Option Value) (w : List va_W), post v w → jJ (p, l, e, R, s, m, args, below, meth, c, Q, tl) u nL (w ++ wr) lv k' n' (pc + 3) (v.toList ++ st)) : W p l e R s m args below meth c H locs k n Q (F0 m pc ls st0) := by
  intro T hT X
  rcases hr T hT X with ⟨v, st₀, t, T', L, h0, X', hL, e1, e2, ⟨⟨v', w, hv, hp, hP, hD⟩, hF⟩, stp⟩ | ⟨q, st₀, t, T', L, E, ce, h0, X', hL, e1, e2, ⟨⟨w, hp, hP, hD⟩, hF⟩, hce, hcv, hcl, stp⟩
  · cases hv
    obtain ⟨k1, k2, hS'⟩ := vx_keep h0 e1 hS (fun q _ h => h) (fun q h => h) hL hF
    rw [jglue] at hP hD
    obtain ⟨t2, a1, b1⟩ := W.widen hk hn (kk v w hp T'.heap (locs ++ L) ls (by rw [e1]; exact hP) hD hS' hl) T' rfl X'
    exact ⟨t2, stp t2 a1, b1⟩
  · obtain ⟨k1, k2, hS'⟩ := vx_keep h0 e1 hS (fun q _ h => h) (fun q h => h) hL hF
    rw [jglue] at hP hD
    obtain ⟨t2, a1, b1⟩ := vx_widen hk hn (kx E w hp T'.heap (locs ++ L) ls st q ce (by rw [e1]; exact hP) hD hS' hl (by rw [e1]; exact hce) hcv hcl) T' rfl X'
    exact ⟨t2, stp.trans a1, b1⟩
theorem jx_callS {y : MethodName} {cb : ByteArray} {nL' index : Nat} {ret' : Option FieldType} {fr lo mc ms k' n' : Nat} {As : List Value} {w1 wr : List va_W} {post : Option Value → List va_W → Prop} {xp : String → List va_W → Prop} (G : jG X l u own cc nL ret Rf Rl Rc Rs) (hM : jCX l u y cb nL' ret' fr lo mc ms As w1 post xp) (hY : jY y As.length)
    (q1 : Cond.methodLink own index y ∈ lw_all) (q2 : Cond.static y ∈ lw_all) (q3 : Cond.initialized y.cls ∈ lw_all) (q4 : Cond.code y cb nL' ret' ∈ lw_all)
    (hcut : ∀ tl : va_W, (ws.flatten ++ tl).Perm (w1.flatten ++ (wr.flatten ++ tl))) (hk : fr + 1 ≤ Rf ∧ 8 + (nL' + 11) + lo ≤ Rl ∧ k + mc ≤ k' ∧ k' ≤ Rc ∧ n + ms ≤ n' ∧ n' ≤ Rs) (hst : (st.map fun v => v.category).sum ≤ 8)
    (d : decode cc pc = .ok (.invokestatic index, 3)) {st0 : List Value} (hst0 : st0 = As.reverse ++ st) (kx : ∀ (E : String) (w : List va_W), xp E w → jJx X u nL (w ++ wr) lv k' n' pc E) (kk : ∀ (v : Option Value) (w : List va_W), post v w → jJ X u nL (w ++ wr) lv k' n' (pc + 3) (v.toList ++ st)) : jJ X u nL ws lv k n pc st0 := by
  obtain ⟨p, l', e, R', s, m, args, below, meth, c, Q, tl⟩ := X
  obtain ⟨hx, hb, hml, hr, hlk, hown, hts, hK, hR, hl'⟩ := G
  intro H locs ls hP hD hS hl
  subst hR
  subst hl'
  subst hst0
  exact jx_run (vx_runS (As := As) (rest := st) ⟨hx, hb, hml, hown, hts⟩ (hM (wr.flatten ++ tl)) (va_cwS As.length hts (lw_S q1 q2 q3 q4) rfl rfl rfl hY ⟨hk.1, hk.2.1⟩) ⟨jPre.blind, fun U hU hW => ⟨rfl, hK.moved hS hU hW, by rw [hU]; exact hP.perm (hcut tl), hD.perm (hcut tl)⟩⟩ rfl rfl hl.1 rfl (lv_room hst) d ⟨Nat.le_trans hk.2.2.1 hk.2.2.2.1, Nat.le_trans hk.2.2.2.2.1 hk.2.2.2.2.2⟩) hS hl hk.2.2.1 hk.2.2.2.2.1 kx kk
theorem jx_callV {C : String} {T : u_T} {N ci : Nat} {ty : Nat → FieldType} {y : MethodName} {cb : ByteArray} {nL' index a : Nat} {ret' : Option FieldType} {fr lo mc ms k' n' : Nat} {As : List Value} {w1 wr : List va_W} {fs : List Value} {up : va_E → List va_W} {post : Option Value → List va_W → Prop} {xp : String → List va_W → Prop} (G : jG X l u own cc nL ret Rf Rl Rc Rs) (F : jF C T N ci ty) (hM : jCX l u y cb nL' ret' fr lo mc ms (.ref a :: As) w1 post xp) (h : jAt ws a (.inr (ci, fs)) up) (hY : y.cls = C ∧ jY y As.length)
    (q1 : Cond.methodLink own index y ∈ lw_all) (q2 : Cond.instanceMethod y ∈ lw_all) (q3 : Cond.selects C y y ∈ lw_all) (q4 : Cond.initialized C ∈ lw_all) (q5 : Cond.code y cb nL' ret' ∈ lw_all)
    (hcut : ∀ tl : va_W, (ws.flatten ++ tl).Perm (w1.flatten ++ (wr.flatten ++ tl))) (hk : fr + 1 ≤ Rf ∧ 8 + (nL' + 11) + lo ≤ Rl ∧ k + mc ≤ k' ∧ k' ≤ Rc ∧ n + ms ≤ n' ∧ n' ≤ Rs) (hst : (st.map fun v => v.category).sum ≤ 8)
    (d : decode cc pc = .ok (.invokevirtual index, 3)) {st0 : List Value} (hst0 : st0 = As.reverse ++ .ref a :: st) (kx : ∀ (E : String) (w : List va_W), xp E w → jJx X u nL (w ++ wr) lv k' n' pc E) (kk : ∀ (v : Option Value) (w : List va_W), post v w → jJ X u nL (w ++ wr) lv k' n' (pc + 3) (v.toList ++ st)) : jJ X u nL ws lv k n pc st0 := by
  obtain ⟨p, l', e, R', s, m, args, below, meth, c, Q, tl⟩ := X
  obtain ⟨hx, hb, hml, hr, hlk, hown, hts, hK, hR, hl'⟩ := G
  intro H locs ls hP hD hS hl
  subst hR
  subst hl'
  subst hst0
  exact jx_run (vx_runV (As := As) (rest := st) (b := a) (C := C) ⟨hx, hb, hml, hown, hts⟩ (hM (wr.flatten ++ tl)) (cwV As.length hts (lw_V q1 q2 q3 q4 q5) rfl rfl rfl hY ⟨hk.1, hk.2.1⟩) ⟨jPre.blind, j_recv hK F.2.1 h hP, fun U hU hW => ⟨rfl, hK.moved hS hU hW, by rw [hU]; exact hP.perm (hcut tl), hD.perm (hcut tl)⟩⟩ rfl rfl hl.1 rfl (lv_room hst) d ⟨Nat.le_trans hk.2.2.1 hk.2.2.2.1, Nat.le_trans hk.2.2.2.2.1 hk.2.2.2.2.2⟩) hS hl hk.2.2.1 hk.2.2.2.2.1 kx kk
/-- a static method with handlers, called -/
theorem j_callSW {y : MethodName} {cb : ByteArray} {nL' index : Nat} {ret' : Option FieldType} {hh : List (Nat × Nat × Nat × Nat)} {fr lo mc ms k' n' : Nat} {As : List Value} {w1 wr : List va_W} {post : Option Value → List va_W → Prop} (G : jG X l u own cc nL ret Rf Rl Rc Rs) (hM : jCW l u y cb nL' ret' hh fr lo mc ms As w1 post) (hY : jY y As.length)
    (q1 : Cond.methodLink own index y ∈ lw_all) (q2 : Cond.static y ∈ lw_all) (q3 : Cond.initialized y.cls ∈ lw_all) (q4 : Cond.codeWith y cb nL' ret' hh ∈ lw_all)
    (hcut : ∀ tl : va_W, (ws.flatten ++ tl).Perm (w1.flatten ++ (wr.flatten ++ tl))) (hk : fr + 1 ≤ Rf ∧ 8 + (nL' + 11) + lo ≤ Rl ∧ k + mc ≤ k' ∧ k' ≤ Rc ∧ n + ms ≤ n' ∧ n' ≤ Rs) (hst : (st.map fun v => v.category).sum ≤ 8)
    (d : decode cc pc = .ok (.invokestatic index, 3)) {st0 : List Value} (hst0 : st0 = As.reverse ++ st) (kk : ∀ (v : Option Value) (w : List va_W), post v w → jJ X u nL (w ++ wr) lv k' n' (pc + 3) (v.toList ++ st)) : jJ X u nL ws lv k n pc st0 := by
  obtain ⟨p, l', e, R', s, m, args, below, meth, c, Q, tl⟩ := X
  obtain ⟨hx, hb, hml, hr, hlk, hown, hts, hK, hR, hl'⟩ := G
  intro H locs ls hP hD hS hl
  subst hR
  subst hl'
  subst hst0
  exact j_run (vx_runSW (As := As) (rest := st) ⟨hx, hb, hml, hown, hts⟩ (hM (wr.flatten ++ tl)) (vx_cwSW As.length hts (lw_SW q1 q2 q3 q4) rfl rfl rfl hY ⟨hk.1, hk.2.1⟩) ⟨jPre.blind, fun U hU hW => ⟨rfl, hK.moved hS hU hW, by rw [hU]; exact hP.perm (hcut tl), hD.perm (hcut tl)⟩⟩ rfl rfl hl.1 rfl (lv_room hst) d ⟨Nat.le_trans hk.2.2.1 hk.2.2.2.1, Nat.le_trans hk.2.2.2.2.1 hk.2.2.2.2.2⟩) hS hl hk.2.2.1 hk.2.2.2.2.1 kk
end
