/-! THE LAYER: values as integers, a world as a list of chunks of cells, one judgement (jJ), one contract (jC) that holds for every rest of the world -/
set_option maxRecDepth 100000
def iI (z : Int) : Value := .int (Int32.ofInt z)
def lI (z : Int) : Value := .long (Int64.ofInt z)
def bI (p : Prop) [Decidable p] : Int := if p then 1 else 0
def iR (z : Int) : Prop := -2147483648 ≤ z ∧ z ≤ 2147483647
def lR (z : Int) : Prop := -9223372036854775808 ≤ z ∧ z ≤ 9223372036854775807
theorem bI_t {p : Prop} [Decidable p] (h : p) : bI p = 1 := if_pos h
theorem bI_f {p : Prop} [Decidable p] (h : ¬ p) : bI p = 0 := if_neg h
theorem bI_01 (p : Prop) [Decidable p] : bI p = 0 ∨ bI p = 1 := by
  by_cases h : p
  · exact Or.inr (if_pos h)
  · exact Or.inl (if_neg h)
theorem bI_0 {p : Prop} [Decidable p] : bI p = 0 ↔ ¬ p := by
  by_cases h : p
  · simp [bI, h]
  · simp [bI, h]
theorem bI_1 {p : Prop} [Decidable p] : bI p = 1 ↔ p := by
  by_cases h : p
  · simp [bI, h]
  · simp [bI, h]
theorem bI_n {p : Prop} [Decidable p] : ¬ bI p = 0 ↔ p := by
  by_cases h : p
  · simp [bI, h]
  · simp [bI, h]
theorem bI_R (p : Prop) [Decidable p] : iR (bI p) := by
  rcases bI_01 p with h | h <;> rw [h] <;> unfold iR <;> decide
theorem iI_toInt {z : Int} (h : iR z) : (Int32.ofInt z).toInt = z := Int32.toInt_ofInt_of_le (by unfold iR at h; omega) (by unfold iR at h; omega)
theorem lI_toInt {z : Int} (h : lR z) : (Int64.ofInt z).toInt = z := Int64.toInt_ofInt_of_le (by unfold lR at h; omega) (by unfold lR at h; omega)
theorem iI_inj {a b : Int} (ha : iR a) (hb : iR b) : Int32.ofInt a = Int32.ofInt b ↔ a = b := by
  constructor
  · intro h
    rw [← iI_toInt ha, ← iI_toInt hb, h]
  · intro h
    rw [h]
theorem lI_inj {a b : Int} (ha : lR a) (hb : lR b) : Int64.ofInt a = Int64.ofInt b ↔ a = b := by
  constructor
  · intro h
    rw [← lI_toInt ha, ← lI_toInt hb, h]
  · intro h
    rw [h]
theorem iI_lt {a b : Int} (ha : iR a) (hb : iR b) : Int32.ofInt a < Int32.ofInt b ↔ a < b := by
  rw [Int32.lt_iff_toInt_lt, iI_toInt ha, iI_toInt hb]
theorem iI_le {a b : Int} (ha : iR a) (hb : iR b) : Int32.ofInt a ≤ Int32.ofInt b ↔ a ≤ b := by
  rw [Int32.le_iff_toInt_le, iI_toInt ha, iI_toInt hb]
theorem lI_lt {a b : Int} (ha : lR a) (hb : lR b) : Int64.ofInt a < Int64.ofInt b ↔ a < b := by
  rw [Int64.lt_iff_toInt_lt, lI_toInt ha, lI_toInt hb]
theorem iR_0 : iR 0 := by unfold iR; decide
theorem iI_tdiv {a b : Int} (ha : iR a) (hb : iR b) (h : ¬ (a = -2147483648 ∧ b = -1)) : Int32.ofInt a / Int32.ofInt b = Int32.ofInt (a.tdiv b) := by
  apply Int32.toInt_inj.mp
  rw [Int32.toInt_div, iI_toInt ha, iI_toInt hb, Int32.toInt_ofInt]
theorem lI_tdiv {a b : Int} (ha : lR a) (hb : lR b) : Int64.ofInt a / Int64.ofInt b = Int64.ofInt (a.tdiv b) := by
  apply Int64.toInt_inj.mp
  rw [Int64.toInt_div, lI_toInt ha, lI_toInt hb, Int64.toInt_ofInt]
theorem iI_tmod {a b : Int} (ha : iR a) (hb : iR b) (h : ¬ (a = -2147483648 ∧ b = -1)) : Int32.ofInt a - Int32.ofInt a / Int32.ofInt b * Int32.ofInt b = Int32.ofInt (a.tmod b) := by
  rw [iI_tdiv ha hb h, ← Int32.ofInt_mul, ← Int32.ofInt_sub]
  congr 1
  have := Int.tmod_add_mul_tdiv a b
  have h2 := Int.mul_comm b (a.tdiv b)
  omega
theorem lI_tmod {a b : Int} (ha : lR a) (hb : lR b) : Int64.ofInt a - Int64.ofInt a / Int64.ofInt b * Int64.ofInt b = Int64.ofInt (a.tmod b) := by
  rw [lI_tdiv ha hb, ← Int64.ofInt_mul, ← Int64.ofInt_sub]
  congr 1
  have := Int.tmod_add_mul_tdiv a b
  have h2 := Int.mul_comm b (a.tdiv b)
  omega
theorem iI_i2l {a : Int} (ha : iR a) : (Int32.ofInt a).toInt64 = Int64.ofInt a := by
  apply Int64.toInt_inj.mp
  rw [Int32.toInt_toInt64, iI_toInt ha, lI_toInt (by unfold iR at ha; unfold lR; omega)]
theorem iI_ix {i : Int} {n : Nat} (h0 : 0 ≤ i) (h1 : i < (n : Int)) (hn : n < 2147483648) : vp_in (Int32.ofInt i) n ∧ (Int32.ofInt i).toNatClampNeg = i.toNat := by
  have hr : iR i := by unfold iR; omega
  refine ⟨vp_in_iff.mpr ?_, ?_⟩
  · rw [iI_toInt hr]
    exact ⟨h0, h1⟩
  · show (Int32.ofInt i).toInt.toNat = i.toNat
    rw [iI_toInt hr]
/-- the operations on bits, as numbers -/
def jAnd (a b : Int) : Int := (Int32.ofInt a &&& Int32.ofInt b).toInt
def jOr (a b : Int) : Int := (Int32.ofInt a ||| Int32.ofInt b).toInt
def jXor (a b : Int) : Int := (Int32.ofInt a ^^^ Int32.ofInt b).toInt
def jShl (a b : Int) : Int := (Int32.ofInt a <<< (Int32.ofInt b &&& 31)).toInt
def jShr (a b : Int) : Int := (Int32.ofInt a >>> (Int32.ofInt b &&& 31)).toInt
def jUshr (a b : Int) : Int := ((Int32.ofInt a).toUInt32 >>> ((Int32.ofInt b).toUInt32 &&& Int32.toUInt32 31)).toInt32.toInt
def jChr (a : Int) : Int := ((Int32.ofInt a).toUInt32 % 65536).toInt32.toInt
def jByt (a : Int) : Int := (Int32.ofInt a).toInt8.toInt32.toInt
theorem iR_of (x : Int32) : iR x.toInt := by
  have h1 := x.toInt_lt
  have h2 := x.le_toInt
  unfold iR
  omega
def jCmp (a b : Int) : Int := if b < a then 1 else if a = b then 0 else -1
/-! cells -/
abbrev jU : Type := va_G × (Nat → ClassId) × Nat × (Nat → Nat) × (Nat → Nat)
abbrev jD (u : jU) : va_G := u.1
abbrev jb (u : jU) : Nat := u.2.2.1
def jA (u : jU) : Nat → Prop := fun q => jb u ≤ q
def TX8 : u_T := fun _ => ("", "", "", false)
def tyX8 : Nat → FieldType := fun _ => .int
def jCl : List vw_C := [(RX1, TX1, 12), (RX2, TX2, 40), (RX3, TX3, 5), (RX4, TX4, 10), (RX5, TX5, 2), (RX6, TX6, 6), (RX7, TX7, 2), (RX8, TX8, 0), (RX9, TX9, 2), (RJ1, TJ1, 4), (RJ20, TJ20, 9), (RJ23, TJ23, 6), (RJ27, TJ27, 1), (RJ29, TJ29, 4), (RJ31, TJ31, 4), (RJ21, TJ21, 1), (RJ11, TJ11, 1)]
def jTy (u : jU) : List (ClassId × FieldType) := [(u.2.1 0, .int), (u.2.1 1, .long), (u.2.1 2, .byte), (u.2.1 3, .object "java/lang/Object"), (u.2.1 4, .array .long)]
/-- an object of class number c; arrays of ints, longs, bytes, Objects, long arrays -/
abbrev jO (c : Nat) (fs : List Value) : va_E := .inr (c, fs)
def cI (u : jU) (n : Nat) (f : Int → Int) : va_E := .inl (u.2.1 0, n, .inl (fun j => Int32.ofInt (f (j : Int))))
def cJ (u : jU) (n : Nat) (f : Int → Int) : va_E := .inl (u.2.1 1, n, .inr (.inl (fun j => Int64.ofInt (f (j : Int)))))
def cB (u : jU) (n : Nat) (f : Int → Int) : va_E := .inl (u.2.1 2, n, .inl (fun j => Int32.ofInt (f (j : Int))))
def cO (u : jU) (n : Nat) (f : Int → Option Nat) : va_E := .inl (u.2.1 3, n, .inr (.inr (.inr (.inr (fun j => f (j : Int))))))
def cL (u : jU) (n : Nat) (f : Int → Option Nat) : va_E := .inl (u.2.1 4, n, .inr (.inr (.inr (.inr (fun j => f (j : Int))))))
def uZ {α : Type} (f : Int → α) (i : Int) (x : α) : Int → α := fun j => if j = i then x else f j
theorem uZ_s {α : Type} (f : Int → α) (i : Int) (x : α) : uZ f i x i = x := if_pos rfl
theorem uZ_n {α : Type} (f : Int → α) {i j : Int} (x : α) (h : j ≠ i) : uZ f i x j = f j := if_neg h
/-- a cell of the world at its chunk: what it holds, and the world with another thing there -/
def jAt (ws : List va_W) (a : Nat) (e : va_E) (up : va_E → List va_W) : Prop := ∀ tl : va_W, ∃ i : Nat, (ws.flatten ++ tl)[i]? = some (a, e) ∧ ∀ e' : va_E, (ws.flatten ++ tl).set i (a, e') = (up e').flatten ++ tl
theorem jAt_1 {a : Nat} {e : va_E} : ∀ {ws : List va_W} (k : Nat), ws[k]? = some [(a, e)] → jAt ws a e (fun e' => ws.set k [(a, e')])
  | [], _, h => by simp at h
  | w :: ws, 0, h => by
    intro tl
    have hw : w = [(a, e)] := by simpa using h
    subst hw
    exact ⟨0, rfl, fun _ => rfl⟩
  | w :: ws, k + 1, h => by
    intro tl
    obtain ⟨i, h1, h2⟩ := jAt_1 k (show ws[k]? = some [(a, e)] by simpa using h) tl
    refine ⟨w.length + i, ?_, fun e' => ?_⟩
    · rw [List.flatten_cons, List.append_assoc, List.getElem?_append_right (Nat.le_add_right _ _), Nat.add_sub_cancel_left]
      exact h1
    · rw [List.flatten_cons, List.append_assoc, List.set_append_right _ _ (Nat.le_add_right _ _), Nat.add_sub_cancel_left, h2 e']
      show w ++ _ = (w :: ws.set k _).flatten ++ tl
      rw [List.flatten_cons, List.append_assoc]
theorem va_P.perm {D : va_G} {cl : List vw_C} {w1 w2 : va_W} {H : Heap} (h : va_P D cl w1 H) (hp : w1.Perm w2) : va_P D cl w2 H := by
  intro k q hk
  obtain ⟨i, hi⟩ := List.getElem?_of_mem (hp.mem_iff.mpr (List.mem_of_getElem? hk))
  exact h i q hi
theorem va_D.nodup {A : Nat → Prop} {w : va_W} : va_D A w ↔ (w.map (·.1)).Nodup ∧ ∀ q ∈ w, A q.1 := by
  constructor
  · intro h
    refine ⟨List.pairwise_iff_getElem.mpr fun i j hi hj hij he => ?_, fun q hq => ?_⟩
    · have hi' : i < w.length := by simpa using hi
      have hj' : j < w.length := by simpa using hj
      rw [List.getElem_map, List.getElem_map] at he
      have := h.1 i j w[i] w[j] (List.getElem?_eq_getElem hi') (List.getElem?_eq_getElem hj') he
      omega
    · obtain ⟨i, hi⟩ := List.getElem?_of_mem hq
      exact h.2 i q hi
  · intro h
    have h1 := List.pairwise_iff_getElem.mp h.1
    refine ⟨fun i j p q hi hj he => ?_, fun k q hk => h.2 q (List.mem_of_getElem? hk)⟩
    obtain ⟨hi', ei⟩ := List.getElem?_eq_some_iff.mp hi
    obtain ⟨hj', ej⟩ := List.getElem?_eq_some_iff.mp hj
    rcases Nat.lt_trichotomy i j with hlt | heq | hlt
    · exact absurd (by rw [List.getElem_map, List.getElem_map, ei, ej]; exact he) (h1 i j (by simpa using hi') (by simpa using hj') hlt)
    · exact heq
    · exact absurd (by rw [List.getElem_map, List.getElem_map, ei, ej]; exact he.symm) (h1 j i (by simpa using hj') (by simpa using hi') hlt)
theorem va_D.perm {A : Nat → Prop} {w1 w2 : va_W} (h : va_D A w1) (hp : w1.Perm w2) : va_D A w2 := by
  rw [va_D.nodup] at h ⊢
  exact ⟨(hp.map _).nodup_iff.mp h.1, fun q hq => h.2 q (hp.mem_iff.mpr hq)⟩
/-- a list of chunks in another order, by the old places -/
theorem jperm {α : Type} {ws w2 : List α} (nn : Nat) (is : List Nat) (h1 : is.Perm (List.range nn)) (hn : ws.length = nn) (h2 : is.map (fun i => ws[i]?) = w2.map some) : ws.Perm w2 := by
  subst hn
  have h3 : (is.map (fun i => ws[i]?)).Perm (ws.map some) := by
    refine (h1.map _).trans ?_
    have : (List.range ws.length).map (fun i => ws[i]?) = ws.map some := by
      apply List.ext_getElem?
      intro i
      rw [List.getElem?_map, List.getElem?_map]
      by_cases hi : i < ws.length
      · rw [List.getElem?_range hi, List.getElem?_eq_getElem hi]
        simp [List.getElem?_eq_getElem hi]
      · rw [List.getElem?_eq_none (by simpa using Nat.le_of_not_lt hi), List.getElem?_eq_none (Nat.le_of_not_lt hi)]
        rfl
    rw [this]
  rw [h2] at h3
  have h4 := h3.filterMap id
  simpa using h4.symm
theorem jpermF {ws w2 : List va_W} {tl : va_W} (h : ws.Perm w2) : (ws.flatten ++ tl).Perm (w2.flatten ++ tl) := (List.Perm.flatten h).append_right tl
/-! the start: what the tables and the Statement say at the law's entry; a state behind it -/
def jStart (u : jU) (s0 : State) (b0 : Addr) : Prop := (∀ w ∈ lw_tbl, w.before #[Value.ref b0] s0 = true) ∧ (Jvm.Cond.and given_1 narrow_1).before #[Value.ref b0] s0 = true ∧ jb u = s0.heap.size ∧ va_K (jD u) jCl (jTy u) s0
def jK (u : jU) (U : State) : Prop := ∃ (s0 : State) (b0 : Addr), jStart u s0 b0 ∧ s0.WarmedH U.vm ∧ s0.heap.size ≤ U.heap.size ∧ ∀ q : Nat, q < s0.heap.size → U.heap[q]? = s0.heap[q]?
theorem jK.K {u : jU} {U : State} (h : jK u U) : va_K (jD u) jCl (jTy u) U := by
  obtain ⟨s0, b0, h1, h2, -⟩ := h
  exact va_K.moved h2.alike h1.2.2.2
theorem jK.A {u : jU} {U : State} (h : jK u U) : ∀ q : Nat, U.heap.size ≤ q → jA u q := by
  obtain ⟨s0, b0, h1, -, h3, -⟩ := h
  intro q hq
  show jb u ≤ q
  rw [h1.2.2.1]
  omega
theorem jK.moved {u : jU} {s U : State} {H : Heap} {locs : List Loc} (h : jK u s) (hS : va_S (jA u) s.heap H locs) (hH : U.heap = H) (hW : s.WarmedH U.vm) : jK u U := by
  obtain ⟨s0, b0, h1, h2, h3, h4⟩ := h
  refine ⟨s0, b0, h1, State.WarmedH.trans h2 hW, by rw [hH]; exact Nat.le_trans h3 hS.1, fun q hq => ?_⟩
  rw [hH, hS.2.1 q (Nat.lt_of_lt_of_le hq h3) (by show ¬ jb u ≤ q; rw [h1.2.2.1]; omega)]
  exact h4 q hq
theorem jK.blind {u : jU} {U : State} (h : jK u U) (g : JFrame) (mk : MethodId) (a : Array Value) : jK u (U.calling g mk a) := by
  obtain ⟨s0, b0, h1, h2, h3, h4⟩ := h
  exact ⟨s0, b0, h1, h2, h3, h4⟩
def jPre (u : jU) (av : List Value) (ws : List va_W) (tl : va_W) : Array Value → State → Prop := va_Pc av (fun U => jK u U ∧ va_P (jD u) jCl (ws.flatten ++ tl) U.heap ∧ va_D (jA u) (ws.flatten ++ tl))
def jPost (u : jU) (post : Option Value → List va_W → Prop) (tl : va_W) : Array Value → State → Outcome → State → Prop := fun _ st oc t => (∃ (v : Option Value) (ws : List va_W), oc = .returned v ∧ post v ws ∧ va_P (jD u) jCl (ws.flatten ++ tl) t.heap ∧ va_D (jA u) (ws.flatten ++ tl)) ∧ va_F (jA u) st t
/-- THE CONTRACT: the method y, called with av in a world ws (beside any other cells), returns v and leaves a world w with post v w; at most mc cells with ms slots are new; fr frames, lo words of locals -/
def jC (l : Launch) (u : jU) (y : MethodName) (cc : ByteArray) (nL : Nat) (ret : Option FieldType) (fr lo mc ms : Nat) (av : List Value) (ws : List va_W) (post : Option Value → List va_W → Prop) : Prop :=
  ∀ tl : va_W, Met l y (ws_ y cc nL ret) ({ frames := fr, cells := mc, slots := ms, locals := lo }) (jPre u av ws tl) (jPost u post tl) mc ms (jA u)
theorem jPre.blind {u : jU} {av : List Value} {ws : List va_W} {tl : va_W} : FrameBlind (jPre u av ws tl) := fun a U g mk h => ⟨h.1, h.2.1.blind g mk a, h.2.2⟩
abbrev jX : Type := Program × Launch × Env × Room × State × MethodId × Array Value × List Frame × Method × Code × (State → Prop) × va_W
def jJ (X : jX) (u : jU) (nL : Nat) (ws : List va_W) (lv : List (Nat × Value)) (k n pc : Nat) (st : List Value) : Prop := match X with
  | (p, l, e, R, s, m, args, below, meth, c, Q, tl) => ∀ (H : Heap) (locs : List Loc) (ls : Array Slot), va_P (jD u) jCl (ws.flatten ++ tl) H → va_D (jA u) (ws.flatten ++ tl) → va_S (jA u) s.heap H locs → lv_has ls nL lv → W p l e R s m args below meth c H locs k n Q (F0 m pc ls st)
/-- what holds all through a method's body -/
def jG (X : jX) (l0 : Launch) (u : jU) (own : String) (cc : ByteArray) (nL : Nat) (ret : Option FieldType) (Rf Rl Rc Rs : Nat) : Prop := match X with
  | (p, l, e, R, s, m, args, below, meth, c, Q, tl) => p.tables.exec = Jvm.exec ∧ c.code = cc ∧ c.maxLocals = nL ∧ meth.sig.returnType = ret ∧ meth.locks = false ∧ s.vm.findClass own = some m.cls ∧ (∀ w ∈ lw_all, w.before args s = true) ∧ jK u s ∧ R = ({ frames := Rf, cells := Rc, slots := Rs, locals := Rl } : Room) ∧ l = l0
/-- how a body may end -/
def jE (X : jX) (u : jU) (post : Option Value → List va_W → Prop) (mc ms : Nat) : Prop := match X with
  | (p, l, e, R, s, m, args, below, meth, c, Q, tl) => ∀ (H : Heap) (locs : List Loc) (k n : Nat) (g : JFrame), k ≤ mc → n ≤ ms → W p l e R s m args below meth c H locs mc ms (MQ below (jPost u post tl) args s mc ms (jA u)) g → W p l e R s m args below meth c H locs k n Q g
/-- a constructor's body (a final field may be written there) -/
def jI (X : jX) : Prop := match X with
  | (p, l, e, R, s, m, args, below, meth, c, Q, tl) => meth.name = "<init>"
theorem jC.of (own : String) {l : Launch} {u : jU} {y : MethodName} {cc : ByteArray} {nL : Nat} {ret : Option FieldType} {fr lo mc ms : Nat} {av : List Value} {ws : List va_W} {post : Option Value → List va_W → Prop} (hy : plainName y.cls = true) (hown : y.cls = own) (hlen : (lg_sl av).length ≤ nL) (lv : List (Nat × Value)) (hlv : lv_args 0 av = lv)
    (body : ∀ X : jX, jG X l u own cc nL ret fr lo mc ms → jE X u post mc ms → (y.name = "<init>" → jI X) → jJ X u nL ws lv 0 0 0 []) : jC l u y cc nL ret fr lo mc ms av ws post := by
  intro tl
  refine Met.ofW (cc := cc) (maxL := nL) (ret := ret) hy rfl ?_
  intro p e s m args below meth c s₁ B hml hv
  obtain ⟨ha, hK, hP, hD⟩ := hv
  have hts := atoms_spec (ws := ws_ y cc nL ret) B.pre
  have hts : ∀ w ∈ lw_all, w.before args s = true := fun w h => hts w (List.mem_cons_of_mem _ h)
  have hl := lv_entry av (n := nL) hlen
  subst ha
  subst hlv
  subst hown
  rw [lg_entry_eq]
  exact body (p, l, e, _, s, m, av.toArray, below, meth, c, MQ below (jPost u post tl) av.toArray s mc ms (jA u), tl) ⟨B.exec, B.bytes, hml, B.returns, B.notSynchronized, findClass_of_methodNamed B.named, hts, hK, rfl, rfl⟩
    (fun H locs k n g h1 h2 h3 => W.widen h1 h2 h3) (fun hn => (name_of_methodNamed B.named B.method).1.trans hn) s.heap [] _ hP hD va_S.rf hl
section
variable {X : jX} {l : Launch} {u : jU} {own : String} {cc : ByteArray} {nL : Nat} {ret : Option FieldType} {Rf Rl Rc Rs : Nat} {ws : List va_W} {lv : List (Nat × Value)} {k n pc : Nat} {st : List Value}
theorem j_iconst {z : Int} (G : jG X l u own cc nL ret Rf Rl Rc Rs)  (d : decode cc pc = .ok (.iconst z, 1)) (kk : jJ X u nL ws lv k n (pc + 1) (iI z :: st)) : jJ X u nL ws lv k n pc st := by
  obtain ⟨p, l', e, R', s, m, args, below, meth, c, Q, tl⟩ := X
  obtain ⟨hx, hb, hml, hr, hlk, hown, hts, hK, hR, hl'⟩ := G
  intro H locs ls hP hD hS hl
  exact lv_iconst hx hb d rfl (kk H locs ls hP hD hS hl)
theorem j_bipush {z : Int} (G : jG X l u own cc nL ret Rf Rl Rc Rs) (hz : (Int8.ofInt z).toInt32 = Int32.ofInt z) (d : decode cc pc = .ok (.bipush z, 2)) (kk : jJ X u nL ws lv k n (pc + 2) (iI z :: st)) : jJ X u nL ws lv k n pc st := by
  obtain ⟨p, l', e, R', s, m, args, below, meth, c, Q, tl⟩ := X
  obtain ⟨hx, hb, hml, hr, hlk, hown, hts, hK, hR, hl'⟩ := G
  intro H locs ls hP hD hS hl
  exact lv_bipush hx hb d hz (kk H locs ls hP hD hS hl)
theorem j_sipush {z : Int} (G : jG X l u own cc nL ret Rf Rl Rc Rs) (hz : (Int16.ofInt z).toInt32 = Int32.ofInt z) (d : decode cc pc = .ok (.sipush z, 3)) (kk : jJ X u nL ws lv k n (pc + 3) (iI z :: st)) : jJ X u nL ws lv k n pc st := by
  obtain ⟨p, l', e, R', s, m, args, below, meth, c, Q, tl⟩ := X
  obtain ⟨hx, hb, hml, hr, hlk, hown, hts, hK, hR, hl'⟩ := G
  intro H locs ls hP hD hS hl
  exact lv_sipush hx hb d hz (kk H locs ls hP hD hS hl)
theorem j_lconst {z : Fin 2} (w : Int) (G : jG X l u own cc nL ret Rf Rl Rc Rs) (hz : Int64.ofNat (z : Nat) = Int64.ofInt w) (d : decode cc pc = .ok (.lconst z, 1)) (kk : jJ X u nL ws lv k n (pc + 1) (lI w :: st)) : jJ X u nL ws lv k n pc st := by
  obtain ⟨p, l', e, R', s, m, args, below, meth, c, Q, tl⟩ := X
  obtain ⟨hx, hb, hml, hr, hlk, hown, hts, hK, hR, hl'⟩ := G
  intro H locs ls hP hD hS hl
  exact lv_lconst hx hb d hz (kk H locs ls hP hD hS hl)
theorem j_ldc {index : Nat} {v : Int32} (z : Int) (G : jG X l u own cc nL ret Rf Rl Rc Rs) (hc : Jvm.Cond.constant own index v ∈ lw_all) (hz : v = Int32.ofInt z) (d : decode cc pc = .ok (.ldc index, 2)) (kk : jJ X u nL ws lv k n (pc + 2) (iI z :: st)) : jJ X u nL ws lv k n pc st := by
  obtain ⟨p, l', e, R', s, m, args, below, meth, c, Q, tl⟩ := X
  obtain ⟨hx, hb, hml, hr, hlk, hown, hts, hK, hR, hl'⟩ := G
  intro H locs ls hP hD hS hl
  subst hz
  exact lv_ldc hx hb hown (hts _ hc) d (kk H locs ls hP hD hS hl)
theorem j_ldcw {index : Nat} {v : Int32} (z : Int) (G : jG X l u own cc nL ret Rf Rl Rc Rs) (hc : Jvm.Cond.constant own index v ∈ lw_all) (hz : v = Int32.ofInt z) (d : decode cc pc = .ok (.ldc_w index, 3)) (kk : jJ X u nL ws lv k n (pc + 3) (iI z :: st)) : jJ X u nL ws lv k n pc st := by
  obtain ⟨p, l', e, R', s, m, args, below, meth, c, Q, tl⟩ := X
  obtain ⟨hx, hb, hml, hr, hlk, hown, hts, hK, hR, hl'⟩ := G
  intro H locs ls hP hD hS hl
  subst hz
  exact lv_ldcw hx hb hown (hts _ hc) d (kk H locs ls hP hD hS hl)
theorem j_ldc2 {index : Nat} {v : Int64} (z : Int) (G : jG X l u own cc nL ret Rf Rl Rc Rs) (hc : Jvm.Cond.constantLong own index v ∈ lw_all) (hz : v = Int64.ofInt z) (d : decode cc pc = .ok (.ldc2_w index, 3)) (kk : jJ X u nL ws lv k n (pc + 3) (lI z :: st)) : jJ X u nL ws lv k n pc st := by
  obtain ⟨p, l', e, R', s, m, args, below, meth, c, Q, tl⟩ := X
  obtain ⟨hx, hb, hml, hr, hlk, hown, hts, hK, hR, hl'⟩ := G
  intro H locs ls hP hD hS hl
  subst hz
  exact lv_ldc2 hx hb hown (hts _ hc) d (kk H locs ls hP hD hS hl)
theorem j_null  (G : jG X l u own cc nL ret Rf Rl Rc Rs)  (d : decode cc pc = .ok (.aconst_null, 1)) (kk : jJ X u nL ws lv k n (pc + 1) (.null :: st)) : jJ X u nL ws lv k n pc st := by
  obtain ⟨p, l', e, R', s, m, args, below, meth, c, Q, tl⟩ := X
  obtain ⟨hx, hb, hml, hr, hlk, hown, hts, hK, hR, hl'⟩ := G
  intro H locs ls hP hD hS hl
  exact lv_null hx hb d (kk H locs ls hP hD hS hl)
theorem j_dconst0  (G : jG X l u own cc nL ret Rf Rl Rc Rs)  (d : decode cc pc = .ok (.dconst 0, 1)) (kk : jJ X u nL ws lv k n (pc + 1) (.double FP.dconst0 :: st)) : jJ X u nL ws lv k n pc st := by
  obtain ⟨p, l', e, R', s, m, args, below, meth, c, Q, tl⟩ := X
  obtain ⟨hx, hb, hml, hr, hlk, hown, hts, hK, hR, hl'⟩ := G
  intro H locs ls hP hD hS hl
  exact lv_dconst0 hx hb d (kk H locs ls hP hD hS hl)
theorem j_iload_n {f : Fin 4} {z : Int} (G : jG X l u own cc nL ret Rf Rl Rc Rs) (j : Nat) (hj : lv[j]? = some ((f : Nat), iI z)) (d : decode cc pc = .ok (.iload_n f, 1)) (kk : jJ X u nL ws lv k n (pc + 1) (iI z :: st)) : jJ X u nL ws lv k n pc st := by
  obtain ⟨p, l', e, R', s, m, args, below, meth, c, Q, tl⟩ := X
  obtain ⟨hx, hb, hml, hr, hlk, hown, hts, hK, hR, hl'⟩ := G
  intro H locs ls hP hD hS hl
  exact lv_iload_n hx hb d rfl (lv_at hl j hj) (kk H locs ls hP hD hS hl)
theorem j_iload {f : Nat} {z : Int} (G : jG X l u own cc nL ret Rf Rl Rc Rs) (j : Nat) (hj : lv[j]? = some (f, iI z)) (d : decode cc pc = .ok (.iload f, 2)) (kk : jJ X u nL ws lv k n (pc + 2) (iI z :: st)) : jJ X u nL ws lv k n pc st := by
  obtain ⟨p, l', e, R', s, m, args, below, meth, c, Q, tl⟩ := X
  obtain ⟨hx, hb, hml, hr, hlk, hown, hts, hK, hR, hl'⟩ := G
  intro H locs ls hP hD hS hl
  exact lv_iload hx hb d (lv_at hl j hj) (kk H locs ls hP hD hS hl)
theorem j_lload_n {f : Fin 4} {z : Int} (G : jG X l u own cc nL ret Rf Rl Rc Rs) (j : Nat) (hj : lv[j]? = some ((f : Nat), lI z)) (d : decode cc pc = .ok (.lload_n f, 1)) (kk : jJ X u nL ws lv k n (pc + 1) (lI z :: st)) : jJ X u nL ws lv k n pc st := by
  obtain ⟨p, l', e, R', s, m, args, below, meth, c, Q, tl⟩ := X
  obtain ⟨hx, hb, hml, hr, hlk, hown, hts, hK, hR, hl'⟩ := G
  intro H locs ls hP hD hS hl
  exact lv_lload_n hx hb d rfl (lv_at hl j hj) (kk H locs ls hP hD hS hl)
theorem j_lload {f : Nat} {z : Int} (G : jG X l u own cc nL ret Rf Rl Rc Rs) (j : Nat) (hj : lv[j]? = some (f, lI z)) (d : decode cc pc = .ok (.lload f, 2)) (kk : jJ X u nL ws lv k n (pc + 2) (lI z :: st)) : jJ X u nL ws lv k n pc st := by
  obtain ⟨p, l', e, R', s, m, args, below, meth, c, Q, tl⟩ := X
  obtain ⟨hx, hb, hml, hr, hlk, hown, hts, hK, hR, hl'⟩ := G
  intro H locs ls hP hD hS hl
  exact lv_lload hx hb d (lv_at hl j hj) (kk H locs ls hP hD hS hl)
theorem j_aload_n {f : Fin 4} {a : Nat} (G : jG X l u own cc nL ret Rf Rl Rc Rs) (j : Nat) (hj : lv[j]? = some ((f : Nat), .ref a)) (d : decode cc pc = .ok (.aload_n f, 1)) (kk : jJ X u nL ws lv k n (pc + 1) (.ref a :: st)) : jJ X u nL ws lv k n pc st := by
  obtain ⟨p, l', e, R', s, m, args, below, meth, c, Q, tl⟩ := X
  obtain ⟨hx, hb, hml, hr, hlk, hown, hts, hK, hR, hl'⟩ := G
  intro H locs ls hP hD hS hl
  exact lv_aload_n hx hb d rfl (lv_at hl j hj) (kk H locs ls hP hD hS hl)
theorem j_aload {f : Nat} {a : Nat} (G : jG X l u own cc nL ret Rf Rl Rc Rs) (j : Nat) (hj : lv[j]? = some (f, .ref a)) (d : decode cc pc = .ok (.aload f, 2)) (kk : jJ X u nL ws lv k n (pc + 2) (.ref a :: st)) : jJ X u nL ws lv k n pc st := by
  obtain ⟨p, l', e, R', s, m, args, below, meth, c, Q, tl⟩ := X
  obtain ⟨hx, hb, hml, hr, hlk, hown, hts, hK, hR, hl'⟩ := G
  intro H locs ls hP hD hS hl
  exact lv_aload hx hb d (lv_at hl j hj) (kk H locs ls hP hD hS hl)
theorem j_dload_n {f : Fin 4} {a : UInt64} (G : jG X l u own cc nL ret Rf Rl Rc Rs) (j : Nat) (hj : lv[j]? = some ((f : Nat), .double a)) (d : decode cc pc = .ok (.dload_n f, 1)) (kk : jJ X u nL ws lv k n (pc + 1) (.double a :: st)) : jJ X u nL ws lv k n pc st := by
  obtain ⟨p, l', e, R', s, m, args, below, meth, c, Q, tl⟩ := X
  obtain ⟨hx, hb, hml, hr, hlk, hown, hts, hK, hR, hl'⟩ := G
  intro H locs ls hP hD hS hl
  exact lv_dload_n hx hb d rfl (lv_at hl j hj) (kk H locs ls hP hD hS hl)
theorem j_dload {f : Nat} {a : UInt64} (G : jG X l u own cc nL ret Rf Rl Rc Rs) (j : Nat) (hj : lv[j]? = some (f, .double a)) (d : decode cc pc = .ok (.dload f, 2)) (kk : jJ X u nL ws lv k n (pc + 2) (.double a :: st)) : jJ X u nL ws lv k n pc st := by
  obtain ⟨p, l', e, R', s, m, args, below, meth, c, Q, tl⟩ := X
  obtain ⟨hx, hb, hml, hr, hlk, hown, hts, hK, hR, hl'⟩ := G
  intro H locs ls hP hD hS hl
  exact lv_dload hx hb d (lv_at hl j hj) (kk H locs ls hP hD hS hl)
theorem j_aload_nq {f : Fin 4} {o : Option Nat} (G : jG X l u own cc nL ret Rf Rl Rc Rs) (j : Nat) (hj : lv[j]? = some ((f : Nat), va_rf o)) (d : decode cc pc = .ok (.aload_n f, 1)) (kk : jJ X u nL ws lv k n (pc + 1) (va_rf o :: st)) : jJ X u nL ws lv k n pc st := by
  obtain ⟨p, l', e, R', s, m, args, below, meth, c, Q, tl⟩ := X
  obtain ⟨hx, hb, hml, hr, hlk, hown, hts, hK, hR, hl'⟩ := G
  intro H locs ls hP hD hS hl
  cases o with
  | none => exact lv_aload_nN hx hb d rfl (lv_at hl j hj) (kk H locs ls hP hD hS hl)
  | some a => exact lv_aload_n hx hb d rfl (lv_at hl j hj) (kk H locs ls hP hD hS hl)
theorem j_aloadq {f : Nat} {o : Option Nat} (G : jG X l u own cc nL ret Rf Rl Rc Rs) (j : Nat) (hj : lv[j]? = some (f, va_rf o)) (d : decode cc pc = .ok (.aload f, 2)) (kk : jJ X u nL ws lv k n (pc + 2) (va_rf o :: st)) : jJ X u nL ws lv k n pc st := by
  obtain ⟨p, l', e, R', s, m, args, below, meth, c, Q, tl⟩ := X
  obtain ⟨hx, hb, hml, hr, hlk, hown, hts, hK, hR, hl'⟩ := G
  intro H locs ls hP hD hS hl
  cases o with
  | none => exact lv_aloadN hx hb d (lv_at hl j hj) (kk H locs ls hP hD hS hl)
  | some a => exact lv_aload hx hb d (lv_at hl j hj) (kk H locs ls hP hD hS hl)
theorem j_istore_n {f : Fin 4} {z : Int} (G : jG X l u own cc nL ret Rf Rl Rc Rs) (lv' : List (Nat × Value)) (hl2 : ((f : Nat), iI z) :: lv.filter (fun q => !(q.1 == (f : Nat)) && !(q.1 + 1 == (f : Nat) && q.2.category == 2)) = lv') (hn : (f : Nat) < nL) (d : decode cc pc = .ok (.istore_n f, 1)) (kk : jJ X u nL ws lv' k n (pc + 1) st) : jJ X u nL ws lv k n pc (iI z :: st) := by
  obtain ⟨p, l', e, R', s, m, args, below, meth, c, Q, tl⟩ := X
  obtain ⟨hx, hb, hml, hr, hlk, hown, hts, hK, hR, hl'⟩ := G
  intro H locs ls hP hD hS hl
  exact lv_istore_n hx hb d rfl hl hn hl2 (fun ls' hl => kk H locs ls' hP hD hS hl)
theorem j_istore {f : Nat} {z : Int} (G : jG X l u own cc nL ret Rf Rl Rc Rs) (lv' : List (Nat × Value)) (hl2 : (f, iI z) :: lv.filter (fun q => !(q.1 == f) && !(q.1 + 1 == f && q.2.category == 2)) = lv') (hn : f < nL) (d : decode cc pc = .ok (.istore f, 2)) (kk : jJ X u nL ws lv' k n (pc + 2) st) : jJ X u nL ws lv k n pc (iI z :: st) := by
  obtain ⟨p, l', e, R', s, m, args, below, meth, c, Q, tl⟩ := X
  obtain ⟨hx, hb, hml, hr, hlk, hown, hts, hK, hR, hl'⟩ := G
  intro H locs ls hP hD hS hl
  exact lv_istore hx hb d hl hn hl2 (fun ls' hl => kk H locs ls' hP hD hS hl)
theorem j_lstore_n {f : Fin 4} {z : Int} (G : jG X l u own cc nL ret Rf Rl Rc Rs) (lv' : List (Nat × Value)) (hl2 : ((f : Nat), lI z) :: lv.filter (fun q => !(q.1 == (f : Nat)) && (!(q.1 == (f : Nat) + 1) && !(q.1 + 1 == (f : Nat) && q.2.category == 2))) = lv') (hn : (f : Nat) + 1 < nL) (d : decode cc pc = .ok (.lstore_n f, 1)) (kk : jJ X u nL ws lv' k n (pc + 1) st) : jJ X u nL ws lv k n pc (lI z :: st) := by
  obtain ⟨p, l', e, R', s, m, args, below, meth, c, Q, tl⟩ := X
  obtain ⟨hx, hb, hml, hr, hlk, hown, hts, hK, hR, hl'⟩ := G
  intro H locs ls hP hD hS hl
  exact lv_lstore_n hx hb d rfl hl hn hl2 (fun ls' hl => kk H locs ls' hP hD hS hl)
theorem j_lstore {f : Nat} {z : Int} (G : jG X l u own cc nL ret Rf Rl Rc Rs) (lv' : List (Nat × Value)) (hl2 : (f, lI z) :: lv.filter (fun q => !(q.1 == f) && (!(q.1 == f + 1) && !(q.1 + 1 == f && q.2.category == 2))) = lv') (hn : f + 1 < nL) (d : decode cc pc = .ok (.lstore f, 2)) (kk : jJ X u nL ws lv' k n (pc + 2) st) : jJ X u nL ws lv k n pc (lI z :: st) := by
  obtain ⟨p, l', e, R', s, m, args, below, meth, c, Q, tl⟩ := X
  obtain ⟨hx, hb, hml, hr, hlk, hown, hts, hK, hR, hl'⟩ := G
  intro H locs ls hP hD hS hl
  exact lv_lstore hx hb d hl hn hl2 (fun ls' hl => kk H locs ls' hP hD hS hl)
theorem j_astore_n {f : Fin 4} {a : Nat} (G : jG X l u own cc nL ret Rf Rl Rc Rs) (lv' : List (Nat × Value)) (hl2 : ((f : Nat), .ref a) :: lv.filter (fun q => !(q.1 == (f : Nat)) && !(q.1 + 1 == (f : Nat) && q.2.category == 2)) = lv') (hn : (f : Nat) < nL) (d : decode cc pc = .ok (.astore_n f, 1)) (kk : jJ X u nL ws lv' k n (pc + 1) st) : jJ X u nL ws lv k n pc (.ref a :: st) := by
  obtain ⟨p, l', e, R', s, m, args, below, meth, c, Q, tl⟩ := X
  obtain ⟨hx, hb, hml, hr, hlk, hown, hts, hK, hR, hl'⟩ := G
  intro H locs ls hP hD hS hl
  exact lv_astore_n hx hb d rfl hl hn hl2 (fun ls' hl => kk H locs ls' hP hD hS hl)
theorem j_astore {f : Nat} {a : Nat} (G : jG X l u own cc nL ret Rf Rl Rc Rs) (lv' : List (Nat × Value)) (hl2 : (f, .ref a) :: lv.filter (fun q => !(q.1 == f) && !(q.1 + 1 == f && q.2.category == 2)) = lv') (hn : f < nL) (d : decode cc pc = .ok (.astore f, 2)) (kk : jJ X u nL ws lv' k n (pc + 2) st) : jJ X u nL ws lv k n pc (.ref a :: st) := by
  obtain ⟨p, l', e, R', s, m, args, below, meth, c, Q, tl⟩ := X
  obtain ⟨hx, hb, hml, hr, hlk, hown, hts, hK, hR, hl'⟩ := G
  intro H locs ls hP hD hS hl
  exact lv_astore hx hb d hl hn hl2 (fun ls' hl => kk H locs ls' hP hD hS hl)
theorem j_dstore_n {f : Fin 4} {a : UInt64} (G : jG X l u own cc nL ret Rf Rl Rc Rs) (lv' : List (Nat × Value)) (hl2 : ((f : Nat), .double a) :: lv.filter (fun q => !(q.1 == (f : Nat)) && (!(q.1 == (f : Nat) + 1) && !(q.1 + 1 == (f : Nat) && q.2.category == 2))) = lv') (hn : (f : Nat) + 1 < nL) (d : decode cc pc = .ok (.dstore_n f, 1)) (kk : jJ X u nL ws lv' k n (pc + 1) st) : jJ X u nL ws lv k n pc (.double a :: st) := by
  obtain ⟨p, l', e, R', s, m, args, below, meth, c, Q, tl⟩ := X
  obtain ⟨hx, hb, hml, hr, hlk, hown, hts, hK, hR, hl'⟩ := G
  intro H locs ls hP hD hS hl
  exact lv_dstore_n hx hb d rfl hl hn hl2 (fun ls' hl => kk H locs ls' hP hD hS hl)
theorem j_dstore {f : Nat} {a : UInt64} (G : jG X l u own cc nL ret Rf Rl Rc Rs) (lv' : List (Nat × Value)) (hl2 : (f, .double a) :: lv.filter (fun q => !(q.1 == f) && (!(q.1 == f + 1) && !(q.1 + 1 == f && q.2.category == 2))) = lv') (hn : f + 1 < nL) (d : decode cc pc = .ok (.dstore f, 2)) (kk : jJ X u nL ws lv' k n (pc + 2) st) : jJ X u nL ws lv k n pc (.double a :: st) := by
  obtain ⟨p, l', e, R', s, m, args, below, meth, c, Q, tl⟩ := X
  obtain ⟨hx, hb, hml, hr, hlk, hown, hts, hK, hR, hl'⟩ := G
  intro H locs ls hP hD hS hl
  exact lv_dstore hx hb d hl hn hl2 (fun ls' hl => kk H locs ls' hP hD hS hl)
theorem j_astore_nq {f : Fin 4} {o : Option Nat} (G : jG X l u own cc nL ret Rf Rl Rc Rs) (lv' : List (Nat × Value)) (hl2 : ((f : Nat), va_rf o) :: lv.filter (fun q => !(q.1 == (f : Nat)) && !(q.1 + 1 == (f : Nat) && q.2.category == 2)) = lv') (hn : (f : Nat) < nL) (d : decode cc pc = .ok (.astore_n f, 1)) (kk : jJ X u nL ws lv' k n (pc + 1) st) : jJ X u nL ws lv k n pc (va_rf o :: st) := by
  obtain ⟨p, l', e, R', s, m, args, below, meth, c, Q, tl⟩ := X
  obtain ⟨hx, hb, hml, hr, hlk, hown, hts, hK, hR, hl'⟩ := G
  intro H locs ls hP hD hS hl
  cases o with
  | none => exact lv_astore_nN hx hb d rfl hl hn hl2 (fun ls' hl => kk H locs ls' hP hD hS hl)
  | some a => exact lv_astore_n hx hb d rfl hl hn hl2 (fun ls' hl => kk H locs ls' hP hD hS hl)
theorem j_astoreq {f : Nat} {o : Option Nat} (G : jG X l u own cc nL ret Rf Rl Rc Rs) (lv' : List (Nat × Value)) (hl2 : (f, va_rf o) :: lv.filter (fun q => !(q.1 == f) && !(q.1 + 1 == f && q.2.category == 2)) = lv') (hn : f < nL) (d : decode cc pc = .ok (.astore f, 2)) (kk : jJ X u nL ws lv' k n (pc + 2) st) : jJ X u nL ws lv k n pc (va_rf o :: st) := by
  obtain ⟨p, l', e, R', s, m, args, below, meth, c, Q, tl⟩ := X
  obtain ⟨hx, hb, hml, hr, hlk, hown, hts, hK, hR, hl'⟩ := G
  intro H locs ls hP hD hS hl
  cases o with
  | none => exact lv_astoreN hx hb d hl hn hl2 (fun ls' hl => kk H locs ls' hP hD hS hl)
  | some a => exact lv_astore hx hb d hl hn hl2 (fun ls' hl => kk H locs ls' hP hD hS hl)
theorem j_iinc {f : Nat} {dz z : Int} (G : jG X l u own cc nL ret Rf Rl Rc Rs) (j : Nat) (hj : lv[j]? = some (f, iI z)) (lv' : List (Nat × Value)) (hl2 : (f, iI (z + dz)) :: lv.filter (fun q => !(q.1 == f) && !(q.1 + 1 == f && q.2.category == 2)) = lv') (hn : f < nL) (d : decode cc pc = .ok (.iinc f dz, 3)) (kk : jJ X u nL ws lv' k n (pc + 3) st) : jJ X u nL ws lv k n pc st := by
  obtain ⟨p, l', e, R', s, m, args, below, meth, c, Q, tl⟩ := X
  obtain ⟨hx, hb, hml, hr, hlk, hown, hts, hK, hR, hl'⟩ := G
  intro H locs ls hP hD hS hl
  exact lv_iinc hx hb d hl hj (Int32.ofInt_add z dz).symm hn hl2 (fun ls' hl => kk H locs ls' hP hD hS hl)
theorem j_iadd {a b : Int} (G : jG X l u own cc nL ret Rf Rl Rc Rs)  (d : decode cc pc = .ok (.iadd, 1)) (kk : jJ X u nL ws lv k n (pc + 1) (iI (a + b) :: st)) : jJ X u nL ws lv k n pc (iI b :: iI a :: st) := by
  obtain ⟨p, l', e, R', s, m, args, below, meth, c, Q, tl⟩ := X
  obtain ⟨hx, hb, hml, hr, hlk, hown, hts, hK, hR, hl'⟩ := G
  intro H locs ls hP hD hS hl
  refine lv_iadd hx hb d ?_
  rw [← Int32.ofInt_add]
  exact kk H locs ls hP hD hS hl
theorem j_ladd {a b : Int} (G : jG X l u own cc nL ret Rf Rl Rc Rs)  (d : decode cc pc = .ok (.ladd, 1)) (kk : jJ X u nL ws lv k n (pc + 1) (lI (a + b) :: st)) : jJ X u nL ws lv k n pc (lI b :: lI a :: st) := by
  obtain ⟨p, l', e, R', s, m, args, below, meth, c, Q, tl⟩ := X
  obtain ⟨hx, hb, hml, hr, hlk, hown, hts, hK, hR, hl'⟩ := G
  intro H locs ls hP hD hS hl
  refine lv_ladd hx hb d ?_
  rw [← Int64.ofInt_add]
  exact kk H locs ls hP hD hS hl
theorem j_isub {a b : Int} (G : jG X l u own cc nL ret Rf Rl Rc Rs)  (d : decode cc pc = .ok (.isub, 1)) (kk : jJ X u nL ws lv k n (pc + 1) (iI (a - b) :: st)) : jJ X u nL ws lv k n pc (iI b :: iI a :: st) := by
  obtain ⟨p, l', e, R', s, m, args, below, meth, c, Q, tl⟩ := X
  obtain ⟨hx, hb, hml, hr, hlk, hown, hts, hK, hR, hl'⟩ := G
  intro H locs ls hP hD hS hl
  refine lv_isub hx hb d ?_
  rw [← Int32.ofInt_sub]
  exact kk H locs ls hP hD hS hl
theorem j_lsub {a b : Int} (G : jG X l u own cc nL ret Rf Rl Rc Rs)  (d : decode cc pc = .ok (.lsub, 1)) (kk : jJ X u nL ws lv k n (pc + 1) (lI (a - b) :: st)) : jJ X u nL ws lv k n pc (lI b :: lI a :: st) := by
  obtain ⟨p, l', e, R', s, m, args, below, meth, c, Q, tl⟩ := X
  obtain ⟨hx, hb, hml, hr, hlk, hown, hts, hK, hR, hl'⟩ := G
  intro H locs ls hP hD hS hl
  refine lv_lsub hx hb d ?_
  rw [← Int64.ofInt_sub]
  exact kk H locs ls hP hD hS hl
theorem j_imul {a b : Int} (G : jG X l u own cc nL ret Rf Rl Rc Rs)  (d : decode cc pc = .ok (.imul, 1)) (kk : jJ X u nL ws lv k n (pc + 1) (iI (a * b) :: st)) : jJ X u nL ws lv k n pc (iI b :: iI a :: st) := by
  obtain ⟨p, l', e, R', s, m, args, below, meth, c, Q, tl⟩ := X
  obtain ⟨hx, hb, hml, hr, hlk, hown, hts, hK, hR, hl'⟩ := G
  intro H locs ls hP hD hS hl
  refine lv_imul hx hb d ?_
  rw [← Int32.ofInt_mul]
  exact kk H locs ls hP hD hS hl
theorem j_lmul {a b : Int} (G : jG X l u own cc nL ret Rf Rl Rc Rs)  (d : decode cc pc = .ok (.lmul, 1)) (kk : jJ X u nL ws lv k n (pc + 1) (lI (a * b) :: st)) : jJ X u nL ws lv k n pc (lI b :: lI a :: st) := by
  obtain ⟨p, l', e, R', s, m, args, below, meth, c, Q, tl⟩ := X
  obtain ⟨hx, hb, hml, hr, hlk, hown, hts, hK, hR, hl'⟩ := G
  intro H locs ls hP hD hS hl
  refine lv_lmul hx hb d ?_
  rw [← Int64.ofInt_mul]
  exact kk H locs ls hP hD hS hl
theorem j_ineg {a : Int} (G : jG X l u own cc nL ret Rf Rl Rc Rs)  (d : decode cc pc = .ok (.ineg, 1)) (kk : jJ X u nL ws lv k n (pc + 1) (iI (-a) :: st)) : jJ X u nL ws lv k n pc (iI a :: st) := by
  obtain ⟨p, l', e, R', s, m, args, below, meth, c, Q, tl⟩ := X
  obtain ⟨hx, hb, hml, hr, hlk, hown, hts, hK, hR, hl'⟩ := G
  intro H locs ls hP hD hS hl
  refine lv_ineg hx hb d ?_
  rw [← Int32.ofInt_neg]
  exact kk H locs ls hP hD hS hl
theorem j_lneg {a : Int} (G : jG X l u own cc nL ret Rf Rl Rc Rs)  (d : decode cc pc = .ok (.lneg, 1)) (kk : jJ X u nL ws lv k n (pc + 1) (lI (-a) :: st)) : jJ X u nL ws lv k n pc (lI a :: st) := by
  obtain ⟨p, l', e, R', s, m, args, below, meth, c, Q, tl⟩ := X
  obtain ⟨hx, hb, hml, hr, hlk, hown, hts, hK, hR, hl'⟩ := G
  intro H locs ls hP hD hS hl
  refine lv_lneg hx hb d ?_
  rw [← Int64.ofInt_neg]
  exact kk H locs ls hP hD hS hl
theorem j_idiv {a b : Int} (G : jG X l u own cc nL ret Rf Rl Rc Rs) (hra : iR a) (hrb : iR b) (h0 : ¬ b = 0) (h1 : ¬ (a = -2147483648 ∧ b = -1)) (d : decode cc pc = .ok (.idiv, 1)) (kk : jJ X u nL ws lv k n (pc + 1) (iI (a.tdiv b) :: st)) : jJ X u nL ws lv k n pc (iI b :: iI a :: st) := by
  obtain ⟨p, l', e, R', s, m, args, below, meth, c, Q, tl⟩ := X
  obtain ⟨hx, hb, hml, hr, hlk, hown, hts, hK, hR, hl'⟩ := G
  intro H locs ls hP hD hS hl
  have hz : ¬ Int32.ofInt b = 0 := fun h => h0 ((iI_inj hrb iR_0).mp h)
  refine lv_idiv hx hb d hz ?_
  rw [iI_tdiv hra hrb h1]
  exact kk H locs ls hP hD hS hl
theorem j_irem {a b : Int} (G : jG X l u own cc nL ret Rf Rl Rc Rs) (hra : iR a) (hrb : iR b) (h0 : ¬ b = 0) (h1 : ¬ (a = -2147483648 ∧ b = -1)) (d : decode cc pc = .ok (.irem, 1)) (kk : jJ X u nL ws lv k n (pc + 1) (iI (a.tmod b) :: st)) : jJ X u nL ws lv k n pc (iI b :: iI a :: st) := by
  obtain ⟨p, l', e, R', s, m, args, below, meth, c, Q, tl⟩ := X
  obtain ⟨hx, hb, hml, hr, hlk, hown, hts, hK, hR, hl'⟩ := G
  intro H locs ls hP hD hS hl
  have hz : ¬ Int32.ofInt b = 0 := fun h => h0 ((iI_inj hrb iR_0).mp h)
  refine lv_irem hx hb d hz ?_
  rw [iI_tmod hra hrb h1]
  exact kk H locs ls hP hD hS hl
theorem j_ldiv {a b : Int} (G : jG X l u own cc nL ret Rf Rl Rc Rs) (hra : lR a) (hrb : lR b) (h0 : ¬ b = 0) (d : decode cc pc = .ok (.ldiv, 1)) (kk : jJ X u nL ws lv k n (pc + 1) (lI (a.tdiv b) :: st)) : jJ X u nL ws lv k n pc (lI b :: lI a :: st) := by
  obtain ⟨p, l', e, R', s, m, args, below, meth, c, Q, tl⟩ := X
  obtain ⟨hx, hb, hml, hr, hlk, hown, hts, hK, hR, hl'⟩ := G
  intro H locs ls hP hD hS hl
  have hz : ¬ Int64.ofInt b = 0 := fun h => h0 ((lI_inj hrb (by unfold lR; omega)).mp h)
  refine lv_ldiv hx hb d hz ?_
  rw [lI_tdiv hra hrb]
  exact kk H locs ls hP hD hS hl
theorem j_lrem {a b : Int} (G : jG X l u own cc nL ret Rf Rl Rc Rs) (hra : lR a) (hrb : lR b) (h0 : ¬ b = 0) (d : decode cc pc = .ok (.lrem, 1)) (kk : jJ X u nL ws lv k n (pc + 1) (lI (a.tmod b) :: st)) : jJ X u nL ws lv k n pc (lI b :: lI a :: st) := by
  obtain ⟨p, l', e, R', s, m, args, below, meth, c, Q, tl⟩ := X
  obtain ⟨hx, hb, hml, hr, hlk, hown, hts, hK, hR, hl'⟩ := G
  intro H locs ls hP hD hS hl
  have hz : ¬ Int64.ofInt b = 0 := fun h => h0 ((lI_inj hrb (by unfold lR; omega)).mp h)
  refine lv_lrem hx hb d hz ?_
  rw [lI_tmod hra hrb]
  exact kk H locs ls hP hD hS hl
theorem j_idivN {a b : Int} (G : jG X l u own cc nL ret Rf Rl Rc Rs) (hra : 0 ≤ a ∧ a ≤ 2147483647) (hrb : 0 < b ∧ b ≤ 2147483647) (d : decode cc pc = .ok (.idiv, 1)) (kk : jJ X u nL ws lv k n (pc + 1) (iI (a / b) :: st)) : jJ X u nL ws lv k n pc (iI b :: iI a :: st) := by
  refine j_idiv G (by unfold iR; omega) (by unfold iR; omega) (by omega) (by omega) d ?_
  rw [Int.tdiv_eq_ediv_of_nonneg hra.1]
  exact kk
theorem j_iremN {a b : Int} (G : jG X l u own cc nL ret Rf Rl Rc Rs) (hra : 0 ≤ a ∧ a ≤ 2147483647) (hrb : 0 < b ∧ b ≤ 2147483647) (d : decode cc pc = .ok (.irem, 1)) (kk : jJ X u nL ws lv k n (pc + 1) (iI (a % b) :: st)) : jJ X u nL ws lv k n pc (iI b :: iI a :: st) := by
  refine j_irem G (by unfold iR; omega) (by unfold iR; omega) (by omega) (by omega) d ?_
  rw [Int.tmod_eq_emod_of_nonneg hra.1]
  exact kk
theorem j_iand {a b : Int} (G : jG X l u own cc nL ret Rf Rl Rc Rs)  (d : decode cc pc = .ok (.iand, 1)) (kk : jJ X u nL ws lv k n (pc + 1) (iI (jAnd a b) :: st)) : jJ X u nL ws lv k n pc (iI b :: iI a :: st) := by
  obtain ⟨p, l', e, R', s, m, args, below, meth, c, Q, tl⟩ := X
  obtain ⟨hx, hb, hml, hr, hlk, hown, hts, hK, hR, hl'⟩ := G
  intro H locs ls hP hD hS hl
  refine lv_iand hx hb d ?_
  have hk := kk H locs ls hP hD hS hl
  unfold iI jAnd at hk
  rw [Int32.ofInt_toInt] at hk
  exact hk
theorem j_ior {a b : Int} (G : jG X l u own cc nL ret Rf Rl Rc Rs)  (d : decode cc pc = .ok (.ior, 1)) (kk : jJ X u nL ws lv k n (pc + 1) (iI (jOr a b) :: st)) : jJ X u nL ws lv k n pc (iI b :: iI a :: st) := by
  obtain ⟨p, l', e, R', s, m, args, below, meth, c, Q, tl⟩ := X
  obtain ⟨hx, hb, hml, hr, hlk, hown, hts, hK, hR, hl'⟩ := G
  intro H locs ls hP hD hS hl
  refine lv_ior hx hb d ?_
  have hk := kk H locs ls hP hD hS hl
  unfold iI jOr at hk
  rw [Int32.ofInt_toInt] at hk
  exact hk
theorem j_ixor {a b : Int} (G : jG X l u own cc nL ret Rf Rl Rc Rs)  (d : decode cc pc = .ok (.ixor, 1)) (kk : jJ X u nL ws lv k n (pc + 1) (iI (jXor a b) :: st)) : jJ X u nL ws lv k n pc (iI b :: iI a :: st) := by
  obtain ⟨p, l', e, R', s, m, args, below, meth, c, Q, tl⟩ := X
  obtain ⟨hx, hb, hml, hr, hlk, hown, hts, hK, hR, hl'⟩ := G
  intro H locs ls hP hD hS hl
  refine lv_ixor hx hb d ?_
  have hk := kk H locs ls hP hD hS hl
  unfold iI jXor at hk
  rw [Int32.ofInt_toInt] at hk
  exact hk
theorem j_ishl {a b : Int} (G : jG X l u own cc nL ret Rf Rl Rc Rs)  (d : decode cc pc = .ok (.ishl, 1)) (kk : jJ X u nL ws lv k n (pc + 1) (iI (jShl a b) :: st)) : jJ X u nL ws lv k n pc (iI b :: iI a :: st) := by
  obtain ⟨p, l', e, R', s, m, args, below, meth, c, Q, tl⟩ := X
  obtain ⟨hx, hb, hml, hr, hlk, hown, hts, hK, hR, hl'⟩ := G
  intro H locs ls hP hD hS hl
  refine lv_ishl hx hb d ?_
  have hk := kk H locs ls hP hD hS hl
  unfold iI jShl at hk
  rw [Int32.ofInt_toInt] at hk
  exact hk
theorem j_ishr {a b : Int} (G : jG X l u own cc nL ret Rf Rl Rc Rs)  (d : decode cc pc = .ok (.ishr, 1)) (kk : jJ X u nL ws lv k n (pc + 1) (iI (jShr a b) :: st)) : jJ X u nL ws lv k n pc (iI b :: iI a :: st) := by
  obtain ⟨p, l', e, R', s, m, args, below, meth, c, Q, tl⟩ := X
  obtain ⟨hx, hb, hml, hr, hlk, hown, hts, hK, hR, hl'⟩ := G
  intro H locs ls hP hD hS hl
  refine lv_ishr hx hb d ?_
  have hk := kk H locs ls hP hD hS hl
  unfold iI jShr at hk
  rw [Int32.ofInt_toInt] at hk
  exact hk
theorem j_iushr {a b : Int} (G : jG X l u own cc nL ret Rf Rl Rc Rs)  (d : decode cc pc = .ok (.iushr, 1)) (kk : jJ X u nL ws lv k n (pc + 1) (iI (jUshr a b) :: st)) : jJ X u nL ws lv k n pc (iI b :: iI a :: st) := by
  obtain ⟨p, l', e, R', s, m, args, below, meth, c, Q, tl⟩ := X
  obtain ⟨hx, hb, hml, hr, hlk, hown, hts, hK, hR, hl'⟩ := G
  intro H locs ls hP hD hS hl
  refine lv_iushr hx hb d rfl ?_
  have hk := kk H locs ls hP hD hS hl
  unfold iI jUshr at hk
  rw [Int32.ofInt_toInt] at hk
  exact hk
theorem j_i2c {a : Int} (G : jG X l u own cc nL ret Rf Rl Rc Rs)  (d : decode cc pc = .ok (.i2c, 1)) (kk : jJ X u nL ws lv k n (pc + 1) (iI (jChr a) :: st)) : jJ X u nL ws lv k n pc (iI a :: st) := by
  obtain ⟨p, l', e, R', s, m, args, below, meth, c, Q, tl⟩ := X
  obtain ⟨hx, hb, hml, hr, hlk, hown, hts, hK, hR, hl'⟩ := G
  intro H locs ls hP hD hS hl
  refine lv_i2c hx hb d rfl ?_
  have hk := kk H locs ls hP hD hS hl
  unfold iI jChr at hk
  rw [Int32.ofInt_toInt] at hk
  exact hk
theorem j_i2b {a : Int} (G : jG X l u own cc nL ret Rf Rl Rc Rs)  (d : decode cc pc = .ok (.i2b, 1)) (kk : jJ X u nL ws lv k n (pc + 1) (iI (jByt a) :: st)) : jJ X u nL ws lv k n pc (iI a :: st) := by
  obtain ⟨p, l', e, R', s, m, args, below, meth, c, Q, tl⟩ := X
  obtain ⟨hx, hb, hml, hr, hlk, hown, hts, hK, hR, hl'⟩ := G
  intro H locs ls hP hD hS hl
  refine lv_i2b hx hb d rfl ?_
  have hk := kk H locs ls hP hD hS hl
  unfold iI jByt at hk
  rw [Int32.ofInt_toInt] at hk
  exact hk
theorem j_i2l {a : Int} (G : jG X l u own cc nL ret Rf Rl Rc Rs) (hra : iR a) (d : decode cc pc = .ok (.i2l, 1)) (kk : jJ X u nL ws lv k n (pc + 1) (lI a :: st)) : jJ X u nL ws lv k n pc (iI a :: st) := by
  obtain ⟨p, l', e, R', s, m, args, below, meth, c, Q, tl⟩ := X
  obtain ⟨hx, hb, hml, hr, hlk, hown, hts, hK, hR, hl'⟩ := G
  intro H locs ls hP hD hS hl
  exact lv_i2l hx hb d (iI_i2l hra) (kk H locs ls hP hD hS hl)
theorem j_l2i {a : Int} (G : jG X l u own cc nL ret Rf Rl Rc Rs)  (d : decode cc pc = .ok (.l2i, 1)) (kk : jJ X u nL ws lv k n (pc + 1) (iI a :: st)) : jJ X u nL ws lv k n pc (lI a :: st) := by
  obtain ⟨p, l', e, R', s, m, args, below, meth, c, Q, tl⟩ := X
  obtain ⟨hx, hb, hml, hr, hlk, hown, hts, hK, hR, hl'⟩ := G
  intro H locs ls hP hD hS hl
  exact lv_l2i hx hb d Int64.toInt32_ofInt (kk H locs ls hP hD hS hl)
theorem j_lcmp {a b : Int} (G : jG X l u own cc nL ret Rf Rl Rc Rs) (hra : lR a) (hrb : lR b) (d : decode cc pc = .ok (.lcmp, 1)) (kk : jJ X u nL ws lv k n (pc + 1) (iI (jCmp a b) :: st)) : jJ X u nL ws lv k n pc (lI b :: lI a :: st) := by
  obtain ⟨p, l', e, R', s, m, args, below, meth, c, Q, tl⟩ := X
  obtain ⟨hx, hb, hml, hr, hlk, hown, hts, hK, hR, hl'⟩ := G
  intro H locs ls hP hD hS hl
  refine W.lcmp hx hb d ?_
  have hc : lg_cmp (Int64.ofInt a) (Int64.ofInt b) = Int32.ofInt (jCmp a b) := by
    unfold lg_cmp jCmp
    by_cases h1 : b < a
    · simp [h1, (lI_lt hrb hra).mpr h1]
    · by_cases h2 : a = b
      · subst h2
        simp [lI_lt hra hra]
      · have h3 : ¬ Int64.ofInt b < Int64.ofInt a := fun h => h1 ((lI_lt hrb hra).mp h)
        have h4 : ¬ Int64.ofInt a = Int64.ofInt b := fun h => h2 ((lI_inj hra hrb).mp h)
        simp [h1, h2, h3, h4]
  rw [hc]
  exact kk H locs ls hP hD hS hl
theorem j_dup {v : Value} (G : jG X l u own cc nL ret Rf Rl Rc Rs) (h1 : v.category = 1) (d : decode cc pc = .ok (.dup, 1)) (kk : jJ X u nL ws lv k n (pc + 1) (v :: v :: st)) : jJ X u nL ws lv k n pc (v :: st) := by
  obtain ⟨p, l', e, R', s, m, args, below, meth, c, Q, tl⟩ := X
  obtain ⟨hx, hb, hml, hr, hlk, hown, hts, hK, hR, hl'⟩ := G
  intro H locs ls hP hD hS hl
  exact lv_dup hx hb d h1 (kk H locs ls hP hD hS hl)
theorem j_pop {v : Value} (G : jG X l u own cc nL ret Rf Rl Rc Rs) (h1 : v.category = 1) (d : decode cc pc = .ok (.pop, 1)) (kk : jJ X u nL ws lv k n (pc + 1) st) : jJ X u nL ws lv k n pc (v :: st) := by
  obtain ⟨p, l', e, R', s, m, args, below, meth, c, Q, tl⟩ := X
  obtain ⟨hx, hb, hml, hr, hlk, hown, hts, hK, hR, hl'⟩ := G
  intro H locs ls hP hD hS hl
  exact lv_pop hx hb d h1 (kk H locs ls hP hD hS hl)
theorem j_dup_x1 {v w : Value} (G : jG X l u own cc nL ret Rf Rl Rc Rs) (h1 : v.category = 1) (h2 : w.category = 1) (d : decode cc pc = .ok (.dup_x1, 1)) (kk : jJ X u nL ws lv k n (pc + 1) (v :: w :: v :: st)) : jJ X u nL ws lv k n pc (v :: w :: st) := by
  obtain ⟨p, l', e, R', s, m, args, below, meth, c, Q, tl⟩ := X
  obtain ⟨hx, hb, hml, hr, hlk, hown, hts, hK, hR, hl'⟩ := G
  intro H locs ls hP hD hS hl
  exact lv_dup_x1 hx hb d h1 h2 (kk H locs ls hP hD hS hl)
theorem j_dup2 {v w : Value} (G : jG X l u own cc nL ret Rf Rl Rc Rs) (h1 : v.category = 1) (h2 : w.category = 1) (d : decode cc pc = .ok (.dup2, 1)) (kk : jJ X u nL ws lv k n (pc + 1) (v :: w :: v :: w :: st)) : jJ X u nL ws lv k n pc (v :: w :: st) := by
  obtain ⟨p, l', e, R', s, m, args, below, meth, c, Q, tl⟩ := X
  obtain ⟨hx, hb, hml, hr, hlk, hown, hts, hK, hR, hl'⟩ := G
  intro H locs ls hP hD hS hl
  exact lv_dup2_11 hx hb d h1 h2 (kk H locs ls hP hD hS hl)
theorem j_dup2_2 {v : Value} (G : jG X l u own cc nL ret Rf Rl Rc Rs) (h1 : v.category = 2) (d : decode cc pc = .ok (.dup2, 1)) (kk : jJ X u nL ws lv k n (pc + 1) (v :: v :: st)) : jJ X u nL ws lv k n pc (v :: st) := by
  obtain ⟨p, l', e, R', s, m, args, below, meth, c, Q, tl⟩ := X
  obtain ⟨hx, hb, hml, hr, hlk, hown, hts, hK, hR, hl'⟩ := G
  intro H locs ls hP hD hS hl
  exact lv_dup2_2 hx hb d h1 (kk H locs ls hP hD hS hl)
theorem j_dup2_x1_2 {v w : Value} (G : jG X l u own cc nL ret Rf Rl Rc Rs) (h1 : v.category = 2) (h2 : w.category = 1) (d : decode cc pc = .ok (.dup2_x1, 1)) (kk : jJ X u nL ws lv k n (pc + 1) (v :: w :: v :: st)) : jJ X u nL ws lv k n pc (v :: w :: st) := by
  obtain ⟨p, l', e, R', s, m, args, below, meth, c, Q, tl⟩ := X
  obtain ⟨hx, hb, hml, hr, hlk, hown, hts, hK, hR, hl'⟩ := G
  intro H locs ls hP hD hS hl
  exact lv_dup2_x1_2 hx hb d h1 h2 (kk H locs ls hP hD hS hl)
theorem j_if_eq {a : Int} {off : Int} (tgt : Nat) (G : jG X l u own cc nL ret Rf Rl Rc Rs) (hra : iR a) (d : decode cc pc = .ok (.ifCond .eq off, 3)) (ht : (pc : Int) + off = (tgt : Int)) (kt : a = 0 → jJ X u nL ws lv k n tgt st) (kf : ¬ a = 0 → jJ X u nL ws lv k n (pc + 3) st) : jJ X u nL ws lv k n pc (iI a :: st) := by
  obtain ⟨p, l', e, R', s, m, args, below, meth, c, Q, tl⟩ := X
  obtain ⟨hx, hb, hml, hr, hlk, hown, hts, hK, hR, hl'⟩ := G
  intro H locs ls hP hD hS hl
  exact lv_if_eq hx hb d ht (fun h => kt ((iI_inj hra iR_0).mp h) H locs ls hP hD hS hl) (fun h => kf (fun q => h ((iI_inj hra iR_0).mpr q)) H locs ls hP hD hS hl)
theorem j_icmp_eq {a b : Int} {off : Int} (tgt : Nat) (G : jG X l u own cc nL ret Rf Rl Rc Rs) (hra : iR a) (hrb : iR b) (d : decode cc pc = .ok (.if_icmp .eq off, 3)) (ht : (pc : Int) + off = (tgt : Int)) (kt : a = b → jJ X u nL ws lv k n tgt st) (kf : ¬ a = b → jJ X u nL ws lv k n (pc + 3) st) : jJ X u nL ws lv k n pc (iI b :: iI a :: st) := by
  obtain ⟨p, l', e, R', s, m, args, below, meth, c, Q, tl⟩ := X
  obtain ⟨hx, hb, hml, hr, hlk, hown, hts, hK, hR, hl'⟩ := G
  intro H locs ls hP hD hS hl
  exact lv_icmp_eq hx hb d ht (fun h => kt ((iI_inj hra hrb).mp h) H locs ls hP hD hS hl) (fun h => kf (fun q => h ((iI_inj hra hrb).mpr q)) H locs ls hP hD hS hl)
theorem j_if_ne {a : Int} {off : Int} (tgt : Nat) (G : jG X l u own cc nL ret Rf Rl Rc Rs) (hra : iR a) (d : decode cc pc = .ok (.ifCond .ne off, 3)) (ht : (pc : Int) + off = (tgt : Int)) (kt : ¬ a = 0 → jJ X u nL ws lv k n tgt st) (kf : a = 0 → jJ X u nL ws lv k n (pc + 3) st) : jJ X u nL ws lv k n pc (iI a :: st) := by
  obtain ⟨p, l', e, R', s, m, args, below, meth, c, Q, tl⟩ := X
  obtain ⟨hx, hb, hml, hr, hlk, hown, hts, hK, hR, hl'⟩ := G
  intro H locs ls hP hD hS hl
  exact lv_if_ne hx hb d ht (fun h => kt (fun q => h ((iI_inj hra iR_0).mpr q)) H locs ls hP hD hS hl) (fun h => kf ((iI_inj hra iR_0).mp h) H locs ls hP hD hS hl)
theorem j_icmp_ne {a b : Int} {off : Int} (tgt : Nat) (G : jG X l u own cc nL ret Rf Rl Rc Rs) (hra : iR a) (hrb : iR b) (d : decode cc pc = .ok (.if_icmp .ne off, 3)) (ht : (pc : Int) + off = (tgt : Int)) (kt : ¬ a = b → jJ X u nL ws lv k n tgt st) (kf : a = b → jJ X u nL ws lv k n (pc + 3) st) : jJ X u nL ws lv k n pc (iI b :: iI a :: st) := by
  obtain ⟨p, l', e, R', s, m, args, below, meth, c, Q, tl⟩ := X
  obtain ⟨hx, hb, hml, hr, hlk, hown, hts, hK, hR, hl'⟩ := G
  intro H locs ls hP hD hS hl
  exact lv_icmp_ne hx hb d ht (fun h => kt (fun q => h ((iI_inj hra hrb).mpr q)) H locs ls hP hD hS hl) (fun h => kf ((iI_inj hra hrb).mp h) H locs ls hP hD hS hl)
theorem j_if_lt {a : Int} {off : Int} (tgt : Nat) (G : jG X l u own cc nL ret Rf Rl Rc Rs) (hra : iR a) (d : decode cc pc = .ok (.ifCond .lt off, 3)) (ht : (pc : Int) + off = (tgt : Int)) (kt : a < 0 → jJ X u nL ws lv k n tgt st) (kf : ¬ a < 0 → jJ X u nL ws lv k n (pc + 3) st) : jJ X u nL ws lv k n pc (iI a :: st) := by
  obtain ⟨p, l', e, R', s, m, args, below, meth, c, Q, tl⟩ := X
  obtain ⟨hx, hb, hml, hr, hlk, hown, hts, hK, hR, hl'⟩ := G
  intro H locs ls hP hD hS hl
  exact lv_if_lt hx hb d ht (fun h => kt ((iI_lt hra iR_0).mp h) H locs ls hP hD hS hl) (fun h => kf (fun q => h ((iI_lt hra iR_0).mpr q)) H locs ls hP hD hS hl)
theorem j_icmp_lt {a b : Int} {off : Int} (tgt : Nat) (G : jG X l u own cc nL ret Rf Rl Rc Rs) (hra : iR a) (hrb : iR b) (d : decode cc pc = .ok (.if_icmp .lt off, 3)) (ht : (pc : Int) + off = (tgt : Int)) (kt : a < b → jJ X u nL ws lv k n tgt st) (kf : ¬ a < b → jJ X u nL ws lv k n (pc + 3) st) : jJ X u nL ws lv k n pc (iI b :: iI a :: st) := by
  obtain ⟨p, l', e, R', s, m, args, below, meth, c, Q, tl⟩ := X
  obtain ⟨hx, hb, hml, hr, hlk, hown, hts, hK, hR, hl'⟩ := G
  intro H locs ls hP hD hS hl
  exact lv_icmp_lt hx hb d ht (fun h => kt ((iI_lt hra hrb).mp h) H locs ls hP hD hS hl) (fun h => kf (fun q => h ((iI_lt hra hrb).mpr q)) H locs ls hP hD hS hl)
theorem j_if_ge {a : Int} {off : Int} (tgt : Nat) (G : jG X l u own cc nL ret Rf Rl Rc Rs) (hra : iR a) (d : decode cc pc = .ok (.ifCond .ge off, 3)) (ht : (pc : Int) + off = (tgt : Int)) (kt : 0 ≤ a → jJ X u nL ws lv k n tgt st) (kf : ¬ 0 ≤ a → jJ X u nL ws lv k n (pc + 3) st) : jJ X u nL ws lv k n pc (iI a :: st) := by
  obtain ⟨p, l', e, R', s, m, args, below, meth, c, Q, tl⟩ := X
  obtain ⟨hx, hb, hml, hr, hlk, hown, hts, hK, hR, hl'⟩ := G
  intro H locs ls hP hD hS hl
  exact lv_if_ge hx hb d ht (fun h => kt ((iI_le iR_0 hra).mp h) H locs ls hP hD hS hl) (fun h => kf (fun q => h ((iI_le iR_0 hra).mpr q)) H locs ls hP hD hS hl)
theorem j_icmp_ge {a b : Int} {off : Int} (tgt : Nat) (G : jG X l u own cc nL ret Rf Rl Rc Rs) (hra : iR a) (hrb : iR b) (d : decode cc pc = .ok (.if_icmp .ge off, 3)) (ht : (pc : Int) + off = (tgt : Int)) (kt : b ≤ a → jJ X u nL ws lv k n tgt st) (kf : ¬ b ≤ a → jJ X u nL ws lv k n (pc + 3) st) : jJ X u nL ws lv k n pc (iI b :: iI a :: st) := by
  obtain ⟨p, l', e, R', s, m, args, below, meth, c, Q, tl⟩ := X
  obtain ⟨hx, hb, hml, hr, hlk, hown, hts, hK, hR, hl'⟩ := G
  intro H locs ls hP hD hS hl
  exact lv_icmp_ge hx hb d ht (fun h => kt ((iI_le hrb hra).mp h) H locs ls hP hD hS hl) (fun h => kf (fun q => h ((iI_le hrb hra).mpr q)) H locs ls hP hD hS hl)
theorem j_if_gt {a : Int} {off : Int} (tgt : Nat) (G : jG X l u own cc nL ret Rf Rl Rc Rs) (hra : iR a) (d : decode cc pc = .ok (.ifCond .gt off, 3)) (ht : (pc : Int) + off = (tgt : Int)) (kt : 0 < a → jJ X u nL ws lv k n tgt st) (kf : ¬ 0 < a → jJ X u nL ws lv k n (pc + 3) st) : jJ X u nL ws lv k n pc (iI a :: st) := by
  obtain ⟨p, l', e, R', s, m, args, below, meth, c, Q, tl⟩ := X
  obtain ⟨hx, hb, hml, hr, hlk, hown, hts, hK, hR, hl'⟩ := G
  intro H locs ls hP hD hS hl
  exact lv_if_gt hx hb d ht (fun h => kt ((iI_lt iR_0 hra).mp h) H locs ls hP hD hS hl) (fun h => kf (fun q => h ((iI_lt iR_0 hra).mpr q)) H locs ls hP hD hS hl)
theorem j_icmp_gt {a b : Int} {off : Int} (tgt : Nat) (G : jG X l u own cc nL ret Rf Rl Rc Rs) (hra : iR a) (hrb : iR b) (d : decode cc pc = .ok (.if_icmp .gt off, 3)) (ht : (pc : Int) + off = (tgt : Int)) (kt : b < a → jJ X u nL ws lv k n tgt st) (kf : ¬ b < a → jJ X u nL ws lv k n (pc + 3) st) : jJ X u nL ws lv k n pc (iI b :: iI a :: st) := by
  obtain ⟨p, l', e, R', s, m, args, below, meth, c, Q, tl⟩ := X
  obtain ⟨hx, hb, hml, hr, hlk, hown, hts, hK, hR, hl'⟩ := G
  intro H locs ls hP hD hS hl
  exact lv_icmp_gt hx hb d ht (fun h => kt ((iI_lt hrb hra).mp h) H locs ls hP hD hS hl) (fun h => kf (fun q => h ((iI_lt hrb hra).mpr q)) H locs ls hP hD hS hl)
theorem j_if_le {a : Int} {off : Int} (tgt : Nat) (G : jG X l u own cc nL ret Rf Rl Rc Rs) (hra : iR a) (d : decode cc pc = .ok (.ifCond .le off, 3)) (ht : (pc : Int) + off = (tgt : Int)) (kt : a ≤ 0 → jJ X u nL ws lv k n tgt st) (kf : ¬ a ≤ 0 → jJ X u nL ws lv k n (pc + 3) st) : jJ X u nL ws lv k n pc (iI a :: st) := by
  obtain ⟨p, l', e, R', s, m, args, below, meth, c, Q, tl⟩ := X
  obtain ⟨hx, hb, hml, hr, hlk, hown, hts, hK, hR, hl'⟩ := G
  intro H locs ls hP hD hS hl
  exact lv_if_le hx hb d ht (fun h => kt ((iI_le hra iR_0).mp h) H locs ls hP hD hS hl) (fun h => kf (fun q => h ((iI_le hra iR_0).mpr q)) H locs ls hP hD hS hl)
theorem j_icmp_le {a b : Int} {off : Int} (tgt : Nat) (G : jG X l u own cc nL ret Rf Rl Rc Rs) (hra : iR a) (hrb : iR b) (d : decode cc pc = .ok (.if_icmp .le off, 3)) (ht : (pc : Int) + off = (tgt : Int)) (kt : a ≤ b → jJ X u nL ws lv k n tgt st) (kf : ¬ a ≤ b → jJ X u nL ws lv k n (pc + 3) st) : jJ X u nL ws lv k n pc (iI b :: iI a :: st) := by
  obtain ⟨p, l', e, R', s, m, args, below, meth, c, Q, tl⟩ := X
  obtain ⟨hx, hb, hml, hr, hlk, hown, hts, hK, hR, hl'⟩ := G
  intro H locs ls hP hD hS hl
  exact lv_icmp_le hx hb d ht (fun h => kt ((iI_le hra hrb).mp h) H locs ls hP hD hS hl) (fun h => kf (fun q => h ((iI_le hra hrb).mpr q)) H locs ls hP hD hS hl)
theorem j_goto {off : Int} (tgt : Nat) (G : jG X l u own cc nL ret Rf Rl Rc Rs) (d : decode cc pc = .ok (.goto off, 3)) (ht : (pc : Int) + off = (tgt : Int)) (kk : jJ X u nL ws lv k n tgt st) : jJ X u nL ws lv k n pc st := by
  obtain ⟨p, l', e, R', s, m, args, below, meth, c, Q, tl⟩ := X
  obtain ⟨hx, hb, hml, hr, hlk, hown, hts, hK, hR, hl'⟩ := G
  intro H locs ls hP hD hS hl
  exact lv_goto hx hb d ht (kk H locs ls hP hD hS hl)
theorem j_ifnull {o : Option Nat} {off : Int} (tgt : Nat) (G : jG X l u own cc nL ret Rf Rl Rc Rs) (d : decode cc pc = .ok (.ifnull off, 3)) (ht : (pc : Int) + off = (tgt : Int)) (kt : o = none → jJ X u nL ws lv k n tgt st) (kf : ∀ a : Nat, o = some a → jJ X u nL ws lv k n (pc + 3) st) : jJ X u nL ws lv k n pc (va_rf o :: st) := by
  obtain ⟨p, l', e, R', s, m, args, below, meth, c, Q, tl⟩ := X
  obtain ⟨hx, hb, hml, hr, hlk, hown, hts, hK, hR, hl'⟩ := G
  intro H locs ls hP hD hS hl
  cases o with
  | none => exact lv_ifnullN hx hb d ht (kt rfl H locs ls hP hD hS hl)
  | some a => exact lv_ifnull hx hb d (kf a rfl H locs ls hP hD hS hl)
theorem j_ifnonnull {o : Option Nat} {off : Int} (tgt : Nat) (G : jG X l u own cc nL ret Rf Rl Rc Rs) (d : decode cc pc = .ok (.ifnonnull off, 3)) (ht : (pc : Int) + off = (tgt : Int)) (kt : ∀ a : Nat, o = some a → jJ X u nL ws lv k n tgt st) (kf : o = none → jJ X u nL ws lv k n (pc + 3) st) : jJ X u nL ws lv k n pc (va_rf o :: st) := by
  obtain ⟨p, l', e, R', s, m, args, below, meth, c, Q, tl⟩ := X
  obtain ⟨hx, hb, hml, hr, hlk, hown, hts, hK, hR, hl'⟩ := G
  intro H locs ls hP hD hS hl
  cases o with
  | none => exact lv_ifnonnullN hx hb d (kf rfl H locs ls hP hD hS hl)
  | some a => exact lv_ifnonnull hx hb d ht (kt a rfl H locs ls hP hD hS hl)
theorem j_acmp_eq {rx ry : Option Nat} {off : Int} (tgt : Nat) (G : jG X l u own cc nL ret Rf Rl Rc Rs) (d : decode cc pc = .ok (.if_acmp .eq off, 3)) (ht : (pc : Int) + off = (tgt : Int)) (kt : rx = ry → jJ X u nL ws lv k n tgt st) (kf : ¬ rx = ry → jJ X u nL ws lv k n (pc + 3) st) : jJ X u nL ws lv k n pc (va_rf ry :: va_rf rx :: st) := by
  obtain ⟨p, l', e, R', s, m, args, below, meth, c, Q, tl⟩ := X
  obtain ⟨hx, hb, hml, hr, hlk, hown, hts, hK, hR, hl'⟩ := G
  intro H locs ls hP hD hS hl
  exact lv_acmp_eq hx hb d ht (fun h => kt h H locs ls hP hD hS hl) (fun h => kf h H locs ls hP hD hS hl)
theorem j_acmp_ne {rx ry : Option Nat} {off : Int} (tgt : Nat) (G : jG X l u own cc nL ret Rf Rl Rc Rs) (d : decode cc pc = .ok (.if_acmp .ne off, 3)) (ht : (pc : Int) + off = (tgt : Int)) (kt : ¬ rx = ry → jJ X u nL ws lv k n tgt st) (kf : rx = ry → jJ X u nL ws lv k n (pc + 3) st) : jJ X u nL ws lv k n pc (va_rf ry :: va_rf rx :: st) := by
  obtain ⟨p, l', e, R', s, m, args, below, meth, c, Q, tl⟩ := X
  obtain ⟨hx, hb, hml, hr, hlk, hown, hts, hK, hR, hl'⟩ := G
  intro H locs ls hP hD hS hl
  exact lv_acmp_ne hx hb d ht (fun h => kt h H locs ls hP hD hS hl) (fun h => kf h H locs ls hP hD hS hl)
theorem j_tsOut {z dflt lo hi : Int} {offs : Array Int} {len : Nat} (tgt : Nat) (G : jG X l u own cc nL ret Rf Rl Rc Rs) (hz : iR z) (d : decode cc pc = .ok (.tableswitch dflt lo hi offs, len)) (h : z < lo ∨ hi < z) (ht : (pc : Int) + dflt = (tgt : Int)) (kk : jJ X u nL ws lv k n tgt st) : jJ X u nL ws lv k n pc (iI z :: st) := by
  obtain ⟨p, l', e, R', s, m, args, below, meth, c, Q, tl⟩ := X
  obtain ⟨hx, hb, hml, hr, hlk, hown, hts, hK, hR, hl'⟩ := G
  intro H locs ls hP hD hS hl
  exact lv_tableOut hx hb d (by rw [iI_toInt hz]; exact h) ht (kk H locs ls hP hD hS hl)
theorem j_tsIn {z dflt lo hi off : Int} {offs : Array Int} {len : Nat} (tgt : Nat) (G : jG X l u own cc nL ret Rf Rl Rc Rs) (hz : iR z) (d : decode cc pc = .ok (.tableswitch dflt lo hi offs, len)) (h1 : lo ≤ z) (h2 : z ≤ hi) (ho : offs[(z - lo).toNat]? = some off) (ht : (pc : Int) + off = (tgt : Int)) (kk : jJ X u nL ws lv k n tgt st) : jJ X u nL ws lv k n pc (iI z :: st) := by
  obtain ⟨p, l', e, R', s, m, args, below, meth, c, Q, tl⟩ := X
  obtain ⟨hx, hb, hml, hr, hlk, hown, hts, hK, hR, hl'⟩ := G
  intro H locs ls hP hD hS hl
  exact lv_tableIn hx hb d (by rw [iI_toInt hz]; omega) (by rw [iI_toInt hz]; omega) (by rw [iI_toInt hz]; exact ho) ht (kk H locs ls hP hD hS hl)
/-- another form of the same state -/
theorem j_eq {st' : List Value} (h : st = st') (kk : jJ X u nL ws lv k n pc st') : jJ X u nL ws lv k n pc st := h ▸ kk
theorem j_lv {lv' : List (Nat × Value)} (is : List Nat) (h : lv_pick lv is = lv') (kk : jJ X u nL ws lv' k n pc st) : jJ X u nL ws lv k n pc st := by
  obtain ⟨p, l', e, R', s, m, args, below, meth, c, Q, tl⟩ := X
  intro H locs ls hP hD hS hl
  exact kk H locs ls hP hD hS (lv_sub hl is h)
theorem j_ws {ws' : List va_W} (h : ws.Perm ws') (kk : jJ X u nL ws' lv k n pc st) : jJ X u nL ws lv k n pc st := by
  obtain ⟨p, l', e, R', s, m, args, below, meth, c, Q, tl⟩ := X
  intro H locs ls hP hD hS hl
  exact kk H locs ls (hP.perm (jpermF h)) (hD.perm (jpermF h)) hS hl
theorem j_wk {k' n' : Nat} (h1 : k ≤ k') (h2 : n ≤ n') (kk : jJ X u nL ws lv k' n' pc st) : jJ X u nL ws lv k n pc st := by
  obtain ⟨p, l', e, R', s, m, args, below, meth, c, Q, tl⟩ := X
  intro H locs ls hP hD hS hl
  exact W.widen h1 h2 (kk H locs ls hP hD hS hl)
/-- a chunk is given up -/
theorem j_drop {w : va_W} (kk : jJ X u nL ws lv k n pc st) : jJ X u nL (w :: ws) lv k n pc st := by
  obtain ⟨p, l', e, R', s, m, args, below, meth, c, Q, tl⟩ := X
  intro H locs ls hP hD hS hl
  have e1 : (w :: ws).flatten ++ tl = w ++ (ws.flatten ++ tl) := by rw [List.flatten_cons, List.append_assoc]
  rw [e1] at hP hD
  refine kk H locs ls (fun i q hi => hP (w.length + i) q (by rw [List.getElem?_append_right (Nat.le_add_right _ _), Nat.add_sub_cancel_left]; exact hi)) ?_ hS hl
  rw [va_D.nodup] at hD ⊢
  rw [List.map_append] at hD
  exact ⟨(List.nodup_append.mp hD.1).2.1, fun q hq => hD.2 q (List.mem_append_right _ hq)⟩
/-- two cells of the world are two -/
theorem j_nd (kk : ((ws.flatten).map (·.1)).Nodup → jJ X u nL ws lv k n pc st) : jJ X u nL ws lv k n pc st := by
  obtain ⟨p, l', e, R', s, m, args, below, meth, c, Q, tl⟩ := X
  intro H locs ls hP hD hS hl
  refine kk ?_ H locs ls hP hD hS hl
  rw [va_D.nodup, List.map_append] at hD
  exact (List.nodup_append.mp hD.1).1
/-- a class's own rows: its field words, its place, its fields' types and names -/
def jF (C : String) (T : u_T) (N ci : Nat) (ty : Nat → FieldType) : Prop := (∀ w ∈ u_ws C T N, w ∈ lw_all) ∧ jCl[ci]? = some (C, T, N) ∧ (∀ k, k < N → parseFieldDescriptor (T k).2.2.1 = some (ty k)) ∧ (∀ a, a < N → ∀ b, b < N → a ≠ b → (T a).2.1 ≠ (T b).2.1)
theorem j_get {C : String} {T : u_T} {N ci index a : Nat} {ty : Nat → FieldType} {fs : List Value} {up : va_E → List va_W} {v : Value} (G : jG X l u own cc nL ret Rf Rl Rc Rs) (F : jF C T N ci ty) (h : jAt ws a (.inr (ci, fs)) up) (f : Nat) (hf : f < N) (hk : Cond.fieldLink own index (T f).1 (T f).2.1 (T f).2.2.1 ∈ lw_all) (hv : fs[f]? = some v) (d : decode cc pc = .ok (.getfield index, 3)) (kk : jJ X u nL ws lv k n (pc + 3) (v :: st)) : jJ X u nL ws lv k n pc (.ref a :: st) := by
  obtain ⟨p, l', e, R', s, m, args, below, meth, c, Q, tl⟩ := X
  obtain ⟨hx, hb, hml, hr, hlk, hown, hts, hK, hR, hl'⟩ := G
  intro H locs ls hP hD hS hl
  obtain ⟨i, h1, -⟩ := h tl
  exact va_get hx hb hts F.1 hown hK.K hP i h1 F.2.1 f hf (hts _ hk) (fun _ h9 => h9) hv d (kk H locs ls hP hD hS hl)
theorem j_put {C : String} {T : u_T} {N ci index a : Nat} {ty : Nat → FieldType} {fs : List Value} {up : va_E → List va_W} {v : Value} {ws' : List va_W} (G : jG X l u own cc nL ret Rf Rl Rc Rs) (F : jF C T N ci ty) (h : jAt ws a (.inr (ci, fs)) up) (f : Nat) (hf : f < N) (hk : Cond.fieldLink own index (T f).1 (T f).2.1 (T f).2.2.1 ∈ lw_all) (hfin : (T f).2.2.2 = false) (hn : narrow (ty f) v = v) (hfit : fits (ty f) v = true) (hlen : f < fs.length) (d : decode cc pc = .ok (.putfield index, 3)) (hw : up (.inr (ci, fs.set f v)) = ws') (kk : jJ X u nL ws' lv k n (pc + 3) st) : jJ X u nL ws lv k n pc (v :: .ref a :: st) := by
  obtain ⟨p, l', e, R', s, m, args, below, meth, c, Q, tl⟩ := X
  obtain ⟨hx, hb, hml, hr, hlk, hown, hts, hK, hR, hl'⟩ := G
  intro H locs ls hP hD hS hl
  obtain ⟨i, h1, h2⟩ := h tl
  subst hw
  exact va_put hx hb hts F.1 ty F.2.2.1 F.2.2.2 hown hK.K hP hD hS i h1 F.2.1 f hf (hts _ hk) (fun _ h9 => h9) hfin (F.2.2.1 f hf) hn hfit hlen d (fun H1 locs1 hP hD hS => kk H1 locs1 ls (by rw [← h2]; exact hP) (by rw [← h2]; exact hD) hS hl)
theorem j_putF {C : String} {T : u_T} {N ci index a : Nat} {ty : Nat → FieldType} {fs : List Value} {up : va_E → List va_W} {v : Value} {ws' : List va_W} (G : jG X l u own cc nL ret Rf Rl Rc Rs) (I : jI X) (F : jF C T N ci ty) (h : jAt ws a (.inr (ci, fs)) up) (f : Nat) (hf : f < N) (hk : Cond.fieldLink own index (T f).1 (T f).2.1 (T f).2.2.1 ∈ lw_all) (hfin : (T f).2.2.2 = true) (hdecl : (T f).1 = own) (hn : narrow (ty f) v = v) (hfit : fits (ty f) v = true) (hlen : f < fs.length) (d : decode cc pc = .ok (.putfield index, 3)) (hw : up (.inr (ci, fs.set f v)) = ws') (kk : jJ X u nL ws' lv k n (pc + 3) st) : jJ X u nL ws lv k n pc (v :: .ref a :: st) := by
  obtain ⟨p, l', e, R', s, m, args, below, meth, c, Q, tl⟩ := X
  obtain ⟨hx, hb, hml, hr, hlk, hown, hts, hK, hR, hl'⟩ := G
  intro H locs ls hP hD hS hl
  obtain ⟨i, h1, h2⟩ := h tl
  subst hw
  exact va_putF hx hb hts F.1 ty F.2.2.1 F.2.2.2 hown hK.K hP hD hS i h1 F.2.1 f hf (hts _ hk) (fun _ h9 => h9) hfin I hdecl (F.2.2.1 f hf) hn hfit hlen d (fun H1 locs1 hP hD hS => kk H1 locs1 ls (by rw [← h2]; exact hP) (by rw [← h2]; exact hD) hS hl)
theorem jK.nestF {u : jU} {U : State} {a b n d h : String} {i : Nat} (hK : jK u U) (hw : Cond.fieldLinkNest a i b n d h ∈ lw_tbl) {args : Array Value} : (Cond.fieldLinkNest a i b n d h).before args U = true := by
  obtain ⟨s0, b0, h1, h2, -⟩ := hK
  exact va_Nw.use rfl (va_Nw.warmF h2 (va_Nw.of rfl (h1.1 _ hw)))
theorem jK.nestM {u : jU} {U : State} {a h : String} {i : Nat} {x : MethodName} (hK : jK u U) (hw : Cond.methodLinkNest a i x h ∈ lw_tbl) : va_Nw (.methodLinkNest a i x h) U := by
  obtain ⟨s0, b0, h1, h2, -⟩ := hK
  exact va_Nw.warmM h2 (va_Nw.of rfl (h1.1 _ hw))
theorem jK.cast {u : jU} {U : State} {C T : String} (hK : jK u U) (hw : Cond.castable C T ∈ lw_tbl) : va_Nw (.castable C T) U := by
  obtain ⟨s0, b0, h1, h2, -⟩ := hK
  exact va_Nw.warmC h2 (va_Nw.of rfl (h1.1 _ hw))
theorem jK.face {u : jU} {U : State} {C : String} {x y : MethodName} (hK : jK u U) (hx : x.cls ≠ "java/lang/invoke/MethodHandle" ∧ x.cls ≠ "java/lang/invoke/VarHandle") (h1 : Cond.declares x ∈ lw_tbl) (h2 : Cond.interfaceMethod x.cls x.cls x.name x.desc ∈ lw_tbl) (h3 : Cond.publicMethod y ∈ lw_tbl) (h4 : Cond.unhidden C x.name x.desc ∈ lw_tbl) (h5 : Cond.castable C x.cls ∈ lw_tbl) : va_Fw C x y U := by
  obtain ⟨s0, b0, h, hw, -⟩ := hK
  exact va_Fw.moved hx hw.alike (va_Fw.of (h.1 _ h1) (h.1 _ h2) (h.1 _ h3) (h.1 _ h4) (h.1 _ h5))
theorem j_getN {C host : String} {T : u_T} {N ci index a : Nat} {ty : Nat → FieldType} {fs : List Value} {up : va_E → List va_W} {v : Value} (G : jG X l u own cc nL ret Rf Rl Rc Rs) (F : jF C T N ci ty) (h : jAt ws a (.inr (ci, fs)) up) (f : Nat) (hf : f < N) (hk : Cond.fieldLinkNest own index (T f).1 (T f).2.1 (T f).2.2.1 host ∈ lw_tbl) (hv : fs[f]? = some v) (d : decode cc pc = .ok (.getfield index, 3)) (kk : jJ X u nL ws lv k n (pc + 3) (v :: st)) : jJ X u nL ws lv k n pc (.ref a :: st) := by
  obtain ⟨p, l', e, R', s, m, args, below, meth, c, Q, tl⟩ := X
  obtain ⟨hx, hb, hml, hr, hlk, hown, hts, hK, hR, hl'⟩ := G
  intro H locs ls hP hD hS hl
  obtain ⟨i, h1, -⟩ := h tl
  exact va_getN hx hb hts F.1 hown hK.K hP i h1 F.2.1 f hf (hK.nestF hk) (fun _ h9 => h9) hv d (kk H locs ls hP hD hS hl)
theorem j_putN {C host : String} {T : u_T} {N ci index a : Nat} {ty : Nat → FieldType} {fs : List Value} {up : va_E → List va_W} {v : Value} {ws' : List va_W} (G : jG X l u own cc nL ret Rf Rl Rc Rs) (F : jF C T N ci ty) (h : jAt ws a (.inr (ci, fs)) up) (f : Nat) (hf : f < N) (hk : Cond.fieldLinkNest own index (T f).1 (T f).2.1 (T f).2.2.1 host ∈ lw_tbl) (hfin : (T f).2.2.2 = false) (hn : narrow (ty f) v = v) (hfit : fits (ty f) v = true) (hlen : f < fs.length) (d : decode cc pc = .ok (.putfield index, 3)) (hw : up (.inr (ci, fs.set f v)) = ws') (kk : jJ X u nL ws' lv k n (pc + 3) st) : jJ X u nL ws lv k n pc (v :: .ref a :: st) := by
  obtain ⟨p, l', e, R', s, m, args, below, meth, c, Q, tl⟩ := X
  obtain ⟨hx, hb, hml, hr, hlk, hown, hts, hK, hR, hl'⟩ := G
  intro H locs ls hP hD hS hl
  obtain ⟨i, h1, h2⟩ := h tl
  subst hw
  exact va_putN hx hb hts F.1 ty F.2.2.1 F.2.2.2 hown hK.K hP hD hS i h1 F.2.1 f hf (hK.nestF hk) (fun _ h9 => h9) hfin (F.2.2.1 f hf) hn hfit hlen d (fun H1 locs1 hP hD hS => kk H1 locs1 ls (by rw [← h2]; exact hP) (by rw [← h2]; exact hD) hS hl)
theorem j_new {C : String} {T : u_T} {N ci index : Nat} {ty : Nat → FieldType} {k' n' : Nat} (fs : List Value) (G : jG X l u own cc nL ret Rf Rl Rc Rs) (F : jF C T N ci ty) (hcl : Cond.classLink own index C ∈ lw_all) (hinst : Cond.instantiable C N ∈ lw_all) (hini : Cond.initialized C ∈ lw_all) (hfs : ∀ j, j < N → defaultValue (ty j) = vp_V fs j) (hk : k + 1 ≤ k' ∧ k' ≤ Rc ∧ n + N ≤ n' ∧ n' ≤ Rs) (d : decode cc pc = .ok (.new index, 3)) (kk : ∀ q : Nat, jJ X u nL ([(q, .inr (ci, fs))] :: ws) lv k' n' (pc + 3) (.ref q :: st)) : jJ X u nL ws lv k n pc st := by
  obtain ⟨p, l', e, R', s, m, args, below, meth, c, Q, tl⟩ := X
  obtain ⟨hx, hb, hml, hr, hlk, hown, hts, hK, hR, hl'⟩ := G
  intro H locs ls hP hD hS hl
  subst hR
  refine va_new hx hb hts F.1 ty F.2.2.1 hown (hts _ hcl) (hts _ hinst) (hts _ hini) hK.K hP hD hS hK.A F.2.1 hfs (Nat.le_trans hk.1 hk.2.1) (Nat.le_trans hk.2.2.1 hk.2.2.2) d (fun q H1 hP hD hS => ?_)
  have hp : ((ws.flatten ++ tl) ++ [(q, (Sum.inr (ci, fs) : va_E))]).Perm (([(q, (Sum.inr (ci, fs) : va_E))] :: ws).flatten ++ tl) := by
    exact (List.perm_append_comm (l₁ := ws.flatten ++ tl) (l₂ := [(q, (Sum.inr (ci, fs) : va_E))])).trans (by rw [List.flatten_cons, List.append_assoc])
  exact W.widen hk.1 hk.2.2.1 (kk q H1 locs ls (hP.perm hp) (hD.perm hp) hS hl)
theorem jnewa {u : jU} {a : Nat} {ws : List va_W} {tl : va_W} {e : va_E} : ((ws.flatten ++ tl) ++ [(a, e)]).Perm (([(a, e)] :: ws).flatten ++ tl) := by
  exact (List.perm_append_comm (l₁ := ws.flatten ++ tl) (l₂ := [(a, e)])).trans (by rw [List.flatten_cons, List.append_assoc])
theorem jfind {U : State} {c c' : ClassId} {nm : String} (h1 : U.vm.findClass nm = some c) (h2 : U.vm.findClass nm = some c') : c = c' := Option.some.inj (h1.symm.trans h2)
theorem j_newarr_i {k' n' : Nat} {z : Int} (N : Nat) (G : jG X l u own cc nL ret Rf Rl Rc Rs) (ha : Cond.arrayClass .int ∈ lw_all) (hz : z = (N : Int)) (hN : N < 67108864) (hk : k + 1 ≤ k' ∧ k' ≤ Rc ∧ n + N ≤ n' ∧ n' ≤ Rs) (d : decode cc pc = .ok (.newarray .int, 2)) (kk : ∀ q : Nat, jJ X u nL ([(q, cI u N (fun _ => 0))] :: ws) lv k' n' (pc + 2) (.ref q :: st)) : jJ X u nL ws lv k n pc (iI z :: st) := by
  obtain ⟨p, l', e, R', s, m, args, below, meth, c, Q, tl⟩ := X
  obtain ⟨hx, hb, hml, hr, hlk, hown, hts, hK, hR, hl'⟩ := G
  intro H locs ls hP hD hS hl
  subst hR
  have hzr : (Int32.ofInt z).toNatClampNeg = N := by
    show (Int32.ofInt z).toInt.toNat = N
    rw [iI_toInt (by unfold iR; omega)]
    omega
  have hz0 : ¬ Int32.ofInt z < 0 := fun h => by
    have := (iI_lt (by unfold iR; omega) iR_0).mp h
    omega
  refine va_newa (atype := .int) (ty := .int) (a0 := (N, .inl (fun _ => Int32.ofInt 0))) (N' := N) hx hb (hts _ ha) rfl hK.K hP hD hS hK.A (fun _ => rfl) hz0 hzr (by show N * 4 ≤ 536870912; omega) (Nat.le_trans hk.1 hk.2.1) (Nat.le_trans hk.2.2.1 hk.2.2.2) d (fun q cA H1 hK1 hP hD hS => ?_)
  have hcA : cA = u.2.1 0 := jfind (va_nm_int ((hK1.2 5 _ rfl).2)) (va_nm_int ((hK.K.2 0 _ rfl).2))
  subst hcA
  exact W.widen hk.1 hk.2.2.1 (kk q H1 locs ls (hP.perm (jnewa (u := u))) (hD.perm (jnewa (u := u))) hS hl)
theorem j_iaload {a N : Nat} {f : Int → Int} {up : va_E → List va_W} {i : Int} (G : jG X l u own cc nL ret Rf Rl Rc Rs) (h : jAt ws a (cI u N f) up) (h0 : 0 ≤ i) (h1 : i < (N : Int)) (hN : N < 2147483648) (d : decode cc pc = .ok (.iaload, 1)) (kk : jJ X u nL ws lv k n (pc + 1) (iI (f i) :: st)) : jJ X u nL ws lv k n pc (iI i :: .ref a :: st) := by
  obtain ⟨p, l', e, R', s, m, args, below, meth, c, Q, tl⟩ := X
  obtain ⟨hx, hb, hml, hr, hlk, hown, hts, hK, hR, hl'⟩ := G
  intro H locs ls hP hD hS hl
  obtain ⟨j, g1, -⟩ := h tl
  obtain ⟨e1, e2⟩ := iI_ix h0 h1 hN
  refine va_iald hx hb hK.K hP j 0 g1 rfl e1 d ?_
  rw [e2]
  have e3 : ((i.toNat : Nat) : Int) = i := by omega
  show W p l' e R' s m args below meth c H locs k n Q (F0 m (pc + 1) ls (iI (f ((i.toNat : Nat) : Int)) :: st))
  rw [e3]
  exact kk H locs ls hP hD hS hl
theorem j_iastore {a N : Nat} {f : Int → Int} {up : va_E → List va_W} {i x : Int} {ws' : List va_W} (G : jG X l u own cc nL ret Rf Rl Rc Rs) (h : jAt ws a (cI u N f) up) (h0 : 0 ≤ i) (h1 : i < (N : Int)) (hN : N < 2147483648) (d : decode cc pc = .ok (.iastore, 1)) (hw : up (cI u N (uZ f i x)) = ws') (kk : jJ X u nL ws' lv k n (pc + 1) st) : jJ X u nL ws lv k n pc (iI x :: iI i :: .ref a :: st) := by
  obtain ⟨p, l', e, R', s, m, args, below, meth, c, Q, tl⟩ := X
  obtain ⟨hx, hb, hml, hr, hlk, hown, hts, hK, hR, hl'⟩ := G
  intro H locs ls hP hD hS hl
  obtain ⟨j, g1, g2⟩ := h tl
  obtain ⟨e1, e2⟩ := iI_ix h0 h1 hN
  subst hw
  have hf : (fun j : Nat => Int32.ofInt (uZ f i x (j : Int))) = upd (fun j : Nat => Int32.ofInt (f (j : Int))) (Int32.ofInt i).toNatClampNeg (Int32.ofInt x) := by
    rw [e2]
    funext j
    unfold uZ upd
    by_cases hj : j = i.toNat
    · rw [if_pos hj, if_pos (by omega)]
    · rw [if_neg hj, if_neg (by omega)]
  have e4 : (cI u N (uZ f i x)) = (.inl (u.2.1 0, N, .inl (upd (fun j => Int32.ofInt (f (j : Int))) (Int32.ofInt i).toNatClampNeg (Int32.ofInt x))) : va_E) := by
    unfold cI
    rw [hf]
  refine va_iast hx hb hK.K hP hD hS j 0 g1 rfl e1 d (fun H1 locs1 hP hD hS => kk H1 locs1 ls ?_ ?_ hS hl)
  · rw [← g2, e4]
    exact hP
  · rw [← g2, e4]
    exact hD
theorem j_alen_i {a N : Nat} {f : Int → Int} {up : va_E → List va_W} (G : jG X l u own cc nL ret Rf Rl Rc Rs) (h : jAt ws a (cI u N f) up) (d : decode cc pc = .ok (.arraylength, 1)) (kk : jJ X u nL ws lv k n (pc + 1) (iI (N : Int) :: st)) : jJ X u nL ws lv k n pc (.ref a :: st) := by
  obtain ⟨p, l', e, R', s, m, args, below, meth, c, Q, tl⟩ := X
  obtain ⟨hx, hb, hml, hr, hlk, hown, hts, hK, hR, hl'⟩ := G
  intro H locs ls hP hD hS hl
  obtain ⟨j, g1, -⟩ := h tl
  exact va_alen hx hb hK.K hP j 0 g1 rfl (v := Int32.ofInt (N : Int)) Int32.ofInt_eq_ofNat.symm d (kk H locs ls hP hD hS hl)
theorem j_newarr_l {k' n' : Nat} {z : Int} (N : Nat) (G : jG X l u own cc nL ret Rf Rl Rc Rs) (ha : Cond.arrayClass .long ∈ lw_all) (hz : z = (N : Int)) (hN : N < 67108864) (hk : k + 1 ≤ k' ∧ k' ≤ Rc ∧ n + N ≤ n' ∧ n' ≤ Rs) (d : decode cc pc = .ok (.newarray .long, 2)) (kk : ∀ q : Nat, jJ X u nL ([(q, cJ u N (fun _ => 0))] :: ws) lv k' n' (pc + 2) (.ref q :: st)) : jJ X u nL ws lv k n pc (iI z :: st) := by
  obtain ⟨p, l', e, R', s, m, args, below, meth, c, Q, tl⟩ := X
  obtain ⟨hx, hb, hml, hr, hlk, hown, hts, hK, hR, hl'⟩ := G
  intro H locs ls hP hD hS hl
  subst hR
  have hzr : (Int32.ofInt z).toNatClampNeg = N := by
    show (Int32.ofInt z).toInt.toNat = N
    rw [iI_toInt (by unfold iR; omega)]
    omega
  have hz0 : ¬ Int32.ofInt z < 0 := fun h => by
    have := (iI_lt (by unfold iR; omega) iR_0).mp h
    omega
  refine va_newa (atype := .long) (ty := .long) (a0 := (N, .inr (.inl (fun _ => Int64.ofInt 0)))) (N' := N) hx hb (hts _ ha) rfl hK.K hP hD hS hK.A (fun _ => rfl) hz0 hzr (by show N * 8 ≤ 536870912; omega) (Nat.le_trans hk.1 hk.2.1) (Nat.le_trans hk.2.2.1 hk.2.2.2) d (fun q cA H1 hK1 hP hD hS => ?_)
  have hcA : cA = u.2.1 1 := jfind (va_nm_long ((hK1.2 5 _ rfl).2)) (va_nm_long ((hK.K.2 1 _ rfl).2))
  subst hcA
  exact W.widen hk.1 hk.2.2.1 (kk q H1 locs ls (hP.perm (jnewa (u := u))) (hD.perm (jnewa (u := u))) hS hl)
theorem j_laload {a N : Nat} {f : Int → Int} {up : va_E → List va_W} {i : Int} (G : jG X l u own cc nL ret Rf Rl Rc Rs) (h : jAt ws a (cJ u N f) up) (h0 : 0 ≤ i) (h1 : i < (N : Int)) (hN : N < 2147483648) (d : decode cc pc = .ok (.laload, 1)) (kk : jJ X u nL ws lv k n (pc + 1) (lI (f i) :: st)) : jJ X u nL ws lv k n pc (iI i :: .ref a :: st) := by
  obtain ⟨p, l', e, R', s, m, args, below, meth, c, Q, tl⟩ := X
  obtain ⟨hx, hb, hml, hr, hlk, hown, hts, hK, hR, hl'⟩ := G
  intro H locs ls hP hD hS hl
  obtain ⟨j, g1, -⟩ := h tl
  obtain ⟨e1, e2⟩ := iI_ix h0 h1 hN
  refine va_lald hx hb hK.K hP j 1 g1 rfl e1 d ?_
  rw [e2]
  have e3 : ((i.toNat : Nat) : Int) = i := by omega
  show W p l' e R' s m args below meth c H locs k n Q (F0 m (pc + 1) ls (lI (f ((i.toNat : Nat) : Int)) :: st))
  rw [e3]
  exact kk H locs ls hP hD hS hl
theorem j_lastore {a N : Nat} {f : Int → Int} {up : va_E → List va_W} {i x : Int} {ws' : List va_W} (G : jG X l u own cc nL ret Rf Rl Rc Rs) (h : jAt ws a (cJ u N f) up) (h0 : 0 ≤ i) (h1 : i < (N : Int)) (hN : N < 2147483648) (d : decode cc pc = .ok (.lastore, 1)) (hw : up (cJ u N (uZ f i x)) = ws') (kk : jJ X u nL ws' lv k n (pc + 1) st) : jJ X u nL ws lv k n pc (lI x :: iI i :: .ref a :: st) := by
  obtain ⟨p, l', e, R', s, m, args, below, meth, c, Q, tl⟩ := X
  obtain ⟨hx, hb, hml, hr, hlk, hown, hts, hK, hR, hl'⟩ := G
  intro H locs ls hP hD hS hl
  obtain ⟨j, g1, g2⟩ := h tl
  obtain ⟨e1, e2⟩ := iI_ix h0 h1 hN
  subst hw
  have hf : (fun j : Nat => Int64.ofInt (uZ f i x (j : Int))) = vp_updL (fun j : Nat => Int64.ofInt (f (j : Int))) (Int32.ofInt i).toNatClampNeg (Int64.ofInt x) := by
    rw [e2]
    funext j
    unfold uZ vp_updL
    by_cases hj : j = i.toNat
    · rw [if_pos hj, if_pos (by omega)]
    · rw [if_neg hj, if_neg (by omega)]
  have e4 : (cJ u N (uZ f i x)) = (.inl (u.2.1 1, N, .inr (.inl (vp_updL (fun j => Int64.ofInt (f (j : Int))) (Int32.ofInt i).toNatClampNeg (Int64.ofInt x)))) : va_E) := by
    unfold cJ
    rw [hf]
  refine va_last hx hb hK.K hP hD hS j 1 g1 rfl e1 d (fun H1 locs1 hP hD hS => kk H1 locs1 ls ?_ ?_ hS hl)
  · rw [← g2, e4]
    exact hP
  · rw [← g2, e4]
    exact hD
theorem j_alen_l {a N : Nat} {f : Int → Int} {up : va_E → List va_W} (G : jG X l u own cc nL ret Rf Rl Rc Rs) (h : jAt ws a (cJ u N f) up) (d : decode cc pc = .ok (.arraylength, 1)) (kk : jJ X u nL ws lv k n (pc + 1) (iI (N : Int) :: st)) : jJ X u nL ws lv k n pc (.ref a :: st) := by
  obtain ⟨p, l', e, R', s, m, args, below, meth, c, Q, tl⟩ := X
  obtain ⟨hx, hb, hml, hr, hlk, hown, hts, hK, hR, hl'⟩ := G
  intro H locs ls hP hD hS hl
  obtain ⟨j, g1, -⟩ := h tl
  exact va_alen hx hb hK.K hP j 1 g1 rfl (v := Int32.ofInt (N : Int)) Int32.ofInt_eq_ofNat.symm d (kk H locs ls hP hD hS hl)
theorem j_newarr_b {k' n' : Nat} {z : Int} (N : Nat) (G : jG X l u own cc nL ret Rf Rl Rc Rs) (ha : Cond.arrayClass .byte ∈ lw_all) (hz : z = (N : Int)) (hN : N < 67108864) (hk : k + 1 ≤ k' ∧ k' ≤ Rc ∧ n + N ≤ n' ∧ n' ≤ Rs) (d : decode cc pc = .ok (.newarray .byte, 2)) (kk : ∀ q : Nat, jJ X u nL ([(q, cB u N (fun _ => 0))] :: ws) lv k' n' (pc + 2) (.ref q :: st)) : jJ X u nL ws lv k n pc (iI z :: st) := by
  obtain ⟨p, l', e, R', s, m, args, below, meth, c, Q, tl⟩ := X
  obtain ⟨hx, hb, hml, hr, hlk, hown, hts, hK, hR, hl'⟩ := G
  intro H locs ls hP hD hS hl
  subst hR
  have hzr : (Int32.ofInt z).toNatClampNeg = N := by
    show (Int32.ofInt z).toInt.toNat = N
    rw [iI_toInt (by unfold iR; omega)]
    omega
  have hz0 : ¬ Int32.ofInt z < 0 := fun h => by
    have := (iI_lt (by unfold iR; omega) iR_0).mp h
    omega
  refine va_newa (atype := .byte) (ty := .byte) (a0 := (N, .inl (fun _ => Int32.ofInt 0))) (N' := N) hx hb (hts _ ha) rfl hK.K hP hD hS hK.A (fun _ => rfl) hz0 hzr (by show N * 1 ≤ 536870912; omega) (Nat.le_trans hk.1 hk.2.1) (Nat.le_trans hk.2.2.1 hk.2.2.2) d (fun q cA H1 hK1 hP hD hS => ?_)
  have hcA : cA = u.2.1 2 := jfind (va_nm_byte ((hK1.2 5 _ rfl).2)) (va_nm_byte ((hK.K.2 2 _ rfl).2))
  subst hcA
  exact W.widen hk.1 hk.2.2.1 (kk q H1 locs ls (hP.perm (jnewa (u := u))) (hD.perm (jnewa (u := u))) hS hl)
theorem j_baload {a N : Nat} {f : Int → Int} {up : va_E → List va_W} {i : Int} (G : jG X l u own cc nL ret Rf Rl Rc Rs) (h : jAt ws a (cB u N f) up) (h0 : 0 ≤ i) (h1 : i < (N : Int)) (hN : N < 2147483648) (d : decode cc pc = .ok (.baload, 1)) (kk : jJ X u nL ws lv k n (pc + 1) (iI (f i) :: st)) : jJ X u nL ws lv k n pc (iI i :: .ref a :: st) := by
  obtain ⟨p, l', e, R', s, m, args, below, meth, c, Q, tl⟩ := X
  obtain ⟨hx, hb, hml, hr, hlk, hown, hts, hK, hR, hl'⟩ := G
  intro H locs ls hP hD hS hl
  obtain ⟨j, g1, -⟩ := h tl
  obtain ⟨e1, e2⟩ := iI_ix h0 h1 hN
  refine va_bald hx hb hK.K hP j 2 g1 rfl e1 d ?_
  rw [e2]
  have e3 : ((i.toNat : Nat) : Int) = i := by omega
  show W p l' e R' s m args below meth c H locs k n Q (F0 m (pc + 1) ls (iI (f ((i.toNat : Nat) : Int)) :: st))
  rw [e3]
  exact kk H locs ls hP hD hS hl
theorem j_bastore {a N : Nat} {f : Int → Int} {up : va_E → List va_W} {i x : Int} {ws' : List va_W} (G : jG X l u own cc nL ret Rf Rl Rc Rs) (h : jAt ws a (cB u N f) up) (h0 : 0 ≤ i) (h1 : i < (N : Int)) (hN : N < 2147483648) (hx8 : vp_nar .byte (Int32.ofInt x) = Int32.ofInt x) (d : decode cc pc = .ok (.bastore, 1)) (hw : up (cB u N (uZ f i x)) = ws') (kk : jJ X u nL ws' lv k n (pc + 1) st) : jJ X u nL ws lv k n pc (iI x :: iI i :: .ref a :: st) := by
  obtain ⟨p, l', e, R', s, m, args, below, meth, c, Q, tl⟩ := X
  obtain ⟨hx, hb, hml, hr, hlk, hown, hts, hK, hR, hl'⟩ := G
  intro H locs ls hP hD hS hl
  obtain ⟨j, g1, g2⟩ := h tl
  obtain ⟨e1, e2⟩ := iI_ix h0 h1 hN
  subst hw
  have hf : (fun j : Nat => Int32.ofInt (uZ f i x (j : Int))) = upd (fun j : Nat => Int32.ofInt (f (j : Int))) (Int32.ofInt i).toNatClampNeg (vp_nar .byte (Int32.ofInt x)) := by
    rw [e2, hx8]
    funext j
    unfold uZ upd
    by_cases hj : j = i.toNat
    · rw [if_pos hj, if_pos (by omega)]
    · rw [if_neg hj, if_neg (by omega)]
  have e4 : (cB u N (uZ f i x)) = (.inl (u.2.1 2, N, .inl (upd (fun j => Int32.ofInt (f (j : Int))) (Int32.ofInt i).toNatClampNeg (vp_nar .byte (Int32.ofInt x)))) : va_E) := by
    unfold cB
    rw [hf]
  refine va_bast hx hb hK.K hP hD hS j 2 g1 rfl e1 d (fun H1 locs1 hP hD hS => kk H1 locs1 ls ?_ ?_ hS hl)
  · rw [← g2, e4]
    exact hP
  · rw [← g2, e4]
    exact hD
theorem j_alen_b {a N : Nat} {f : Int → Int} {up : va_E → List va_W} (G : jG X l u own cc nL ret Rf Rl Rc Rs) (h : jAt ws a (cB u N f) up) (d : decode cc pc = .ok (.arraylength, 1)) (kk : jJ X u nL ws lv k n (pc + 1) (iI (N : Int) :: st)) : jJ X u nL ws lv k n pc (.ref a :: st) := by
  obtain ⟨p, l', e, R', s, m, args, below, meth, c, Q, tl⟩ := X
  obtain ⟨hx, hb, hml, hr, hlk, hown, hts, hK, hR, hl'⟩ := G
  intro H locs ls hP hD hS hl
  obtain ⟨j, g1, -⟩ := h tl
  exact va_alen hx hb hK.K hP j 2 g1 rfl (v := Int32.ofInt (N : Int)) Int32.ofInt_eq_ofNat.symm d (kk H locs ls hP hD hS hl)
/-- the callee's cells, and the rest, out of the caller's world -/
theorem jcut {ws w1 wr : List va_W} (nn : Nat) (is : List Nat) (h1 : is.Perm (List.range nn)) (hn : ws.length = nn) (h2 : is.map (fun i => ws[i]?) = (w1 ++ wr).map some) : ∀ tl : va_W, (ws.flatten ++ tl).Perm (w1.flatten ++ (wr.flatten ++ tl)) := by
  intro tl
  have h := jpermF (tl := tl) (jperm nn is h1 hn h2)
  rw [List.flatten_append, List.append_assoc] at h
  exact h
theorem jglue {w1 wr : List va_W} {tl : va_W} : w1.flatten ++ (wr.flatten ++ tl) = (w1 ++ wr).flatten ++ tl := by
  rw [List.flatten_append, List.append_assoc]
theorem j_run {p : Program} {l : Launch} {e : Env} {R : Room} {s : State} {m : MethodId} {args : Array Value} {below : List Frame} {meth : Method} {c : Code} {Q : State → Prop} {tl : va_W} {H : Heap} {locs : List Loc} {ls : Array Slot} {mc ms k' n' : Nat} {st0 : List Value} {wr : List va_W} {post : Option Value → List va_W → Prop} {a : Array Value}
    (hr : va_Run p l e R s m args below meth c H locs k n mc ms (F0 m pc ls st0) st (jPost u post (wr.flatten ++ tl) a) (jA u)) (hS : va_S (jA u) s.heap H locs) (hl : lv_has ls nL lv) (hk : k + mc ≤ k') (hn : n + ms ≤ n')
    (kk : ∀ (v : Option Value) (w : List va_W), post v w → jJ (p, l, e, R, s, m, args, below, meth, c, Q, tl) u nL (w ++ wr) lv k' n' (pc + 3) (v.toList ++ st)) : W p l e R s m args below meth c H locs k n Q (F0 m pc ls st0) := by
  intro T hT X
  obtain ⟨v, st₀, t, T', L, h0, X', hL, e1, e2, ⟨⟨v', w, hv, hp, hP, hD⟩, hz, hkp⟩, stp⟩ := hr T hT X
  cases hv
  rw [h0] at hz hkp
  have hS' : va_S (jA u) s.heap T'.heap (locs ++ L) := ⟨Nat.le_trans hS.1 (by rw [e1]; exact hz), fun q h1 h2 => by rw [e1, hkp q (Nat.lt_of_lt_of_le h1 hS.1) h2]; exact hS.2.1 q h1 h2, fun q hq => by
      rcases List.mem_append.mp hq with h | h
      · exact hS.2.2 q h
      · exact hL q h⟩
  rw [jglue] at hP hD
  obtain ⟨t2, a1, b1⟩ := W.widen hk hn (kk v w hp T'.heap (locs ++ L) ls (by rw [e1]; exact hP) hD hS' hl) T' rfl X'
  exact ⟨t2, stp t2 a1, b1⟩
/-- what a method's descriptor and class must be -/
def jY (y : MethodName) (np : Nat) : Prop := y.cls ≠ "java/lang/invoke/MethodHandle" ∧ y.cls ≠ "java/lang/invoke/VarHandle" ∧ (parseMethodDescriptor y.desc).map (fun d => d.parameters.length) = some np
theorem j_callS {y : MethodName} {cb : ByteArray} {nL' index : Nat} {ret' : Option FieldType} {fr lo mc ms k' n' : Nat} {As : List Value} {w1 wr : List va_W} {post : Option Value → List va_W → Prop} (G : jG X l u own cc nL ret Rf Rl Rc Rs) (hM : jC l u y cb nL' ret' fr lo mc ms As w1 post) (hY : jY y As.length)
    (q1 : Cond.methodLink own index y ∈ lw_all) (q2 : Cond.static y ∈ lw_all) (q3 : Cond.initialized y.cls ∈ lw_all) (q4 : Cond.code y cb nL' ret' ∈ lw_all)
    (hcut : ∀ tl : va_W, (ws.flatten ++ tl).Perm (w1.flatten ++ (wr.flatten ++ tl))) (hk : fr + 1 ≤ Rf ∧ 8 + (nL' + 11) + lo ≤ Rl ∧ k + mc ≤ k' ∧ k' ≤ Rc ∧ n + ms ≤ n' ∧ n' ≤ Rs) (hst : (st.map fun v => v.category).sum ≤ 8)
    (d : decode cc pc = .ok (.invokestatic index, 3)) {st0 : List Value} (hst0 : st0 = As.reverse ++ st) (kk : ∀ (v : Option Value) (w : List va_W), post v w → jJ X u nL (w ++ wr) lv k' n' (pc + 3) (v.toList ++ st)) : jJ X u nL ws lv k n pc st0 := by
  obtain ⟨p, l', e, R', s, m, args, below, meth, c, Q, tl⟩ := X
  obtain ⟨hx, hb, hml, hr, hlk, hown, hts, hK, hR, hl'⟩ := G
  intro H locs ls hP hD hS hl
  subst hR
  subst hl'
  subst hst0
  exact j_run (va_runS (As := As) (rest := st) ⟨hx, hb, hml, hown, hts⟩ (hM (wr.flatten ++ tl)) (va_cwS As.length hts (lw_S q1 q2 q3 q4) rfl rfl rfl hY ⟨hk.1, hk.2.1⟩) ⟨jPre.blind, fun U hU hW => ⟨rfl, hK.moved hS hU hW, by rw [hU]; exact hP.perm (hcut tl), hD.perm (hcut tl)⟩⟩ rfl rfl hl.1 rfl (lv_room hst) d ⟨Nat.le_trans hk.2.2.1 hk.2.2.2.1, Nat.le_trans hk.2.2.2.2.1 hk.2.2.2.2.2⟩) hS hl hk.2.2.1 hk.2.2.2.2.1 kk
theorem j_recv {C : String} {T : u_T} {N ci a : Nat} {fs : List Value} {up : va_E → List va_W} {s : State} {H : Heap} {tl : va_W} (hK : jK u s) (hc : jCl[ci]? = some (C, T, N)) (h : jAt ws a (.inr (ci, fs)) up) (hP : va_P (jD u) jCl (ws.flatten ++ tl) H) : ∃ cell : Cell, H[a]? = some cell ∧ cell.vm.isStatics = false ∧ s.vm.findClass C = some cell.cls := by
  obtain ⟨i, h1, -⟩ := h tl
  exact va_recv hK.K hP hc h1
theorem j_callV {C : String} {T : u_T} {N ci : Nat} {ty : Nat → FieldType} {y : MethodName} {cb : ByteArray} {nL' index a : Nat} {ret' : Option FieldType} {fr lo mc ms k' n' : Nat} {As : List Value} {w1 wr : List va_W} {fs : List Value} {up : va_E → List va_W} {post : Option Value → List va_W → Prop} (G : jG X l u own cc nL ret Rf Rl Rc Rs) (F : jF C T N ci ty) (hM : jC l u y cb nL' ret' fr lo mc ms (.ref a :: As) w1 post) (h : jAt ws a (.inr (ci, fs)) up) (hY : y.cls = C ∧ jY y As.length)
    (q1 : Cond.methodLink own index y ∈ lw_all) (q2 : Cond.instanceMethod y ∈ lw_all) (q3 : Cond.selects C y y ∈ lw_all) (q4 : Cond.initialized C ∈ lw_all) (q5 : Cond.code y cb nL' ret' ∈ lw_all)
    (hcut : ∀ tl : va_W, (ws.flatten ++ tl).Perm (w1.flatten ++ (wr.flatten ++ tl))) (hk : fr + 1 ≤ Rf ∧ 8 + (nL' + 11) + lo ≤ Rl ∧ k + mc ≤ k' ∧ k' ≤ Rc ∧ n + ms ≤ n' ∧ n' ≤ Rs) (hst : (st.map fun v => v.category).sum ≤ 8)
    (d : decode cc pc = .ok (.invokevirtual index, 3)) {st0 : List Value} (hst0 : st0 = As.reverse ++ .ref a :: st) (kk : ∀ (v : Option Value) (w : List va_W), post v w → jJ X u nL (w ++ wr) lv k' n' (pc + 3) (v.toList ++ st)) : jJ X u nL ws lv k n pc st0 := by
  obtain ⟨p, l', e, R', s, m, args, below, meth, c, Q, tl⟩ := X
  obtain ⟨hx, hb, hml, hr, hlk, hown, hts, hK, hR, hl'⟩ := G
  intro H locs ls hP hD hS hl
  subst hR
  subst hl'
  subst hst0
  exact j_run (va_runV (As := As) (rest := st) (b := a) (C := C) ⟨hx, hb, hml, hown, hts⟩ (hM (wr.flatten ++ tl)) (cwV As.length hts (lw_V q1 q2 q3 q4 q5) rfl rfl rfl hY ⟨hk.1, hk.2.1⟩) ⟨jPre.blind, j_recv hK F.2.1 h hP, fun U hU hW => ⟨rfl, hK.moved hS hU hW, by rw [hU]; exact hP.perm (hcut tl), hD.perm (hcut tl)⟩⟩ rfl rfl hl.1 rfl (lv_room hst) d ⟨Nat.le_trans hk.2.2.1 hk.2.2.2.1, Nat.le_trans hk.2.2.2.2.1 hk.2.2.2.2.2⟩) hS hl hk.2.2.1 hk.2.2.2.2.1 kk
theorem j_callI {y : MethodName} {cb : ByteArray} {nL' index a : Nat} {fr lo mc ms k' n' : Nat} {As : List Value} {w1 wr : List va_W} {post : Option Value → List va_W → Prop} (G : jG X l u own cc nL ret Rf Rl Rc Rs) (hM : jC l u y cb nL' none fr lo mc ms (.ref a :: As) w1 post) (hY : y.name = "<init>" ∧ jY y As.length)
    (q1 : Cond.methodLink own index y ∈ lw_all) (q2 : Cond.instanceMethod y ∈ lw_all) (q3 : Cond.initialized y.cls ∈ lw_all) (q4 : Cond.code y cb nL' none ∈ lw_all)
    (hcut : ∀ tl : va_W, (ws.flatten ++ tl).Perm (w1.flatten ++ (wr.flatten ++ tl))) (hk : fr + 1 ≤ Rf ∧ 8 + (nL' + 11) + lo ≤ Rl ∧ k + mc ≤ k' ∧ k' ≤ Rc ∧ n + ms ≤ n' ∧ n' ≤ Rs) (hst : (st.map fun v => v.category).sum ≤ 8)
    (d : decode cc pc = .ok (.invokespecial index, 3)) {st0 : List Value} (hst0 : st0 = As.reverse ++ .ref a :: st) (kk : ∀ (v : Option Value) (w : List va_W), post v w → jJ X u nL (w ++ wr) lv k' n' (pc + 3) (v.toList ++ st)) : jJ X u nL ws lv k n pc st0 := by
  obtain ⟨p, l', e, R', s, m, args, below, meth, c, Q, tl⟩ := X
  obtain ⟨hx, hb, hml, hr, hlk, hown, hts, hK, hR, hl'⟩ := G
  intro H locs ls hP hD hS hl
  subst hR
  subst hl'
  subst hst0
  exact j_run (va_runI (As := As) (rest := st) (b := a) ⟨hx, hb, hml, hown, hts⟩ (hM (wr.flatten ++ tl)) (cwI As.length hts (lw_meth q4) rfl rfl rfl (hts _ q3) (hts _ q1) (hts _ q2) hY.1 hY.2 ⟨hk.1, hk.2.1⟩) ⟨jPre.blind, fun U hU hW => ⟨rfl, hK.moved hS hU hW, by rw [hU]; exact hP.perm (hcut tl), hD.perm (hcut tl)⟩⟩ rfl rfl hl.1 rfl (lv_room hst) d ⟨Nat.le_trans hk.2.2.1 hk.2.2.2.1, Nat.le_trans hk.2.2.2.2.1 hk.2.2.2.2.2⟩) hS hl hk.2.2.1 hk.2.2.2.2.1 kk
/-- nest mates -/
theorem j_callSN {host : String} {y : MethodName} {cb : ByteArray} {nL' index : Nat} {ret' : Option FieldType} {fr lo mc ms k' n' : Nat} {As : List Value} {w1 wr : List va_W} {post : Option Value → List va_W → Prop} (G : jG X l u own cc nL ret Rf Rl Rc Rs) (hM : jC l u y cb nL' ret' fr lo mc ms As w1 post) (hY : jY y As.length)
    (q1 : Cond.methodLinkNest own index y host ∈ lw_tbl) (q2 : Cond.static y ∈ lw_all) (q3 : Cond.initialized y.cls ∈ lw_all) (q4 : Cond.code y cb nL' ret' ∈ lw_all)
    (hcut : ∀ tl : va_W, (ws.flatten ++ tl).Perm (w1.flatten ++ (wr.flatten ++ tl))) (hk : fr + 1 ≤ Rf ∧ 8 + (nL' + 11) + lo ≤ Rl ∧ k + mc ≤ k' ∧ k' ≤ Rc ∧ n + ms ≤ n' ∧ n' ≤ Rs) (hst : (st.map fun v => v.category).sum ≤ 8)
    (d : decode cc pc = .ok (.invokestatic index, 3)) {st0 : List Value} (hst0 : st0 = As.reverse ++ st) (kk : ∀ (v : Option Value) (w : List va_W), post v w → jJ X u nL (w ++ wr) lv k' n' (pc + 3) (v.toList ++ st)) : jJ X u nL ws lv k n pc st0 := by
  obtain ⟨p, l', e, R', s, m, args, below, meth, c, Q, tl⟩ := X
  obtain ⟨hx, hb, hml, hr, hlk, hown, hts, hK, hR, hl'⟩ := G
  intro H locs ls hP hD hS hl
  subst hR
  subst hl'
  subst hst0
  exact j_run (va_runSN (As := As) (rest := st) (host := host) ⟨hx, hb, hml, hown, hts⟩ (hM (wr.flatten ++ tl)) ⟨va_cnB As.length hts (lw_meth q4) rfl rfl rfl (hK.nestM q1) (hts _ q3) hY ⟨hk.1, hk.2.1⟩, hts _ q2, trivial⟩ ⟨jPre.blind, fun U hU hW => ⟨rfl, hK.moved hS hU hW, by rw [hU]; exact hP.perm (hcut tl), hD.perm (hcut tl)⟩⟩ rfl rfl hl.1 rfl (lv_room hst) d ⟨Nat.le_trans hk.2.2.1 hk.2.2.2.1, Nat.le_trans hk.2.2.2.2.1 hk.2.2.2.2.2⟩) hS hl hk.2.2.1 hk.2.2.2.2.1 kk
theorem j_callVN {host C : String} {T : u_T} {N ci : Nat} {ty : Nat → FieldType} {y : MethodName} {cb : ByteArray} {nL' index a : Nat} {ret' : Option FieldType} {fr lo mc ms k' n' : Nat} {As : List Value} {w1 wr : List va_W} {fs : List Value} {up : va_E → List va_W} {post : Option Value → List va_W → Prop} (G : jG X l u own cc nL ret Rf Rl Rc Rs) (F : jF C T N ci ty) (hM : jC l u y cb nL' ret' fr lo mc ms (.ref a :: As) w1 post) (h : jAt ws a (.inr (ci, fs)) up) (hY : y.cls = C ∧ jY y As.length)
    (q1 : Cond.methodLinkNest own index y host ∈ lw_tbl) (q2 : Cond.instanceMethod y ∈ lw_all) (q3 : Cond.selects C y y ∈ lw_all) (q4 : Cond.initialized y.cls ∈ lw_all) (q5 : Cond.code y cb nL' ret' ∈ lw_all)
    (hcut : ∀ tl : va_W, (ws.flatten ++ tl).Perm (w1.flatten ++ (wr.flatten ++ tl))) (hk : fr + 1 ≤ Rf ∧ 8 + (nL' + 11) + lo ≤ Rl ∧ k + mc ≤ k' ∧ k' ≤ Rc ∧ n + ms ≤ n' ∧ n' ≤ Rs) (hst : (st.map fun v => v.category).sum ≤ 8)
    (d : decode cc pc = .ok (.invokevirtual index, 3)) {st0 : List Value} (hst0 : st0 = As.reverse ++ .ref a :: st) (kk : ∀ (v : Option Value) (w : List va_W), post v w → jJ X u nL (w ++ wr) lv k' n' (pc + 3) (v.toList ++ st)) : jJ X u nL ws lv k n pc st0 := by
  obtain ⟨p, l', e, R', s, m, args, below, meth, c, Q, tl⟩ := X
  obtain ⟨hx, hb, hml, hr, hlk, hown, hts, hK, hR, hl'⟩ := G
  intro H locs ls hP hD hS hl
  subst hR
  subst hl'
  subst hst0
  exact j_run (va_runVN (As := As) (rest := st) (b := a) (host := host) (C := C) ⟨hx, hb, hml, hown, hts⟩ (hM (wr.flatten ++ tl)) ⟨va_cnB As.length hts (lw_meth q5) rfl rfl rfl (hK.nestM q1) (hts _ q4) hY.2 ⟨hk.1, hk.2.1⟩, hts _ q2, hts _ q3⟩ ⟨jPre.blind, j_recv hK F.2.1 h hP, fun U hU hW => ⟨rfl, hK.moved hS hU hW, by rw [hU]; exact hP.perm (hcut tl), hD.perm (hcut tl)⟩⟩ rfl rfl hl.1 rfl (lv_room hst) d ⟨Nat.le_trans hk.2.2.1 hk.2.2.2.1, Nat.le_trans hk.2.2.2.2.1 hk.2.2.2.2.2⟩) hS hl hk.2.2.1 hk.2.2.2.2.1 kk
theorem j_callIN {host : String} {y : MethodName} {cb : ByteArray} {nL' index a : Nat} {fr lo mc ms k' n' : Nat} {As : List Value} {w1 wr : List va_W} {post : Option Value → List va_W → Prop} (G : jG X l u own cc nL ret Rf Rl Rc Rs) (hM : jC l u y cb nL' none fr lo mc ms (.ref a :: As) w1 post) (hY : y.name = "<init>" ∧ jY y As.length)
    (q1 : Cond.methodLinkNest own index y host ∈ lw_tbl) (q2 : Cond.instanceMethod y ∈ lw_all) (q3 : Cond.initialized y.cls ∈ lw_all) (q4 : Cond.code y cb nL' none ∈ lw_all)
    (hcut : ∀ tl : va_W, (ws.flatten ++ tl).Perm (w1.flatten ++ (wr.flatten ++ tl))) (hk : fr + 1 ≤ Rf ∧ 8 + (nL' + 11) + lo ≤ Rl ∧ k + mc ≤ k' ∧ k' ≤ Rc ∧ n + ms ≤ n' ∧ n' ≤ Rs) (hst : (st.map fun v => v.category).sum ≤ 8)
    (d : decode cc pc = .ok (.invokespecial index, 3)) {st0 : List Value} (hst0 : st0 = As.reverse ++ .ref a :: st) (kk : ∀ (v : Option Value) (w : List va_W), post v w → jJ X u nL (w ++ wr) lv k' n' (pc + 3) (v.toList ++ st)) : jJ X u nL ws lv k n pc st0 := by
  obtain ⟨p, l', e, R', s, m, args, below, meth, c, Q, tl⟩ := X
  obtain ⟨hx, hb, hml, hr, hlk, hown, hts, hK, hR, hl'⟩ := G
  intro H locs ls hP hD hS hl
  subst hR
  subst hl'
  subst hst0
  exact j_run (va_runIN (As := As) (rest := st) (b := a) (host := host) ⟨hx, hb, hml, hown, hts⟩ (hM (wr.flatten ++ tl)) ⟨va_cnB As.length hts (lw_meth q4) rfl rfl rfl (hK.nestM q1) (hts _ q3) hY.2 ⟨hk.1, hk.2.1⟩, hY.1, hts _ q2⟩ ⟨jPre.blind, fun U hU hW => ⟨rfl, hK.moved hS hU hW, by rw [hU]; exact hP.perm (hcut tl), hD.perm (hcut tl)⟩⟩ rfl rfl hl.1 rfl (lv_room hst) d ⟨Nat.le_trans hk.2.2.1 hk.2.2.2.1, Nat.le_trans hk.2.2.2.2.1 hk.2.2.2.2.2⟩) hS hl hk.2.2.1 hk.2.2.2.2.1 kk
theorem j_objInit {index a : Nat} (G : jG X l u own cc nL ret Rf Rl Rc Rs) (q1 : Cond.methodLink own index Lib.objectInit ∈ lw_all) (q2 : Cond.instanceMethod Lib.objectInit ∈ lw_all) (q3 : Cond.code Lib.objectInit ⟨#[0xb1]⟩ 1 none ∈ lw_all) (hk : 1 ≤ Rf ∧ 20 ≤ Rl) (hst : (st.map fun v => v.category).sum ≤ 8) (d : decode cc pc = .ok (.invokespecial index, 3)) (kk : jJ X u nL ws lv k n (pc + 3) st) : jJ X u nL ws lv k n pc (.ref a :: st) := by
  obtain ⟨p, l', e, R', s, m, args, below, meth, c, Q, tl⟩ := X
  obtain ⟨hx, hb, hml, hr, hlk, hown, hts, hK, hR, hl'⟩ := G
  intro H locs ls hP hD hS hl
  subst hR
  exact W.objInit hx hb hown (hts _ q1) (hts _ q2) (hts _ q3) rfl (hl.1.trans hml.symm) rfl d hk.1 (by show 2 * 0 + _ + 12 ≤ Rl; omega) (kk H locs ls hP hD hS hl)
/-- ends -/
theorem j_iret {post : Option Value → List va_W → Prop} {mc ms : Nat} {z : Int} (G : jG X l u own cc nL (some .int) Rf Rl Rc Rs) (E : jE X u post mc ms) (hp : post (some (iI z)) ws) (hk : k ≤ mc ∧ n ≤ ms) (d : decode cc pc = .ok (.ireturn, 1)) : jJ X u nL ws lv k n pc [iI z] := by
  obtain ⟨p, l', e, R', s, m, args, below, meth, c, Q, tl⟩ := X
  obtain ⟨hx, hb, hml, hr, hlk, hown, hts, hK, hR, hl'⟩ := G
  intro H locs ls hP hD hS hl
  refine E H locs k n _ hk.1 hk.2 ?_
  exact W.iret hx hb hr (fun t ht hW => ⟨⟨some (iI z), ws, rfl, hp, by rw [ht]; exact hP, hD⟩, hS.F ht⟩) hS.2.2 d
theorem j_zret {post : Option Value → List va_W → Prop} {mc ms : Nat} {z : Int} (G : jG X l u own cc nL (some .boolean) Rf Rl Rc Rs) (E : jE X u post mc ms) (hz : z = 0 ∨ z = 1) (hp : post (some (iI z)) ws) (hk : k ≤ mc ∧ n ≤ ms) (d : decode cc pc = .ok (.ireturn, 1)) : jJ X u nL ws lv k n pc [iI z] := by
  obtain ⟨p, l', e, R', s, m, args, below, meth, c, Q, tl⟩ := X
  obtain ⟨hx, hb, hml, hr, hlk, hown, hts, hK, hR, hl'⟩ := G
  intro H locs ls hP hD hS hl
  refine E H locs k n _ hk.1 hk.2 ?_
  exact W.zret (ty := .boolean) hx hb hr (by rcases hz with h | h <;> rw [h] <;> rfl) (fun t ht hW => ⟨⟨some (iI z), ws, rfl, hp, by rw [ht]; exact hP, hD⟩, hS.F ht⟩) hS.2.2 d
theorem j_cret {post : Option Value → List va_W → Prop} {mc ms : Nat} {z : Int} (G : jG X l u own cc nL (some .char) Rf Rl Rc Rs) (E : jE X u post mc ms) (hz : narrow .char (iI z) = iI z) (hp : post (some (iI z)) ws) (hk : k ≤ mc ∧ n ≤ ms) (d : decode cc pc = .ok (.ireturn, 1)) : jJ X u nL ws lv k n pc [iI z] := by
  obtain ⟨p, l', e, R', s, m, args, below, meth, c, Q, tl⟩ := X
  obtain ⟨hx, hb, hml, hr, hlk, hown, hts, hK, hR, hl'⟩ := G
  intro H locs ls hP hD hS hl
  refine E H locs k n _ hk.1 hk.2 ?_
  exact W.zret (ty := .char) hx hb hr hz (fun t ht hW => ⟨⟨some (iI z), ws, rfl, hp, by rw [ht]; exact hP, hD⟩, hS.F ht⟩) hS.2.2 d
theorem j_lret {post : Option Value → List va_W → Prop} {mc ms : Nat} {z : Int} (G : jG X l u own cc nL (some .long) Rf Rl Rc Rs) (E : jE X u post mc ms) (hp : post (some (lI z)) ws) (hk : k ≤ mc ∧ n ≤ ms) (d : decode cc pc = .ok (.lreturn, 1)) : jJ X u nL ws lv k n pc [lI z] := by
  obtain ⟨p, l', e, R', s, m, args, below, meth, c, Q, tl⟩ := X
  obtain ⟨hx, hb, hml, hr, hlk, hown, hts, hK, hR, hl'⟩ := G
  intro H locs ls hP hD hS hl
  refine E H locs k n _ hk.1 hk.2 ?_
  exact W.lret hx hb hr (fun t ht hW => ⟨⟨some (lI z), ws, rfl, hp, by rw [ht]; exact hP, hD⟩, hS.F ht⟩) hS.2.2 d
theorem j_dret {post : Option Value → List va_W → Prop} {mc ms : Nat} {z : UInt64} (G : jG X l u own cc nL (some .double) Rf Rl Rc Rs) (E : jE X u post mc ms) (hp : post (some (.double z)) ws) (hk : k ≤ mc ∧ n ≤ ms) (d : decode cc pc = .ok (.dreturn, 1)) : jJ X u nL ws lv k n pc [.double z] := by
  obtain ⟨p, l', e, R', s, m, args, below, meth, c, Q, tl⟩ := X
  obtain ⟨hx, hb, hml, hr, hlk, hown, hts, hK, hR, hl'⟩ := G
  intro H locs ls hP hD hS hl
  refine E H locs k n _ hk.1 hk.2 ?_
  exact W.dret hx hb hr (fun t ht hW => ⟨⟨some (.double z), ws, rfl, hp, by rw [ht]; exact hP, hD⟩, hS.F ht⟩) hS.2.2 d
theorem j_vret {post : Option Value → List va_W → Prop} {mc ms : Nat} (G : jG X l u own cc nL none Rf Rl Rc Rs) (E : jE X u post mc ms) (hp : post none ws) (hk : k ≤ mc ∧ n ≤ ms) (d : decode cc pc = .ok (.return_, 1)) : jJ X u nL ws lv k n pc [] := by
  obtain ⟨p, l', e, R', s, m, args, below, meth, c, Q, tl⟩ := X
  obtain ⟨hx, hb, hml, hr, hlk, hown, hts, hK, hR, hl'⟩ := G
  intro H locs ls hP hD hS hl
  refine E H locs k n _ hk.1 hk.2 ?_
  exact W.vret hx hb hr (fun t ht hW => ⟨⟨none, ws, rfl, hp, by rw [ht]; exact hP, hD⟩, hS.F ht⟩) hS.2.2 d
theorem j_aret {post : Option Value → List va_W → Prop} {mc ms : Nat} {o : Option Nat} {rt : FieldType} (G : jG X l u own cc nL (some rt) Rf Rl Rc Rs) (E : jE X u post mc ms) (hrt : (∃ n, rt = .object n) ∨ ∃ t, rt = .array t) (hp : post (some (va_rf o)) ws) (hk : k ≤ mc ∧ n ≤ ms) (d : decode cc pc = .ok (.areturn, 1)) : jJ X u nL ws lv k n pc [va_rf o] := by
  obtain ⟨p, l', e, R', s, m, args, below, meth, c, Q, tl⟩ := X
  obtain ⟨hx, hb, hml, hr, hlk, hown, hts, hK, hR, hl'⟩ := G
  intro H locs ls hP hD hS hl
  refine E H locs k n _ hk.1 hk.2 ?_
  exact W.aret hx hb hr hrt (va_rf_or o) (fun t ht hW => ⟨⟨some (va_rf o), ws, rfl, hp, by rw [ht]; exact hP, hD⟩, hS.F ht⟩) hS.2.2 d
end
theorem FX1 : jF RX1 TX1 12 0 tyX1 := ⟨in_X1, rfl, tyX1_ok, nmX1⟩
theorem FX2 : jF RX2 TX2 40 1 tyX2 := ⟨in_X2, rfl, tyX2_ok, nmX2⟩
theorem FX3 : jF RX3 TX3 5 2 tyX3 := ⟨in_X3, rfl, tyX3_ok, nmX3⟩
theorem FX4 : jF RX4 TX4 10 3 tyX4 := ⟨in_X4, rfl, tyX4_ok, nmX4⟩
theorem FX5 : jF RX5 TX5 2 4 tyX5 := ⟨in_X5, rfl, tyX5_ok, nmX5⟩
theorem FX6 : jF RX6 TX6 6 5 tyX6 := ⟨in_X6, rfl, tyX6_ok, nmX6⟩
theorem FX7 : jF RX7 TX7 2 6 tyX7 := ⟨in_X7, rfl, tyX7_ok, nmX7⟩
theorem FX9 : jF RX9 TX9 2 8 tyX9 := ⟨in_X9, rfl, tyX9_ok, nmX9⟩
theorem FJ1 : jF RJ1 TJ1 4 9 tyJ1 := ⟨in_J1, rfl, tyJ1_ok, nmJ1⟩
theorem FJ20 : jF RJ20 TJ20 9 10 tyJ20 := ⟨in_J20, rfl, tyJ20_ok, nmJ20⟩
theorem FJ23 : jF RJ23 TJ23 6 11 tyJ23 := ⟨in_J23, rfl, tyJ23_ok, nmJ23⟩
theorem FJ27 : jF RJ27 TJ27 1 12 tyJ27 := ⟨in_J27, rfl, tyJ27_ok, nmJ27⟩
theorem FJ29 : jF RJ29 TJ29 4 13 tyJ29 := ⟨in_J29, rfl, tyJ29_ok, nmJ29⟩
theorem FJ31 : jF RJ31 TJ31 4 14 tyJ31 := ⟨in_J31, rfl, tyJ31_ok, nmJ31⟩
theorem FJ21 : jF RJ21 TJ21 1 15 tyJ21 := ⟨in_J21, rfl, tyJ21_ok, nmJ21⟩
theorem FJ11 : jF RJ11 TJ11 1 16 tyJ11 := ⟨in_J11, rfl, tyJ11_ok, nmJ11⟩
theorem FX8 : jF RX8 TX8 0 7 tyX8 := ⟨fun w h => absurd h List.not_mem_nil, rfl, fun k h => absurd h (Nat.not_lt_zero k), fun a h => absurd h (Nat.not_lt_zero a)⟩
