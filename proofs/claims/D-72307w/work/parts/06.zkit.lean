/-! THE Z-KIT: one judgement over the frame and the world, contracts of one shape, a rule an instruction -/
set_option maxRecDepth 100000
/-- the launch's fixed numbers: classes and field slots, array classes, the small Integers, their table -/
abbrev zG : Type := va_G × (Nat → ClassId) × (Nat → Nat) × Nat × Nat
def zCl : List vw_C := [(RX0, TX0, 10), (RX1, TX1, 5), (RX2, TX2, 12), (RJ0, TJ0, 3), (RJ2, TJ2, 3), (RJ6, TJ6, 2), (RJ14, TJ14, 4), (RJ16, TJ16, 3), (RJ18, TJ18, 5), (RJ32, TJ32, 4)]
def zTy (T : Nat → ClassId) : List (ClassId × FieldType) := [(T 0, .int), (T 1, .long), (T 2, .char), (T 3, .boolean), (T 4, .object "java/lang/Object")]
/-! ===== numbers ===== -/
def iZ (z : Int) : Int32 := Int32.ofInt z
def jZ (z : Int) : Int64 := Int64.ofInt z
theorem iZ_nI (n : Nat) : iZ (n : Int) = nI n := Int32.ofInt_eq_ofNat
theorem iZ_add (a b : Int) : iZ a + iZ b = iZ (a + b) := (Int32.ofInt_add a b).symm
theorem iZ_sub (a b : Int) : iZ a - iZ b = iZ (a - b) := (Int32.ofInt_sub a b).symm
theorem iZ_mul (a b : Int) : iZ a * iZ b = iZ (a * b) := (Int32.ofInt_mul a b).symm
theorem iZ_neg (a : Int) : -iZ a = iZ (-a) := (Int32.ofInt_neg a).symm
theorem iZ_toInt {z : Int} (h1 : -2147483648 ≤ z) (h2 : z ≤ 2147483647) : (iZ z).toInt = z := Int32.toInt_ofInt_of_le (by simpa using h1) (by omega)
theorem iZ_of (x : Int32) : iZ x.toInt = x := Int32.ofInt_toInt x
theorem iZ_rng (x : Int32) : -2147483648 ≤ x.toInt ∧ x.toInt ≤ 2147483647 := by
  have h1 := Int32.le_toInt x
  have h2 := Int32.toInt_lt x
  omega
theorem iZ_eq {a b : Int} (ha : -2147483648 ≤ a ∧ a ≤ 2147483647) (hb : -2147483648 ≤ b ∧ b ≤ 2147483647) : iZ a = iZ b ↔ a = b := by
  rw [← Int32.toInt_inj, iZ_toInt ha.1 ha.2, iZ_toInt hb.1 hb.2]
theorem iZ_lt {a b : Int} (ha : -2147483648 ≤ a ∧ a ≤ 2147483647) (hb : -2147483648 ≤ b ∧ b ≤ 2147483647) : iZ a < iZ b ↔ a < b := by
  rw [Int32.lt_iff_toInt_lt, iZ_toInt ha.1 ha.2, iZ_toInt hb.1 hb.2]
theorem iZ_le {a b : Int} (ha : -2147483648 ≤ a ∧ a ≤ 2147483647) (hb : -2147483648 ≤ b ∧ b ≤ 2147483647) : iZ a ≤ iZ b ↔ a ≤ b := by
  rw [Int32.le_iff_toInt_le, iZ_toInt ha.1 ha.2, iZ_toInt hb.1 hb.2]
theorem iZ_cl {n : Nat} (h : n < 2147483648) : (iZ (n : Int)).toNatClampNeg = n := by rw [iZ_nI]; exact nI_clamp (by omega)
theorem iZ_in {i n : Nat} (h : i < n) (hn : n < 2147483648) : vp_in (iZ (i : Int)) n := by rw [iZ_nI]; exact vp_in_nI h (by omega)
theorem iZ_div {a d : Nat} (ha : a < 2147483648) (h0 : 0 < d) (hd : d < 2147483648) : iZ (a : Int) / iZ (d : Int) = iZ ((a / d : Nat) : Int) := by
  rw [iZ_nI, iZ_nI, iZ_nI]; exact pk_div (by omega) h0 (by omega)
theorem iZ_rem {a d : Nat} (ha : a < 2147483648) (h0 : 0 < d) (hd : d < 2147483648) : iZ (a : Int) - iZ (a : Int) / iZ (d : Int) * iZ (d : Int) = iZ ((a % d : Nat) : Int) := by
  rw [iZ_nI, iZ_nI, iZ_nI]; exact pk_rem (by omega) h0 (by omega)
theorem iZ_0 : iZ 0 = 0 := rfl
theorem jZ_toInt {z : Int} (h1 : -9223372036854775808 ≤ z) (h2 : z ≤ 9223372036854775807) : (jZ z).toInt = z := Int64.toInt_ofInt_of_le (by simpa using h1) (by omega)
theorem jZ_i {z : Int} (h : -2147483648 ≤ z ∧ z ≤ 2147483647) : (iZ z).toInt64 = jZ z := by
  rw [← Int64.toInt_inj, Int32.toInt_toInt64, iZ_toInt h.1 h.2, jZ_toInt (by omega) (by omega)]
theorem jZ_add (a b : Int) : jZ a + jZ b = jZ (a + b) := (Int64.ofInt_add a b).symm
theorem jZ_sub (a b : Int) : jZ a - jZ b = jZ (a - b) := (Int64.ofInt_sub a b).symm
theorem zz_lcmp {a b : Int} (ha : -9223372036854775808 ≤ a ∧ a ≤ 9223372036854775807) (hb : -9223372036854775808 ≤ b ∧ b ≤ 9223372036854775807) : lg_cmp (jZ a) (jZ b) = iZ (if a < b then -1 else if a = b then 0 else 1) := by
  have e1 : jZ a > jZ b ↔ b < a := by rw [gt_iff_lt, Int64.lt_iff_toInt_lt, jZ_toInt ha.1 ha.2, jZ_toInt hb.1 hb.2]
  have e2 : jZ a = jZ b ↔ a = b := by rw [← Int64.toInt_inj, jZ_toInt ha.1 ha.2, jZ_toInt hb.1 hb.2]
  unfold lg_cmp
  by_cases h1 : a < b
  · rw [if_neg (fun q => by have := e1.mp q; omega), if_neg (fun q => by have := e2.mp q; omega), if_pos h1]; rfl
  · by_cases h2 : a = b
    · rw [if_neg (fun q => by have := e1.mp q; omega), if_pos (e2.mpr h2), if_neg h1, if_pos h2]; rfl
    · rw [if_pos (e1.mpr (by omega)), if_neg h1, if_neg h2]; rfl
theorem zz_r0 : -2147483648 ≤ (0 : Int) ∧ (0 : Int) ≤ 2147483647 := by decide
/-! ===== cells ===== -/
theorem zz_narC {v : Nat} (h : v < 65536) : vp_nar .char (nI v) = nI v := by
  have := (pk_charN h).1
  unfold vp_nar
  rw [this]
theorem zz_narZ {v : Nat} (h : v < 2) : vp_nar .boolean (iZ (v : Int)) = iZ (v : Int) := by
  rcases (show v = 0 ∨ v = 1 by omega) with rfl | rfl <;> rfl
theorem zz_nz {v : Int} (h : v = 0 ∨ v = 1) : narrow .boolean (.int (iZ v)) = .int (iZ v) := by
  rcases h with rfl | rfl <;> rfl
def iA (t : Nat → Nat) : Nat → Int32 := fun j => iZ (t j : Int)
theorem iA_up (t : Nat → Nat) {i v : Nat} (h : i < 2147483648) : upd (iA t) (iZ (i : Int)).toNatClampNeg (iZ (v : Int)) = iA (va_up t i v) := by
  rw [iZ_cl h]
  funext j
  by_cases q : j = i
  · simp [upd, va_up, iA, q]
  · simp [upd, va_up, iA, q]
def zI (G : zG) (n : Nat) (t : Nat → Nat) : va_E := .inl (G.2.1 0, n, .inl (iA t))
def zJ (G : zG) (n : Nat) (f : Nat → Int64) : va_E := .inl (G.2.1 1, n, .inr (.inl f))
def zC (G : zG) (n : Nat) (t : Nat → Nat) : va_E := .inl (G.2.1 2, n, .inl (iA t))
def zB (G : zG) (n : Nat) (t : Nat → Nat) : va_E := .inl (G.2.1 3, n, .inl (iA t))
def zL (G : zG) (n : Nat) (f : Nat → Option Nat) : va_E := .inl (G.2.1 4, n, .inr (.inr (.inr (.inr f))))
def zO (ci : Nat) (fs : List Value) : va_E := .inr (ci, fs)
/-- an array's cell says nothing of places beyond its end -/
theorem arrV_congr {cA : ClassId} {n : Nat} {f g : Nat → Value} (h : ∀ j, j < n → f j = g j) : arrV cA n f = arrV cA n g := by
  have e : (fun j : Fin n => f j.val) = (fun j : Fin n => g j.val) := funext fun j => h j.1 j.2
  unfold arrV
  rw [e]
/-! ===== parts of worlds ===== -/
def zSub (ws ws' : va_W) : Prop := ∃ g : Nat → Nat, (∀ (k : Nat) (q : Nat × va_E), ws'[k]? = some q → ws[g k]? = some q) ∧ ∀ (i j : Nat) (p q : Nat × va_E), ws'[i]? = some p → ws'[j]? = some q → g i = g j → i = j
theorem zSub.rfl' {ws : va_W} : zSub ws ws := ⟨id, fun _ _ h => h, fun _ _ _ _ _ _ h => h⟩
theorem zSub.P {D : va_G} {cl : List vw_C} {ws ws' : va_W} {H : Heap} (h : zSub ws ws') (hP : va_P D cl ws H) : va_P D cl ws' H := by
  obtain ⟨g, h1, -⟩ := h
  exact hP.by g h1
theorem zSub.D {A : Nat → Prop} {ws ws' : va_W} (h : zSub ws ws') (hD : va_D A ws) : va_D A ws' := by
  obtain ⟨g, h1, h2⟩ := h
  exact ⟨fun i j p q hi hj e => h2 i j p q hi hj (hD.1 _ _ p q (h1 i p hi) (h1 j q hj) e), fun k q hk => hD.2 _ q (h1 k q hk)⟩
theorem zSub.trans {a b c : va_W} (h1 : zSub a b) (h2 : zSub b c) : zSub a c := by
  obtain ⟨g, a1, a2⟩ := h1
  obtain ⟨f, b1, b2⟩ := h2
  exact ⟨fun k => g (f k), fun k q hk => a1 _ q (b1 k q hk), fun i j p q hi hj e => b2 i j p q hi hj (a2 _ _ p q (b1 i p hi) (b1 j q hj) e)⟩
theorem zSub.ix {ws ws' : va_W} (is : List Nat) (hs : is.map (fun i => ws[i]?) = ws'.map some) (hn : va_nd is = true := by decide) : zSub ws ws' := by
  have key : ∀ (k : Nat) (q : Nat × va_E), ws'[k]? = some q → ∃ i, is[k]? = some i ∧ ws[i]? = some q := by
    intro k q hk
    have h1 : (is.map (fun i => ws[i]?))[k]? = some (some q) := by rw [hs, List.getElem?_map, hk]; rfl
    rw [List.getElem?_map] at h1
    cases hi : is[k]? with
    | none => rw [hi] at h1; cases h1
    | some i => rw [hi] at h1; exact ⟨i, rfl, Option.some.inj h1⟩
  refine ⟨fun k => (is[k]?).getD 0, fun k q hk => ?_, fun i j p q hi hj e => ?_⟩
  · obtain ⟨i, h1, h2⟩ := key k q hk
    show ws[(is[k]?).getD 0]? = some q
    rw [h1]; exact h2
  · obtain ⟨a, h1, -⟩ := key i p hi
    obtain ⟨b, h2, -⟩ := key j q hj
    have e : (is[i]?).getD 0 = (is[j]?).getD 0 := e
    rw [h1, h2] at e
    have e : a = b := e
    subst e
    exact va_nd_inj is hn i j a h1 h2
/-! ===== words and statics that hold all through ===== -/
def zKeep : Cond → Bool
  | .fieldLinkNest _ _ _ _ _ _ => true
  | .methodLinkNest _ _ _ _ => true
  | .castable _ _ => true
  | .declares _ => true
  | _ => false
theorem zKeep_on {w : Cond} (h : zKeep w = true) : w.onTables = true := by
  cases w <;> first | rfl | cases h
theorem zKeep_warm {w : Cond} (h : zKeep w = true) {s U : State} (hW : s.WarmedH U.vm) (hZ : va_Nw w s) : va_Nw w U := by
  cases w
  all_goals first | cases h; done | exact va_Nw.warmF hW hZ | exact va_Nw.warmM hW hZ | exact va_Nw.warmC hW hZ | exact va_Nw.warmD hW hZ
def zFw : List (String × MethodName × MethodName) := [
  ("java/util/LinkedList$ListItr", ⟨"java/util/Iterator", "hasNext", "()Z"⟩, ⟨"java/util/LinkedList$ListItr", "hasNext", "()Z"⟩),
  ("java/util/LinkedList$ListItr", ⟨"java/util/Iterator", "next", "()Ljava/lang/Object;"⟩, ⟨"java/util/LinkedList$ListItr", "next", "()Ljava/lang/Object;"⟩),
  ("java/util/LinkedList$ListItr", ⟨"java/util/Iterator", "remove", "()V"⟩, ⟨"java/util/LinkedList$ListItr", "remove", "()V"⟩),
  ("java/util/ArrayDeque$DeqIterator", ⟨"java/util/Iterator", "hasNext", "()Z"⟩, ⟨"java/util/ArrayDeque$DeqIterator", "hasNext", "()Z"⟩),
  ("java/util/ArrayDeque$DeqIterator", ⟨"java/util/Iterator", "next", "()Ljava/lang/Object;"⟩, ⟨"java/util/ArrayDeque$DeqIterator", "next", "()Ljava/lang/Object;"⟩),
  ("java/util/ImmutableCollections$List12", ⟨"java/util/List", "get", "(I)Ljava/lang/Object;"⟩, ⟨"java/util/ImmutableCollections$List12", "get", "(I)Ljava/lang/Object;"⟩)]
def zW (U : State) : Prop := (∀ w ∈ lw_tbl, zKeep w = true → va_Nw w U) ∧ va_AO "java/lang/Object" U ∧ ∀ q ∈ zFw, va_Fw q.1 q.2.1 q.2.2 U
theorem zFw_x : ∀ q ∈ zFw, q.2.1.cls ≠ "java/lang/invoke/MethodHandle" ∧ q.2.1.cls ≠ "java/lang/invoke/VarHandle" := by decide
theorem zW.warm {s U : State} (hW : s.WarmedH U.vm) (h : zW s) : zW U :=
  ⟨fun w hw hk => zKeep_warm hk hW (h.1 w hw hk), h.2.1.moved hW.alike, fun q hq => (h.2.2 q hq).moved (zFw_x q hq) hW.alike⟩
theorem zW.same {s U : State} (e : s.vm = U.vm) (h : zW s) : zW U :=
  ⟨fun w hw hk => va_Nw.same (zKeep_on hk) e (h.1 w hw hk), va_AO.moved (e ▸ Vm.Alike.refl s.vm) h.2.1, fun q hq => va_Fw.moved (zFw_x q hq) (e ▸ Vm.Alike.refl s.vm) (h.2.2 q hq)⟩
theorem zW.nw {U : State} (h : zW U) {w : Cond} (hw : w ∈ lw_tbl) (hk : zKeep w = true := by rfl) : va_Nw w U := h.1 w hw hk
def zS (G : zG) (A : Nat → Prop) (U : State) (H : Heap) : Prop :=
  va_Z "java/util/BitSet" "$assertionsDisabled" "Z" (.int 1) A U H ∧ va_Z "java/lang/Integer$IntegerCache" "high" "I" (.int 127) A U H ∧
  va_Z "java/lang/Integer$IntegerCache" "cache" "[Ljava/lang/Integer;" (.ref G.2.2.2.1) A U H ∧ va_T (.object "java/lang/Integer") G.2.2.2.1 256 (fun j => .ref (G.2.2.1 j)) A U H ∧ vb_C G.2.2.1 A U H ∧ va_Z "java/util/ImmutableCollections" "EMPTY" "Ljava/lang/Object;" (.ref G.2.2.2.2) A U H ∧ ¬ A G.2.2.2.2
theorem zS.moved {G : zG} {A : Nat → Prop} {u U : State} {H : Heap} (hvm : u.vm.Alike U.vm) (h : zS G A u H) : zS G A U H :=
  ⟨h.1.moved hvm, h.2.1.moved hvm, h.2.2.1.moved hvm, h.2.2.2.1.moved hvm, h.2.2.2.2.1.moved hvm, h.2.2.2.2.2.1.moved hvm, h.2.2.2.2.2.2⟩
theorem zS.kept {G : zG} {A : Nat → Prop} {U : State} {H H1 : Heap} (h : zS G A U H) (hq : ∀ a : Nat, a < H.size → ¬ A a → H1[a]? = H[a]?) : zS G A U H1 :=
  ⟨h.1.kept hq, h.2.1.kept hq, h.2.2.1.kept hq, h.2.2.2.1.kept hq, h.2.2.2.2.1.kept hq, h.2.2.2.2.2.1.kept hq, h.2.2.2.2.2.2⟩
theorem zS.narrow {G : zG} {A B : Nat → Prop} {U : State} {H : Heap} (h : zS G A U H) (hAB : ∀ q, B q → A q) : zS G B U H :=
  ⟨h.1.narrow hAB, h.2.1.narrow hAB, h.2.2.1.narrow hAB, h.2.2.2.1.narrow hAB, h.2.2.2.2.1.narrow hAB, h.2.2.2.2.2.1.narrow hAB, fun z => h.2.2.2.2.2.2 (hAB _ z)⟩
/-! ===== the judgement ===== -/
abbrev zK := Program × Launch × Env × Room × State × MethodId × Array Value × List Frame × Method × Code × (State → Prop) × (Nat → Prop) × zG
def kL (κ : zK) : Launch := κ.2.1
def kG (κ : zK) : zG := κ.2.2.2.2.2.2.2.2.2.2.2.2
def Z : zK → Nat → List (Nat × Value) → List Value → va_W → Nat → Nat → Prop
  | (p, l, e, R, s, m, args, below, meth, c, Q, A, G), pc, lv, st, ws, cells, slots =>
    ∀ (H : Heap) (locs : List Loc) (ls : Array Slot), lv_has ls c.maxLocals lv → va_P G.1 zCl ws H → va_D A ws → va_S A s.heap H locs → W p l e R s m args below meth c H locs cells slots Q (F0 m pc ls st)
/-- what holds all through a method's run: y with code cc, answer ret, nL locals, in the room rm -/
def Kx : zK → MethodName → ByteArray → Option FieldType → Nat → Nat → Nat → Nat → Prop
  | (p, _, _, R, s, m, args, _, meth, c, _, A, G), y, cc, ret, nL, rk, MC, MS =>
    p.tables.exec = Jvm.exec ∧ c.code = cc ∧ meth.sig.returnType = ret ∧ meth.locks = false ∧ c.maxLocals = nL ∧ s.vm.findClass y.cls = some m.cls ∧ (∀ w ∈ lw_all, w.before args s = true) ∧ (∀ q : Nat, s.heap.size ≤ q → A q) ∧ rk ≤ R.frames ∧ 40 * rk ≤ R.locals ∧ R.cells = MC ∧ R.slots = MS ∧ va_K G.1 zCl (zTy G.2.1) s ∧ zW s ∧ zS G A s s.heap ∧ meth.name = y.name
/-! ===== contracts ===== -/
def zRm (rk MC MS : Nat) : Room := { frames := rk, cells := MC, slots := MS, locals := 40 * rk }
def zPre (G : zG) (av : List Value) (wc : va_W) (sz : Nat) : Array Value → State → Prop :=
  va_Pc av (fun U => U.heap.size = sz ∧ va_P G.1 zCl wc U.heap ∧ va_K G.1 zCl (zTy G.2.1) U ∧ va_D (fun _ => True) wc ∧ zW U ∧ zS G (va_A wc sz) U U.heap)
def zPost (G : zG) {S : Type} (rv : S → Option Value) (post : S → Prop) (w1 : S → va_W) (A : Nat → Prop) : Array Value → State → Outcome → State → Prop :=
  fun _ st oc t => (∃ u : S, oc = .returned (rv u) ∧ post u ∧ va_P G.1 zCl (w1 u) t.heap ∧ va_D A (w1 u)) ∧ va_F A st t
/-- the contract of y: called with av over the cells wc it returns rv u, with post u, and leaves the cells w1 u; at most rm.cells new cells -/
def Ct (l : Launch) (G : zG) (y : MethodName) (cc : ByteArray) (nL : Nat) (ret : Option FieldType) (rk MC MS : Nat) (av : List Value) (wc : va_W) {S : Type} (rv : S → Option Value) (post : S → Prop) (w1 : S → va_W) : Prop :=
  ∀ sz : Nat, Met l y (ws_ y cc nL ret) (zRm rk MC MS) (zPre G av wc sz) (zPost G rv post w1 (va_A wc sz)) MC MS (va_A wc sz)
/-- the end that a method's body owes -/
def zR : zK → Nat → Nat → {S : Type} → (S → Option Value) → (S → Prop) → (S → va_W) → Prop
  | (_, _, _, _, s, _, args, below, _, _, Q, A, G), MC, MS, _, rv, post, w1 => Q = MQ below (zPost G rv post w1 A) args s MC MS A
theorem Ct.of {l : Launch} {G : zG} {y : MethodName} {cc : ByteArray} {nL : Nat} {ret : Option FieldType} {rk MC MS : Nat} {av : List Value} {wc : va_W} {S : Type} {rv : S → Option Value} {post : S → Prop} {w1 : S → va_W}
    (hy : plainName y.cls = true) (hn : (lg_sl av).length ≤ nL)
    (h : ∀ κ : zK, kL κ = l → kG κ = G → Kx κ y cc ret nL rk MC MS → zR κ MC MS rv post w1 → Z κ 0 (lv_args 0 av) [] wc 0 0) : Ct l G y cc nL ret rk MC MS av wc rv post w1 := by
  intro sz
  refine Met.ofW (cc := cc) (maxL := nL) (ret := ret) hy rfl ?_
  intro p e s m args below meth c s₁ B hml hv
  obtain ⟨rfl, hsz, hP, hK, hD0, hw, hs⟩ := hv
  subst hsz
  have hts := atoms_spec (ws := ws_ y cc nL ret) B.pre
  have hts : ∀ w ∈ lw_all, w.before _ s = true := fun w h => hts w (List.mem_cons_of_mem _ h)
  have hD := hD0.self (sz := s.heap.size)
  have hl := lv_entry av hn
  rw [lg_entry_eq]
  refine h (p, l, e, (headSpec (ws_ y cc nL ret) (zRm rk MC MS)).room, s, m, av.toArray, below, meth, c, MQ below (zPost G rv post w1 (va_A wc s.heap.size)) av.toArray s MC MS (va_A wc s.heap.size), va_A wc s.heap.size, G) rfl rfl
    ⟨B.exec, B.bytes, B.returns, B.notSynchronized, hml, findClass_of_methodNamed B.named, hts, fun q h => Or.inr h, Nat.le_refl _, Nat.le_refl _, rfl, rfl, hK, hw, hs, (name_of_methodNamed B.named B.method).1⟩ rfl s.heap [] _ (by rw [hml]; exact hl) hP hD va_S.rf

theorem z_iconst {κ : zK} {y : MethodName} {cc : ByteArray} {ret : Option FieldType} {nL : Nat} {rk MC MS : Nat} (hk : Kx κ y cc ret nL rk MC MS) {pc : Nat} {lv : List (Nat × Value)} {st : List Value} {ws : va_W} {cells slots : Nat} {n : Int} {z : Int} (d : decode cc pc = .ok (.iconst n, 1)) (hv : n = z := by rfl)
    (kk : Z κ (pc + 1) lv (.int (iZ z) :: st) ws cells slots) : Z κ pc lv (st) ws cells slots := by
  obtain ⟨p, l, e, R, s, m, args, below, meth, c, Q, A, G⟩ := κ
  obtain ⟨hx, hb, hr, hlk, hml, hown, hts, hA, hRf, hRl, hRc, hRs, hK, hW, hSt, hnm⟩ := hk
  intro H locs ls hl hP hD hS
  exact lv_iconst hx hb d (by rw [hv]; rfl) (kk H locs ls hl hP hD hS)
theorem z_bipush {κ : zK} {y : MethodName} {cc : ByteArray} {ret : Option FieldType} {nL : Nat} {rk MC MS : Nat} (hk : Kx κ y cc ret nL rk MC MS) {pc : Nat} {lv : List (Nat × Value)} {st : List Value} {ws : va_W} {cells slots : Nat} {n : Int} {z : Int} (d : decode cc pc = .ok (.bipush n, 2)) (hv : (Int8.ofInt n).toInt32 = iZ z := by decide)
    (kk : Z κ (pc + 2) lv (.int (iZ z) :: st) ws cells slots) : Z κ pc lv (st) ws cells slots := by
  obtain ⟨p, l, e, R, s, m, args, below, meth, c, Q, A, G⟩ := κ
  obtain ⟨hx, hb, hr, hlk, hml, hown, hts, hA, hRf, hRl, hRc, hRs, hK, hW, hSt, hnm⟩ := hk
  intro H locs ls hl hP hD hS
  exact lv_bipush hx hb d hv (kk H locs ls hl hP hD hS)
theorem z_sipush {κ : zK} {y : MethodName} {cc : ByteArray} {ret : Option FieldType} {nL : Nat} {rk MC MS : Nat} (hk : Kx κ y cc ret nL rk MC MS) {pc : Nat} {lv : List (Nat × Value)} {st : List Value} {ws : va_W} {cells slots : Nat} {n : Int} {z : Int} (d : decode cc pc = .ok (.sipush n, 3)) (hv : (Int16.ofInt n).toInt32 = iZ z := by decide)
    (kk : Z κ (pc + 3) lv (.int (iZ z) :: st) ws cells slots) : Z κ pc lv (st) ws cells slots := by
  obtain ⟨p, l, e, R, s, m, args, below, meth, c, Q, A, G⟩ := κ
  obtain ⟨hx, hb, hr, hlk, hml, hown, hts, hA, hRf, hRl, hRc, hRs, hK, hW, hSt, hnm⟩ := hk
  intro H locs ls hl hP hD hS
  exact lv_sipush hx hb d hv (kk H locs ls hl hP hD hS)
theorem z_ldc {κ : zK} {y : MethodName} {cc : ByteArray} {ret : Option FieldType} {nL : Nat} {rk MC MS : Nat} (hk : Kx κ y cc ret nL rk MC MS) {pc : Nat} {lv : List (Nat × Value)} {st : List Value} {ws : va_W} {cells slots : Nat} {i : Nat} {v : Int32} {z : Int} (hq : Cond.constant y.cls i v ∈ lw_all) (d : decode cc pc = .ok (.ldc i, 2)) (hv : v = iZ z := by decide)
    (kk : Z κ (pc + 2) lv (.int (iZ z) :: st) ws cells slots) : Z κ pc lv (st) ws cells slots := by
  obtain ⟨p, l, e, R, s, m, args, below, meth, c, Q, A, G⟩ := κ
  obtain ⟨hx, hb, hr, hlk, hml, hown, hts, hA, hRf, hRl, hRc, hRs, hK, hW, hSt, hnm⟩ := hk
  intro H locs ls hl hP hD hS
  subst hv
  exact lv_ldc hx hb hown (hts _ hq) d (kk H locs ls hl hP hD hS)
theorem z_ldc2 {κ : zK} {y : MethodName} {cc : ByteArray} {ret : Option FieldType} {nL : Nat} {rk MC MS : Nat} (hk : Kx κ y cc ret nL rk MC MS) {pc : Nat} {lv : List (Nat × Value)} {st : List Value} {ws : va_W} {cells slots : Nat} {i : Nat} {v : Int64} (hq : Cond.constantLong y.cls i v ∈ lw_all) (d : decode cc pc = .ok (.ldc2_w i, 3))
    (kk : Z κ (pc + 3) lv (.long v :: st) ws cells slots) : Z κ pc lv (st) ws cells slots := by
  obtain ⟨p, l, e, R, s, m, args, below, meth, c, Q, A, G⟩ := κ
  obtain ⟨hx, hb, hr, hlk, hml, hown, hts, hA, hRf, hRl, hRc, hRs, hK, hW, hSt, hnm⟩ := hk
  intro H locs ls hl hP hD hS
  exact lv_ldc2 hx hb hown (hts _ hq) d (kk H locs ls hl hP hD hS)
theorem z_lconst {κ : zK} {y : MethodName} {cc : ByteArray} {ret : Option FieldType} {nL : Nat} {rk MC MS : Nat} (hk : Kx κ y cc ret nL rk MC MS) {pc : Nat} {lv : List (Nat × Value)} {st : List Value} {ws : va_W} {cells slots : Nat} {n : Fin 2} {v : Int64} (d : decode cc pc = .ok (.lconst n, 1)) (hv : Int64.ofNat (n : Nat) = v)
    (kk : Z κ (pc + 1) lv (.long v :: st) ws cells slots) : Z κ pc lv (st) ws cells slots := by
  obtain ⟨p, l, e, R, s, m, args, below, meth, c, Q, A, G⟩ := κ
  obtain ⟨hx, hb, hr, hlk, hml, hown, hts, hA, hRf, hRl, hRc, hRs, hK, hW, hSt, hnm⟩ := hk
  intro H locs ls hl hP hD hS
  exact lv_lconst hx hb d hv (kk H locs ls hl hP hD hS)
theorem z_iload_n {κ : zK} {y : MethodName} {cc : ByteArray} {ret : Option FieldType} {nL : Nat} {rk MC MS : Nat} (hk : Kx κ y cc ret nL rk MC MS) {pc : Nat} {lv : List (Nat × Value)} {st : List Value} {ws : va_W} {cells slots : Nat} {k : Fin 4} {i : Nat} {x : Int32} (d : decode cc pc = .ok (.iload_n k, 1)) (j : Nat) (hj : lv[j]? = some (i, .int x)) (hi : (k : Nat) = i := by rfl)
    (kk : Z κ (pc + 1) lv (.int x :: st) ws cells slots) : Z κ pc lv (st) ws cells slots := by
  obtain ⟨p, l, e, R, s, m, args, below, meth, c, Q, A, G⟩ := κ
  obtain ⟨hx, hb, hr, hlk, hml, hown, hts, hA, hRf, hRl, hRc, hRs, hK, hW, hSt, hnm⟩ := hk
  intro H locs ls hl hP hD hS
  exact lv_iload_n hx hb d hi (lv_at hl j hj) (kk H locs ls hl hP hD hS)
theorem z_iload {κ : zK} {y : MethodName} {cc : ByteArray} {ret : Option FieldType} {nL : Nat} {rk MC MS : Nat} (hk : Kx κ y cc ret nL rk MC MS) {pc : Nat} {lv : List (Nat × Value)} {st : List Value} {ws : va_W} {cells slots : Nat} {i : Nat} {x : Int32} (d : decode cc pc = .ok (.iload i, 2)) (j : Nat) (hj : lv[j]? = some (i, .int x))
    (kk : Z κ (pc + 2) lv (.int x :: st) ws cells slots) : Z κ pc lv (st) ws cells slots := by
  obtain ⟨p, l, e, R, s, m, args, below, meth, c, Q, A, G⟩ := κ
  obtain ⟨hx, hb, hr, hlk, hml, hown, hts, hA, hRf, hRl, hRc, hRs, hK, hW, hSt, hnm⟩ := hk
  intro H locs ls hl hP hD hS
  exact lv_iload hx hb d (lv_at hl j hj) (kk H locs ls hl hP hD hS)
theorem z_lload_n {κ : zK} {y : MethodName} {cc : ByteArray} {ret : Option FieldType} {nL : Nat} {rk MC MS : Nat} (hk : Kx κ y cc ret nL rk MC MS) {pc : Nat} {lv : List (Nat × Value)} {st : List Value} {ws : va_W} {cells slots : Nat} {k : Fin 4} {i : Nat} {x : Int64} (d : decode cc pc = .ok (.lload_n k, 1)) (j : Nat) (hj : lv[j]? = some (i, .long x)) (hi : (k : Nat) = i := by rfl)
    (kk : Z κ (pc + 1) lv (.long x :: st) ws cells slots) : Z κ pc lv (st) ws cells slots := by
  obtain ⟨p, l, e, R, s, m, args, below, meth, c, Q, A, G⟩ := κ
  obtain ⟨hx, hb, hr, hlk, hml, hown, hts, hA, hRf, hRl, hRc, hRs, hK, hW, hSt, hnm⟩ := hk
  intro H locs ls hl hP hD hS
  exact lv_lload_n hx hb d hi (lv_at hl j hj) (kk H locs ls hl hP hD hS)
theorem z_lload {κ : zK} {y : MethodName} {cc : ByteArray} {ret : Option FieldType} {nL : Nat} {rk MC MS : Nat} (hk : Kx κ y cc ret nL rk MC MS) {pc : Nat} {lv : List (Nat × Value)} {st : List Value} {ws : va_W} {cells slots : Nat} {i : Nat} {x : Int64} (d : decode cc pc = .ok (.lload i, 2)) (j : Nat) (hj : lv[j]? = some (i, .long x))
    (kk : Z κ (pc + 2) lv (.long x :: st) ws cells slots) : Z κ pc lv (st) ws cells slots := by
  obtain ⟨p, l, e, R, s, m, args, below, meth, c, Q, A, G⟩ := κ
  obtain ⟨hx, hb, hr, hlk, hml, hown, hts, hA, hRf, hRl, hRc, hRs, hK, hW, hSt, hnm⟩ := hk
  intro H locs ls hl hP hD hS
  exact lv_lload hx hb d (lv_at hl j hj) (kk H locs ls hl hP hD hS)
theorem z_aload_n {κ : zK} {y : MethodName} {cc : ByteArray} {ret : Option FieldType} {nL : Nat} {rk MC MS : Nat} (hk : Kx κ y cc ret nL rk MC MS) {pc : Nat} {lv : List (Nat × Value)} {st : List Value} {ws : va_W} {cells slots : Nat} {k : Fin 4} {i : Nat} {x : Nat} (d : decode cc pc = .ok (.aload_n k, 1)) (j : Nat) (hj : lv[j]? = some (i, .ref x)) (hi : (k : Nat) = i := by rfl)
    (kk : Z κ (pc + 1) lv (.ref x :: st) ws cells slots) : Z κ pc lv (st) ws cells slots := by
  obtain ⟨p, l, e, R, s, m, args, below, meth, c, Q, A, G⟩ := κ
  obtain ⟨hx, hb, hr, hlk, hml, hown, hts, hA, hRf, hRl, hRc, hRs, hK, hW, hSt, hnm⟩ := hk
  intro H locs ls hl hP hD hS
  exact lv_aload_n hx hb d hi (lv_at hl j hj) (kk H locs ls hl hP hD hS)
theorem z_aload {κ : zK} {y : MethodName} {cc : ByteArray} {ret : Option FieldType} {nL : Nat} {rk MC MS : Nat} (hk : Kx κ y cc ret nL rk MC MS) {pc : Nat} {lv : List (Nat × Value)} {st : List Value} {ws : va_W} {cells slots : Nat} {i : Nat} {x : Nat} (d : decode cc pc = .ok (.aload i, 2)) (j : Nat) (hj : lv[j]? = some (i, .ref x))
    (kk : Z κ (pc + 2) lv (.ref x :: st) ws cells slots) : Z κ pc lv (st) ws cells slots := by
  obtain ⟨p, l, e, R, s, m, args, below, meth, c, Q, A, G⟩ := κ
  obtain ⟨hx, hb, hr, hlk, hml, hown, hts, hA, hRf, hRl, hRc, hRs, hK, hW, hSt, hnm⟩ := hk
  intro H locs ls hl hP hD hS
  exact lv_aload hx hb d (lv_at hl j hj) (kk H locs ls hl hP hD hS)
theorem z_aload_nN {κ : zK} {y : MethodName} {cc : ByteArray} {ret : Option FieldType} {nL : Nat} {rk MC MS : Nat} (hk : Kx κ y cc ret nL rk MC MS) {pc : Nat} {lv : List (Nat × Value)} {st : List Value} {ws : va_W} {cells slots : Nat} {k : Fin 4} {i : Nat} (d : decode cc pc = .ok (.aload_n k, 1)) (j : Nat) (hj : lv[j]? = some (i, .null)) (hi : (k : Nat) = i := by rfl)
    (kk : Z κ (pc + 1) lv (.null :: st) ws cells slots) : Z κ pc lv (st) ws cells slots := by
  obtain ⟨p, l, e, R, s, m, args, below, meth, c, Q, A, G⟩ := κ
  obtain ⟨hx, hb, hr, hlk, hml, hown, hts, hA, hRf, hRl, hRc, hRs, hK, hW, hSt, hnm⟩ := hk
  intro H locs ls hl hP hD hS
  exact lv_aload_nN hx hb d hi (lv_at hl j hj) (kk H locs ls hl hP hD hS)
theorem z_aloadN {κ : zK} {y : MethodName} {cc : ByteArray} {ret : Option FieldType} {nL : Nat} {rk MC MS : Nat} (hk : Kx κ y cc ret nL rk MC MS) {pc : Nat} {lv : List (Nat × Value)} {st : List Value} {ws : va_W} {cells slots : Nat} {i : Nat} (d : decode cc pc = .ok (.aload i, 2)) (j : Nat) (hj : lv[j]? = some (i, .null))
    (kk : Z κ (pc + 2) lv (.null :: st) ws cells slots) : Z κ pc lv (st) ws cells slots := by
  obtain ⟨p, l, e, R, s, m, args, below, meth, c, Q, A, G⟩ := κ
  obtain ⟨hx, hb, hr, hlk, hml, hown, hts, hA, hRf, hRl, hRc, hRs, hK, hW, hSt, hnm⟩ := hk
  intro H locs ls hl hP hD hS
  exact lv_aloadN hx hb d (lv_at hl j hj) (kk H locs ls hl hP hD hS)
theorem z_istore_n {κ : zK} {y : MethodName} {cc : ByteArray} {ret : Option FieldType} {nL : Nat} {rk MC MS : Nat} (hk : Kx κ y cc ret nL rk MC MS) {pc : Nat} {lv : List (Nat × Value)} {st : List Value} {ws : va_W} {cells slots : Nat} {k : Fin 4} {i : Nat} {x : Int32} (lv' : List (Nat × Value)) (d : decode cc pc = .ok (.istore_n k, 1)) (hi : (k : Nat) = i := by rfl) (hn : i < nL := by decide) (hlv : (i, Value.int x) :: lv.filter (fun q => !(q.1 == i) && !(q.1 + 1 == i && q.2.category == 2)) = lv' := by rfl)
    (kk : Z κ (pc + 1) lv' (st) ws cells slots) : Z κ pc lv (.int x :: st) ws cells slots := by
  obtain ⟨p, l, e, R, s, m, args, below, meth, c, Q, A, G⟩ := κ
  obtain ⟨hx, hb, hr, hlk, hml, hown, hts, hA, hRf, hRl, hRc, hRs, hK, hW, hSt, hnm⟩ := hk
  intro H locs ls hl hP hD hS
  exact lv_istore_n hx hb d hi hl (hml ▸ hn) hlv (fun ls' hl' => kk H locs ls' hl' hP hD hS)
theorem z_istore {κ : zK} {y : MethodName} {cc : ByteArray} {ret : Option FieldType} {nL : Nat} {rk MC MS : Nat} (hk : Kx κ y cc ret nL rk MC MS) {pc : Nat} {lv : List (Nat × Value)} {st : List Value} {ws : va_W} {cells slots : Nat} {i : Nat} {x : Int32} (lv' : List (Nat × Value)) (d : decode cc pc = .ok (.istore i, 2)) (hn : i < nL := by decide) (hlv : (i, Value.int x) :: lv.filter (fun q => !(q.1 == i) && !(q.1 + 1 == i && q.2.category == 2)) = lv' := by rfl)
    (kk : Z κ (pc + 2) lv' (st) ws cells slots) : Z κ pc lv (.int x :: st) ws cells slots := by
  obtain ⟨p, l, e, R, s, m, args, below, meth, c, Q, A, G⟩ := κ
  obtain ⟨hx, hb, hr, hlk, hml, hown, hts, hA, hRf, hRl, hRc, hRs, hK, hW, hSt, hnm⟩ := hk
  intro H locs ls hl hP hD hS
  exact lv_istore hx hb d hl (hml ▸ hn) hlv (fun ls' hl' => kk H locs ls' hl' hP hD hS)
theorem z_astore_n {κ : zK} {y : MethodName} {cc : ByteArray} {ret : Option FieldType} {nL : Nat} {rk MC MS : Nat} (hk : Kx κ y cc ret nL rk MC MS) {pc : Nat} {lv : List (Nat × Value)} {st : List Value} {ws : va_W} {cells slots : Nat} {k : Fin 4} {i : Nat} {x : Nat} (lv' : List (Nat × Value)) (d : decode cc pc = .ok (.astore_n k, 1)) (hi : (k : Nat) = i := by rfl) (hn : i < nL := by decide) (hlv : (i, Value.ref x) :: lv.filter (fun q => !(q.1 == i) && !(q.1 + 1 == i && q.2.category == 2)) = lv' := by rfl)
    (kk : Z κ (pc + 1) lv' (st) ws cells slots) : Z κ pc lv (.ref x :: st) ws cells slots := by
  obtain ⟨p, l, e, R, s, m, args, below, meth, c, Q, A, G⟩ := κ
  obtain ⟨hx, hb, hr, hlk, hml, hown, hts, hA, hRf, hRl, hRc, hRs, hK, hW, hSt, hnm⟩ := hk
  intro H locs ls hl hP hD hS
  exact lv_astore_n hx hb d hi hl (hml ▸ hn) hlv (fun ls' hl' => kk H locs ls' hl' hP hD hS)
theorem z_astore {κ : zK} {y : MethodName} {cc : ByteArray} {ret : Option FieldType} {nL : Nat} {rk MC MS : Nat} (hk : Kx κ y cc ret nL rk MC MS) {pc : Nat} {lv : List (Nat × Value)} {st : List Value} {ws : va_W} {cells slots : Nat} {i : Nat} {x : Nat} (lv' : List (Nat × Value)) (d : decode cc pc = .ok (.astore i, 2)) (hn : i < nL := by decide) (hlv : (i, Value.ref x) :: lv.filter (fun q => !(q.1 == i) && !(q.1 + 1 == i && q.2.category == 2)) = lv' := by rfl)
    (kk : Z κ (pc + 2) lv' (st) ws cells slots) : Z κ pc lv (.ref x :: st) ws cells slots := by
  obtain ⟨p, l, e, R, s, m, args, below, meth, c, Q, A, G⟩ := κ
  obtain ⟨hx, hb, hr, hlk, hml, hown, hts, hA, hRf, hRl, hRc, hRs, hK, hW, hSt, hnm⟩ := hk
  intro H locs ls hl hP hD hS
  exact lv_astore hx hb d hl (hml ▸ hn) hlv (fun ls' hl' => kk H locs ls' hl' hP hD hS)
theorem z_astore_nN {κ : zK} {y : MethodName} {cc : ByteArray} {ret : Option FieldType} {nL : Nat} {rk MC MS : Nat} (hk : Kx κ y cc ret nL rk MC MS) {pc : Nat} {lv : List (Nat × Value)} {st : List Value} {ws : va_W} {cells slots : Nat} {k : Fin 4} {i : Nat} (lv' : List (Nat × Value)) (d : decode cc pc = .ok (.astore_n k, 1)) (hi : (k : Nat) = i := by rfl) (hn : i < nL := by decide) (hlv : (i, Value.null) :: lv.filter (fun q => !(q.1 == i) && !(q.1 + 1 == i && q.2.category == 2)) = lv' := by rfl)
    (kk : Z κ (pc + 1) lv' (st) ws cells slots) : Z κ pc lv (.null :: st) ws cells slots := by
  obtain ⟨p, l, e, R, s, m, args, below, meth, c, Q, A, G⟩ := κ
  obtain ⟨hx, hb, hr, hlk, hml, hown, hts, hA, hRf, hRl, hRc, hRs, hK, hW, hSt, hnm⟩ := hk
  intro H locs ls hl hP hD hS
  exact lv_astore_nN hx hb d hi hl (hml ▸ hn) hlv (fun ls' hl' => kk H locs ls' hl' hP hD hS)
theorem z_iinc {κ : zK} {y : MethodName} {cc : ByteArray} {ret : Option FieldType} {nL : Nat} {rk MC MS : Nat} (hk : Kx κ y cc ret nL rk MC MS) {pc : Nat} {lv : List (Nat × Value)} {st : List Value} {ws : va_W} {cells slots : Nat} {i : Nat} {n z z' : Int} (lv' : List (Nat × Value)) (d : decode cc pc = .ok (.iinc i n, 3)) (j : Nat) (hj : lv[j]? = some (i, .int (iZ z))) (hz : z + n = z' := by first | rfl | omega) (hn : i < nL := by decide) (hlv : (i, Value.int (iZ z')) :: lv.filter (fun q => !(q.1 == i) && !(q.1 + 1 == i && q.2.category == 2)) = lv' := by rfl)
    (kk : Z κ (pc + 3) lv' (st) ws cells slots) : Z κ pc lv (st) ws cells slots := by
  obtain ⟨p, l, e, R, s, m, args, below, meth, c, Q, A, G⟩ := κ
  obtain ⟨hx, hb, hr, hlk, hml, hown, hts, hA, hRf, hRl, hRc, hRs, hK, hW, hSt, hnm⟩ := hk
  intro H locs ls hl hP hD hS
  exact lv_iinc hx hb d hl hj (by rw [← hz]; exact iZ_add z n) (hml ▸ hn) hlv (fun ls' hl' => kk H locs ls' hl' hP hD hS)
theorem z_iadd {κ : zK} {y : MethodName} {cc : ByteArray} {ret : Option FieldType} {nL : Nat} {rk MC MS : Nat} (hk : Kx κ y cc ret nL rk MC MS) {pc : Nat} {lv : List (Nat × Value)} {st : List Value} {ws : va_W} {cells slots : Nat} {a b z : Int} (d : decode cc pc = .ok (.iadd, 1)) (hz : a + b = z := by rfl)
    (kk : Z κ (pc + 1) lv (.int (iZ z) :: st) ws cells slots) : Z κ pc lv (.int (iZ b) :: .int (iZ a) :: st) ws cells slots := by
  obtain ⟨p, l, e, R, s, m, args, below, meth, c, Q, A, G⟩ := κ
  obtain ⟨hx, hb, hr, hlk, hml, hown, hts, hA, hRf, hRl, hRc, hRs, hK, hW, hSt, hnm⟩ := hk
  intro H locs ls hl hP hD hS
  refine lv_iadd hx hb d ?_
  rw [iZ_add, hz]
  exact kk H locs ls hl hP hD hS
theorem z_isub {κ : zK} {y : MethodName} {cc : ByteArray} {ret : Option FieldType} {nL : Nat} {rk MC MS : Nat} (hk : Kx κ y cc ret nL rk MC MS) {pc : Nat} {lv : List (Nat × Value)} {st : List Value} {ws : va_W} {cells slots : Nat} {a b z : Int} (d : decode cc pc = .ok (.isub, 1)) (hz : a - b = z := by rfl)
    (kk : Z κ (pc + 1) lv (.int (iZ z) :: st) ws cells slots) : Z κ pc lv (.int (iZ b) :: .int (iZ a) :: st) ws cells slots := by
  obtain ⟨p, l, e, R, s, m, args, below, meth, c, Q, A, G⟩ := κ
  obtain ⟨hx, hb, hr, hlk, hml, hown, hts, hA, hRf, hRl, hRc, hRs, hK, hW, hSt, hnm⟩ := hk
  intro H locs ls hl hP hD hS
  refine lv_isub hx hb d ?_
  rw [iZ_sub, hz]
  exact kk H locs ls hl hP hD hS
theorem z_imul {κ : zK} {y : MethodName} {cc : ByteArray} {ret : Option FieldType} {nL : Nat} {rk MC MS : Nat} (hk : Kx κ y cc ret nL rk MC MS) {pc : Nat} {lv : List (Nat × Value)} {st : List Value} {ws : va_W} {cells slots : Nat} {a b z : Int} (d : decode cc pc = .ok (.imul, 1)) (hz : a * b = z := by rfl)
    (kk : Z κ (pc + 1) lv (.int (iZ z) :: st) ws cells slots) : Z κ pc lv (.int (iZ b) :: .int (iZ a) :: st) ws cells slots := by
  obtain ⟨p, l, e, R, s, m, args, below, meth, c, Q, A, G⟩ := κ
  obtain ⟨hx, hb, hr, hlk, hml, hown, hts, hA, hRf, hRl, hRc, hRs, hK, hW, hSt, hnm⟩ := hk
  intro H locs ls hl hP hD hS
  refine lv_imul hx hb d ?_
  rw [iZ_mul, hz]
  exact kk H locs ls hl hP hD hS
theorem z_ineg {κ : zK} {y : MethodName} {cc : ByteArray} {ret : Option FieldType} {nL : Nat} {rk MC MS : Nat} (hk : Kx κ y cc ret nL rk MC MS) {pc : Nat} {lv : List (Nat × Value)} {st : List Value} {ws : va_W} {cells slots : Nat} {a z : Int} (d : decode cc pc = .ok (.ineg, 1)) (hz : -a = z := by rfl)
    (kk : Z κ (pc + 1) lv (.int (iZ z) :: st) ws cells slots) : Z κ pc lv (.int (iZ a) :: st) ws cells slots := by
  obtain ⟨p, l, e, R, s, m, args, below, meth, c, Q, A, G⟩ := κ
  obtain ⟨hx, hb, hr, hlk, hml, hown, hts, hA, hRf, hRl, hRc, hRs, hK, hW, hSt, hnm⟩ := hk
  intro H locs ls hl hP hD hS
  refine lv_ineg hx hb d ?_
  rw [iZ_neg, hz]
  exact kk H locs ls hl hP hD hS
theorem z_idiv {κ : zK} {y : MethodName} {cc : ByteArray} {ret : Option FieldType} {nL : Nat} {rk MC MS : Nat} (hk : Kx κ y cc ret nL rk MC MS) {pc : Nat} {lv : List (Nat × Value)} {st : List Value} {ws : va_W} {cells slots : Nat} {a b : Nat} (d : decode cc pc = .ok (.idiv, 1)) (ha : a < 2147483648 := by omega) (h0 : 0 < b := by omega) (hb2 : b < 2147483648 := by omega)
    (kk : Z κ (pc + 1) lv (.int (iZ ((a / b : Nat) : Int)) :: st) ws cells slots) : Z κ pc lv (.int (iZ (b : Int)) :: .int (iZ (a : Int)) :: st) ws cells slots := by
  obtain ⟨p, l, e, R, s, m, args, below, meth, c, Q, A, G⟩ := κ
  obtain ⟨hx, hb, hr, hlk, hml, hown, hts, hA, hRf, hRl, hRc, hRs, hK, hW, hSt, hnm⟩ := hk
  intro H locs ls hl hP hD hS
  refine lv_idiv hx hb d (by rw [iZ_nI]; exact nI_ne0 h0 (by omega)) ?_
  rw [iZ_div ha h0 hb2]
  exact kk H locs ls hl hP hD hS
theorem z_irem {κ : zK} {y : MethodName} {cc : ByteArray} {ret : Option FieldType} {nL : Nat} {rk MC MS : Nat} (hk : Kx κ y cc ret nL rk MC MS) {pc : Nat} {lv : List (Nat × Value)} {st : List Value} {ws : va_W} {cells slots : Nat} {a b : Nat} (d : decode cc pc = .ok (.irem, 1)) (ha : a < 2147483648 := by omega) (h0 : 0 < b := by omega) (hb2 : b < 2147483648 := by omega)
    (kk : Z κ (pc + 1) lv (.int (iZ ((a % b : Nat) : Int)) :: st) ws cells slots) : Z κ pc lv (.int (iZ (b : Int)) :: .int (iZ (a : Int)) :: st) ws cells slots := by
  obtain ⟨p, l, e, R, s, m, args, below, meth, c, Q, A, G⟩ := κ
  obtain ⟨hx, hb, hr, hlk, hml, hown, hts, hA, hRf, hRl, hRc, hRs, hK, hW, hSt, hnm⟩ := hk
  intro H locs ls hl hP hD hS
  refine lv_irem hx hb d (by rw [iZ_nI]; exact nI_ne0 h0 (by omega)) ?_
  rw [iZ_rem ha h0 hb2]
  exact kk H locs ls hl hP hD hS
theorem z_iand {κ : zK} {y : MethodName} {cc : ByteArray} {ret : Option FieldType} {nL : Nat} {rk MC MS : Nat} (hk : Kx κ y cc ret nL rk MC MS) {pc : Nat} {lv : List (Nat × Value)} {st : List Value} {ws : va_W} {cells slots : Nat} {x w v : Int32} (d : decode cc pc = .ok (.iand, 1)) (hv : x &&& w = v)
    (kk : Z κ (pc + 1) lv (.int v :: st) ws cells slots) : Z κ pc lv (.int w :: .int x :: st) ws cells slots := by
  obtain ⟨p, l, e, R, s, m, args, below, meth, c, Q, A, G⟩ := κ
  obtain ⟨hx, hb, hr, hlk, hml, hown, hts, hA, hRf, hRl, hRc, hRs, hK, hW, hSt, hnm⟩ := hk
  intro H locs ls hl hP hD hS
  subst hv
  exact lv_iand hx hb d (kk H locs ls hl hP hD hS)
theorem z_ior {κ : zK} {y : MethodName} {cc : ByteArray} {ret : Option FieldType} {nL : Nat} {rk MC MS : Nat} (hk : Kx κ y cc ret nL rk MC MS) {pc : Nat} {lv : List (Nat × Value)} {st : List Value} {ws : va_W} {cells slots : Nat} {x w v : Int32} (d : decode cc pc = .ok (.ior, 1)) (hv : x ||| w = v)
    (kk : Z κ (pc + 1) lv (.int v :: st) ws cells slots) : Z κ pc lv (.int w :: .int x :: st) ws cells slots := by
  obtain ⟨p, l, e, R, s, m, args, below, meth, c, Q, A, G⟩ := κ
  obtain ⟨hx, hb, hr, hlk, hml, hown, hts, hA, hRf, hRl, hRc, hRs, hK, hW, hSt, hnm⟩ := hk
  intro H locs ls hl hP hD hS
  subst hv
  exact lv_ior hx hb d (kk H locs ls hl hP hD hS)
theorem z_ixor {κ : zK} {y : MethodName} {cc : ByteArray} {ret : Option FieldType} {nL : Nat} {rk MC MS : Nat} (hk : Kx κ y cc ret nL rk MC MS) {pc : Nat} {lv : List (Nat × Value)} {st : List Value} {ws : va_W} {cells slots : Nat} {x w v : Int32} (d : decode cc pc = .ok (.ixor, 1)) (hv : x ^^^ w = v)
    (kk : Z κ (pc + 1) lv (.int v :: st) ws cells slots) : Z κ pc lv (.int w :: .int x :: st) ws cells slots := by
  obtain ⟨p, l, e, R, s, m, args, below, meth, c, Q, A, G⟩ := κ
  obtain ⟨hx, hb, hr, hlk, hml, hown, hts, hA, hRf, hRl, hRc, hRs, hK, hW, hSt, hnm⟩ := hk
  intro H locs ls hl hP hD hS
  subst hv
  exact lv_ixor hx hb d (kk H locs ls hl hP hD hS)
theorem z_ishl {κ : zK} {y : MethodName} {cc : ByteArray} {ret : Option FieldType} {nL : Nat} {rk MC MS : Nat} (hk : Kx κ y cc ret nL rk MC MS) {pc : Nat} {lv : List (Nat × Value)} {st : List Value} {ws : va_W} {cells slots : Nat} {x w v : Int32} (d : decode cc pc = .ok (.ishl, 1)) (hv : x <<< (w &&& 31) = v)
    (kk : Z κ (pc + 1) lv (.int v :: st) ws cells slots) : Z κ pc lv (.int w :: .int x :: st) ws cells slots := by
  obtain ⟨p, l, e, R, s, m, args, below, meth, c, Q, A, G⟩ := κ
  obtain ⟨hx, hb, hr, hlk, hml, hown, hts, hA, hRf, hRl, hRc, hRs, hK, hW, hSt, hnm⟩ := hk
  intro H locs ls hl hP hD hS
  subst hv
  exact lv_ishl hx hb d (kk H locs ls hl hP hD hS)
theorem z_ishr {κ : zK} {y : MethodName} {cc : ByteArray} {ret : Option FieldType} {nL : Nat} {rk MC MS : Nat} (hk : Kx κ y cc ret nL rk MC MS) {pc : Nat} {lv : List (Nat × Value)} {st : List Value} {ws : va_W} {cells slots : Nat} {x w v : Int32} (d : decode cc pc = .ok (.ishr, 1)) (hv : x >>> (w &&& 31) = v)
    (kk : Z κ (pc + 1) lv (.int v :: st) ws cells slots) : Z κ pc lv (.int w :: .int x :: st) ws cells slots := by
  obtain ⟨p, l, e, R, s, m, args, below, meth, c, Q, A, G⟩ := κ
  obtain ⟨hx, hb, hr, hlk, hml, hown, hts, hA, hRf, hRl, hRc, hRs, hK, hW, hSt, hnm⟩ := hk
  intro H locs ls hl hP hD hS
  subst hv
  exact lv_ishr hx hb d (kk H locs ls hl hP hD hS)
theorem z_ladd {κ : zK} {y : MethodName} {cc : ByteArray} {ret : Option FieldType} {nL : Nat} {rk MC MS : Nat} (hk : Kx κ y cc ret nL rk MC MS) {pc : Nat} {lv : List (Nat × Value)} {st : List Value} {ws : va_W} {cells slots : Nat} {x w v : Int64} (d : decode cc pc = .ok (.ladd, 1)) (hv : x + w = v)
    (kk : Z κ (pc + 1) lv (.long v :: st) ws cells slots) : Z κ pc lv (.long w :: .long x :: st) ws cells slots := by
  obtain ⟨p, l, e, R, s, m, args, below, meth, c, Q, A, G⟩ := κ
  obtain ⟨hx, hb, hr, hlk, hml, hown, hts, hA, hRf, hRl, hRc, hRs, hK, hW, hSt, hnm⟩ := hk
  intro H locs ls hl hP hD hS
  subst hv
  exact lv_ladd hx hb d (kk H locs ls hl hP hD hS)
theorem z_lsub {κ : zK} {y : MethodName} {cc : ByteArray} {ret : Option FieldType} {nL : Nat} {rk MC MS : Nat} (hk : Kx κ y cc ret nL rk MC MS) {pc : Nat} {lv : List (Nat × Value)} {st : List Value} {ws : va_W} {cells slots : Nat} {x w v : Int64} (d : decode cc pc = .ok (.lsub, 1)) (hv : x - w = v)
    (kk : Z κ (pc + 1) lv (.long v :: st) ws cells slots) : Z κ pc lv (.long w :: .long x :: st) ws cells slots := by
  obtain ⟨p, l, e, R, s, m, args, below, meth, c, Q, A, G⟩ := κ
  obtain ⟨hx, hb, hr, hlk, hml, hown, hts, hA, hRf, hRl, hRc, hRs, hK, hW, hSt, hnm⟩ := hk
  intro H locs ls hl hP hD hS
  subst hv
  exact lv_lsub hx hb d (kk H locs ls hl hP hD hS)
theorem z_land {κ : zK} {y : MethodName} {cc : ByteArray} {ret : Option FieldType} {nL : Nat} {rk MC MS : Nat} (hk : Kx κ y cc ret nL rk MC MS) {pc : Nat} {lv : List (Nat × Value)} {st : List Value} {ws : va_W} {cells slots : Nat} {x w v : Int64} (d : decode cc pc = .ok (.land, 1)) (hv : x &&& w = v)
    (kk : Z κ (pc + 1) lv (.long v :: st) ws cells slots) : Z κ pc lv (.long w :: .long x :: st) ws cells slots := by
  obtain ⟨p, l, e, R, s, m, args, below, meth, c, Q, A, G⟩ := κ
  obtain ⟨hx, hb, hr, hlk, hml, hown, hts, hA, hRf, hRl, hRc, hRs, hK, hW, hSt, hnm⟩ := hk
  intro H locs ls hl hP hD hS
  subst hv
  exact lv_land hx hb d (kk H locs ls hl hP hD hS)
theorem z_lor {κ : zK} {y : MethodName} {cc : ByteArray} {ret : Option FieldType} {nL : Nat} {rk MC MS : Nat} (hk : Kx κ y cc ret nL rk MC MS) {pc : Nat} {lv : List (Nat × Value)} {st : List Value} {ws : va_W} {cells slots : Nat} {x w v : Int64} (d : decode cc pc = .ok (.lor, 1)) (hv : x ||| w = v)
    (kk : Z κ (pc + 1) lv (.long v :: st) ws cells slots) : Z κ pc lv (.long w :: .long x :: st) ws cells slots := by
  obtain ⟨p, l, e, R, s, m, args, below, meth, c, Q, A, G⟩ := κ
  obtain ⟨hx, hb, hr, hlk, hml, hown, hts, hA, hRf, hRl, hRc, hRs, hK, hW, hSt, hnm⟩ := hk
  intro H locs ls hl hP hD hS
  subst hv
  exact lv_lor hx hb d (kk H locs ls hl hP hD hS)
theorem z_lxor {κ : zK} {y : MethodName} {cc : ByteArray} {ret : Option FieldType} {nL : Nat} {rk MC MS : Nat} (hk : Kx κ y cc ret nL rk MC MS) {pc : Nat} {lv : List (Nat × Value)} {st : List Value} {ws : va_W} {cells slots : Nat} {x w v : Int64} (d : decode cc pc = .ok (.lxor, 1)) (hv : x ^^^ w = v)
    (kk : Z κ (pc + 1) lv (.long v :: st) ws cells slots) : Z κ pc lv (.long w :: .long x :: st) ws cells slots := by
  obtain ⟨p, l, e, R, s, m, args, below, meth, c, Q, A, G⟩ := κ
  obtain ⟨hx, hb, hr, hlk, hml, hown, hts, hA, hRf, hRl, hRc, hRs, hK, hW, hSt, hnm⟩ := hk
  intro H locs ls hl hP hD hS
  subst hv
  exact lv_lxor hx hb d (kk H locs ls hl hP hD hS)
theorem z_lshl {κ : zK} {y : MethodName} {cc : ByteArray} {ret : Option FieldType} {nL : Nat} {rk MC MS : Nat} (hk : Kx κ y cc ret nL rk MC MS) {pc : Nat} {lv : List (Nat × Value)} {st : List Value} {ws : va_W} {cells slots : Nat} {x v : Int64} {w : Int32} (d : decode cc pc = .ok (.lshl, 1)) (hv : x <<< (w.toInt64 &&& 63) = v)
    (kk : Z κ (pc + 1) lv (.long v :: st) ws cells slots) : Z κ pc lv (.int w :: .long x :: st) ws cells slots := by
  obtain ⟨p, l, e, R, s, m, args, below, meth, c, Q, A, G⟩ := κ
  obtain ⟨hx, hb, hr, hlk, hml, hown, hts, hA, hRf, hRl, hRc, hRs, hK, hW, hSt, hnm⟩ := hk
  intro H locs ls hl hP hD hS
  exact lv_lshl hx hb d hv (kk H locs ls hl hP hD hS)
theorem z_lushr {κ : zK} {y : MethodName} {cc : ByteArray} {ret : Option FieldType} {nL : Nat} {rk MC MS : Nat} (hk : Kx κ y cc ret nL rk MC MS) {pc : Nat} {lv : List (Nat × Value)} {st : List Value} {ws : va_W} {cells slots : Nat} {x v : Int64} {w : Int32} (d : decode cc pc = .ok (.lushr, 1)) (hv : (x.toUInt64 >>> (w.toInt64.toUInt64 &&& Int64.toUInt64 63)).toInt64 = v)
    (kk : Z κ (pc + 1) lv (.long v :: st) ws cells slots) : Z κ pc lv (.int w :: .long x :: st) ws cells slots := by
  obtain ⟨p, l, e, R, s, m, args, below, meth, c, Q, A, G⟩ := κ
  obtain ⟨hx, hb, hr, hlk, hml, hown, hts, hA, hRf, hRl, hRc, hRs, hK, hW, hSt, hnm⟩ := hk
  intro H locs ls hl hP hD hS
  exact lv_lushr hx hb d hv (kk H locs ls hl hP hD hS)
theorem z_i2l {κ : zK} {y : MethodName} {cc : ByteArray} {ret : Option FieldType} {nL : Nat} {rk MC MS : Nat} (hk : Kx κ y cc ret nL rk MC MS) {pc : Nat} {lv : List (Nat × Value)} {st : List Value} {ws : va_W} {cells slots : Nat} {z : Int} (d : decode cc pc = .ok (.i2l, 1)) (hz : -2147483648 ≤ z ∧ z ≤ 2147483647 := by omega)
    (kk : Z κ (pc + 1) lv (.long (jZ z) :: st) ws cells slots) : Z κ pc lv (.int (iZ z) :: st) ws cells slots := by
  obtain ⟨p, l, e, R, s, m, args, below, meth, c, Q, A, G⟩ := κ
  obtain ⟨hx, hb, hr, hlk, hml, hown, hts, hA, hRf, hRl, hRc, hRs, hK, hW, hSt, hnm⟩ := hk
  intro H locs ls hl hP hD hS
  exact lv_i2l hx hb d (jZ_i hz) (kk H locs ls hl hP hD hS)
theorem z_l2i {κ : zK} {y : MethodName} {cc : ByteArray} {ret : Option FieldType} {nL : Nat} {rk MC MS : Nat} (hk : Kx κ y cc ret nL rk MC MS) {pc : Nat} {lv : List (Nat × Value)} {st : List Value} {ws : va_W} {cells slots : Nat} {x : Int64} {v : Int32} (d : decode cc pc = .ok (.l2i, 1)) (hv : x.toInt32 = v)
    (kk : Z κ (pc + 1) lv (.int v :: st) ws cells slots) : Z κ pc lv (.long x :: st) ws cells slots := by
  obtain ⟨p, l, e, R, s, m, args, below, meth, c, Q, A, G⟩ := κ
  obtain ⟨hx, hb, hr, hlk, hml, hown, hts, hA, hRf, hRl, hRc, hRs, hK, hW, hSt, hnm⟩ := hk
  intro H locs ls hl hP hD hS
  exact lv_l2i hx hb d hv (kk H locs ls hl hP hD hS)
theorem z_i2c {κ : zK} {y : MethodName} {cc : ByteArray} {ret : Option FieldType} {nL : Nat} {rk MC MS : Nat} (hk : Kx κ y cc ret nL rk MC MS) {pc : Nat} {lv : List (Nat × Value)} {st : List Value} {ws : va_W} {cells slots : Nat} {a : Nat} (d : decode cc pc = .ok (.i2c, 1)) (ha : a < 65536 := by omega)
    (kk : Z κ (pc + 1) lv (.int (iZ (a : Int)) :: st) ws cells slots) : Z κ pc lv (.int (iZ (a : Int)) :: st) ws cells slots := by
  obtain ⟨p, l, e, R, s, m, args, below, meth, c, Q, A, G⟩ := κ
  obtain ⟨hx, hb, hr, hlk, hml, hown, hts, hA, hRf, hRl, hRc, hRs, hK, hW, hSt, hnm⟩ := hk
  intro H locs ls hl hP hD hS
  exact lv_i2c hx hb d (by rw [iZ_nI, pk_char, pk_tn (by omega), Nat.mod_eq_of_lt ha]) (kk H locs ls hl hP hD hS)
theorem z_lcmp {κ : zK} {y : MethodName} {cc : ByteArray} {ret : Option FieldType} {nL : Nat} {rk MC MS : Nat} (hk : Kx κ y cc ret nL rk MC MS) {pc : Nat} {lv : List (Nat × Value)} {st : List Value} {ws : va_W} {cells slots : Nat} {a b : Int} (d : decode cc pc = .ok (.lcmp, 1)) (ha : -9223372036854775808 ≤ a ∧ a ≤ 9223372036854775807 := by omega) (hb2 : -9223372036854775808 ≤ b ∧ b ≤ 9223372036854775807 := by omega)
    (kk : Z κ (pc + 1) lv (.int (iZ (if a < b then -1 else if a = b then 0 else 1)) :: st) ws cells slots) : Z κ pc lv (.long (jZ b) :: .long (jZ a) :: st) ws cells slots := by
  obtain ⟨p, l, e, R, s, m, args, below, meth, c, Q, A, G⟩ := κ
  obtain ⟨hx, hb, hr, hlk, hml, hown, hts, hA, hRf, hRl, hRc, hRs, hK, hW, hSt, hnm⟩ := hk
  intro H locs ls hl hP hD hS
  refine W.lcmp hx hb d ?_
  have e : lg_cmp (jZ a) (jZ b) = iZ (if a < b then -1 else if a = b then 0 else 1) := zz_lcmp ha hb2
  rw [e]
  exact kk H locs ls hl hP hD hS
theorem z_dup {κ : zK} {y : MethodName} {cc : ByteArray} {ret : Option FieldType} {nL : Nat} {rk MC MS : Nat} (hk : Kx κ y cc ret nL rk MC MS) {pc : Nat} {lv : List (Nat × Value)} {st : List Value} {ws : va_W} {cells slots : Nat} {v : Value} (d : decode cc pc = .ok (.dup, 1)) (hv : v.category = 1 := by rfl)
    (kk : Z κ (pc + 1) lv (v :: v :: st) ws cells slots) : Z κ pc lv (v :: st) ws cells slots := by
  obtain ⟨p, l, e, R, s, m, args, below, meth, c, Q, A, G⟩ := κ
  obtain ⟨hx, hb, hr, hlk, hml, hown, hts, hA, hRf, hRl, hRc, hRs, hK, hW, hSt, hnm⟩ := hk
  intro H locs ls hl hP hD hS
  exact lv_dup hx hb d hv (kk H locs ls hl hP hD hS)
theorem z_pop {κ : zK} {y : MethodName} {cc : ByteArray} {ret : Option FieldType} {nL : Nat} {rk MC MS : Nat} (hk : Kx κ y cc ret nL rk MC MS) {pc : Nat} {lv : List (Nat × Value)} {st : List Value} {ws : va_W} {cells slots : Nat} {v : Value} (d : decode cc pc = .ok (.pop, 1)) (hv : v.category = 1 := by rfl)
    (kk : Z κ (pc + 1) lv (st) ws cells slots) : Z κ pc lv (v :: st) ws cells slots := by
  obtain ⟨p, l, e, R, s, m, args, below, meth, c, Q, A, G⟩ := κ
  obtain ⟨hx, hb, hr, hlk, hml, hown, hts, hA, hRf, hRl, hRc, hRs, hK, hW, hSt, hnm⟩ := hk
  intro H locs ls hl hP hD hS
  exact lv_pop hx hb d hv (kk H locs ls hl hP hD hS)
theorem z_dup_x1 {κ : zK} {y : MethodName} {cc : ByteArray} {ret : Option FieldType} {nL : Nat} {rk MC MS : Nat} (hk : Kx κ y cc ret nL rk MC MS) {pc : Nat} {lv : List (Nat × Value)} {st : List Value} {ws : va_W} {cells slots : Nat} {v w : Value} (d : decode cc pc = .ok (.dup_x1, 1)) (hv : v.category = 1 := by rfl) (hw : w.category = 1 := by rfl)
    (kk : Z κ (pc + 1) lv (v :: w :: v :: st) ws cells slots) : Z κ pc lv (v :: w :: st) ws cells slots := by
  obtain ⟨p, l, e, R, s, m, args, below, meth, c, Q, A, G⟩ := κ
  obtain ⟨hx, hb, hr, hlk, hml, hown, hts, hA, hRf, hRl, hRc, hRs, hK, hW, hSt, hnm⟩ := hk
  intro H locs ls hl hP hD hS
  exact lv_dup_x1 hx hb d hv hw (kk H locs ls hl hP hD hS)
theorem z_dup2 {κ : zK} {y : MethodName} {cc : ByteArray} {ret : Option FieldType} {nL : Nat} {rk MC MS : Nat} (hk : Kx κ y cc ret nL rk MC MS) {pc : Nat} {lv : List (Nat × Value)} {st : List Value} {ws : va_W} {cells slots : Nat} {v w : Value} (d : decode cc pc = .ok (.dup2, 1)) (hv : v.category = 1 := by rfl) (hw : w.category = 1 := by rfl)
    (kk : Z κ (pc + 1) lv (v :: w :: v :: w :: st) ws cells slots) : Z κ pc lv (v :: w :: st) ws cells slots := by
  obtain ⟨p, l, e, R, s, m, args, below, meth, c, Q, A, G⟩ := κ
  obtain ⟨hx, hb, hr, hlk, hml, hown, hts, hA, hRf, hRl, hRc, hRs, hK, hW, hSt, hnm⟩ := hk
  intro H locs ls hl hP hD hS
  exact lv_dup2_11 hx hb d hv hw (kk H locs ls hl hP hD hS)
theorem z_goto {κ : zK} {y : MethodName} {cc : ByteArray} {ret : Option FieldType} {nL : Nat} {rk MC MS : Nat} (hk : Kx κ y cc ret nL rk MC MS) {pc : Nat} {lv : List (Nat × Value)} {st : List Value} {ws : va_W} {cells slots : Nat} {off : Int} (tgt : Nat) (d : decode cc pc = .ok (.goto off, 3)) (ht : (pc : Int) + off = (tgt : Int) := by decide)
    (kk : Z κ tgt lv (st) ws cells slots) : Z κ pc lv (st) ws cells slots := by
  obtain ⟨p, l, e, R, s, m, args, below, meth, c, Q, A, G⟩ := κ
  obtain ⟨hx, hb, hr, hlk, hml, hown, hts, hA, hRf, hRl, hRc, hRs, hK, hW, hSt, hnm⟩ := hk
  intro H locs ls hl hP hD hS
  exact lv_goto hx hb d ht (kk H locs ls hl hP hD hS)
theorem z_icmp_eq {κ : zK} {y : MethodName} {cc : ByteArray} {ret : Option FieldType} {nL : Nat} {rk MC MS : Nat} (hk : Kx κ y cc ret nL rk MC MS) {pc : Nat} {lv : List (Nat × Value)} {st : List Value} {ws : va_W} {cells slots : Nat} {a b off : Int} (tgt : Nat) (d : decode cc pc = .ok (.if_icmp .eq off, 3)) (kt : (a = b) → Z κ tgt lv st ws cells slots) (kf : (¬ a = b) → Z κ (pc + 3) lv st ws cells slots) (ha : -2147483648 ≤ a ∧ a ≤ 2147483647 := by omega) (hb2 : -2147483648 ≤ b ∧ b ≤ 2147483647 := by omega) (ht : (pc : Int) + off = (tgt : Int) := by decide) : Z κ pc lv (.int (iZ b) :: .int (iZ a) :: st) ws cells slots := by
  obtain ⟨p, l, e, R, s, m, args, below, meth, c, Q, A, G⟩ := κ
  obtain ⟨hx, hb, hr, hlk, hml, hown, hts, hA, hRf, hRl, hRc, hRs, hK, hW, hSt, hnm⟩ := hk
  intro H locs ls hl hP hD hS
  have cv := iZ_eq ha hb2
  exact lv_icmp_eq hx hb d ht (fun h => kt (cv.mp h) H locs ls hl hP hD hS) (fun h => kf (fun q => h (cv.mpr q)) H locs ls hl hP hD hS)
theorem z_if_eq {κ : zK} {y : MethodName} {cc : ByteArray} {ret : Option FieldType} {nL : Nat} {rk MC MS : Nat} (hk : Kx κ y cc ret nL rk MC MS) {pc : Nat} {lv : List (Nat × Value)} {st : List Value} {ws : va_W} {cells slots : Nat} {a off : Int} (tgt : Nat) (d : decode cc pc = .ok (.ifCond .eq off, 3)) (kt : (a = 0) → Z κ tgt lv st ws cells slots) (kf : (¬ a = 0) → Z κ (pc + 3) lv st ws cells slots) (ha : -2147483648 ≤ a ∧ a ≤ 2147483647 := by omega) (ht : (pc : Int) + off = (tgt : Int) := by decide) : Z κ pc lv (.int (iZ a) :: st) ws cells slots := by
  obtain ⟨p, l, e, R, s, m, args, below, meth, c, Q, A, G⟩ := κ
  obtain ⟨hx, hb, hr, hlk, hml, hown, hts, hA, hRf, hRl, hRc, hRs, hK, hW, hSt, hnm⟩ := hk
  intro H locs ls hl hP hD hS
  have cv := iZ_eq ha zz_r0
  exact lv_if_eq hx hb d ht (fun h => kt (cv.mp h) H locs ls hl hP hD hS) (fun h => kf (fun q => h (cv.mpr q)) H locs ls hl hP hD hS)
theorem z_icmp_ne {κ : zK} {y : MethodName} {cc : ByteArray} {ret : Option FieldType} {nL : Nat} {rk MC MS : Nat} (hk : Kx κ y cc ret nL rk MC MS) {pc : Nat} {lv : List (Nat × Value)} {st : List Value} {ws : va_W} {cells slots : Nat} {a b off : Int} (tgt : Nat) (d : decode cc pc = .ok (.if_icmp .ne off, 3)) (kt : (¬ a = b) → Z κ tgt lv st ws cells slots) (kf : (a = b) → Z κ (pc + 3) lv st ws cells slots) (ha : -2147483648 ≤ a ∧ a ≤ 2147483647 := by omega) (hb2 : -2147483648 ≤ b ∧ b ≤ 2147483647 := by omega) (ht : (pc : Int) + off = (tgt : Int) := by decide) : Z κ pc lv (.int (iZ b) :: .int (iZ a) :: st) ws cells slots := by
  obtain ⟨p, l, e, R, s, m, args, below, meth, c, Q, A, G⟩ := κ
  obtain ⟨hx, hb, hr, hlk, hml, hown, hts, hA, hRf, hRl, hRc, hRs, hK, hW, hSt, hnm⟩ := hk
  intro H locs ls hl hP hD hS
  have cv := iZ_eq ha hb2
  exact lv_icmp_ne hx hb d ht (fun h => kt (fun q => h (cv.mpr q)) H locs ls hl hP hD hS) (fun h => kf (cv.mp h) H locs ls hl hP hD hS)
theorem z_if_ne {κ : zK} {y : MethodName} {cc : ByteArray} {ret : Option FieldType} {nL : Nat} {rk MC MS : Nat} (hk : Kx κ y cc ret nL rk MC MS) {pc : Nat} {lv : List (Nat × Value)} {st : List Value} {ws : va_W} {cells slots : Nat} {a off : Int} (tgt : Nat) (d : decode cc pc = .ok (.ifCond .ne off, 3)) (kt : (¬ a = 0) → Z κ tgt lv st ws cells slots) (kf : (a = 0) → Z κ (pc + 3) lv st ws cells slots) (ha : -2147483648 ≤ a ∧ a ≤ 2147483647 := by omega) (ht : (pc : Int) + off = (tgt : Int) := by decide) : Z κ pc lv (.int (iZ a) :: st) ws cells slots := by
  obtain ⟨p, l, e, R, s, m, args, below, meth, c, Q, A, G⟩ := κ
  obtain ⟨hx, hb, hr, hlk, hml, hown, hts, hA, hRf, hRl, hRc, hRs, hK, hW, hSt, hnm⟩ := hk
  intro H locs ls hl hP hD hS
  have cv := iZ_eq ha zz_r0
  exact lv_if_ne hx hb d ht (fun h => kt (fun q => h (cv.mpr q)) H locs ls hl hP hD hS) (fun h => kf (cv.mp h) H locs ls hl hP hD hS)
theorem z_icmp_lt {κ : zK} {y : MethodName} {cc : ByteArray} {ret : Option FieldType} {nL : Nat} {rk MC MS : Nat} (hk : Kx κ y cc ret nL rk MC MS) {pc : Nat} {lv : List (Nat × Value)} {st : List Value} {ws : va_W} {cells slots : Nat} {a b off : Int} (tgt : Nat) (d : decode cc pc = .ok (.if_icmp .lt off, 3)) (kt : (a < b) → Z κ tgt lv st ws cells slots) (kf : (¬ a < b) → Z κ (pc + 3) lv st ws cells slots) (ha : -2147483648 ≤ a ∧ a ≤ 2147483647 := by omega) (hb2 : -2147483648 ≤ b ∧ b ≤ 2147483647 := by omega) (ht : (pc : Int) + off = (tgt : Int) := by decide) : Z κ pc lv (.int (iZ b) :: .int (iZ a) :: st) ws cells slots := by
  obtain ⟨p, l, e, R, s, m, args, below, meth, c, Q, A, G⟩ := κ
  obtain ⟨hx, hb, hr, hlk, hml, hown, hts, hA, hRf, hRl, hRc, hRs, hK, hW, hSt, hnm⟩ := hk
  intro H locs ls hl hP hD hS
  have cv := iZ_lt ha hb2
  exact lv_icmp_lt hx hb d ht (fun h => kt (cv.mp h) H locs ls hl hP hD hS) (fun h => kf (fun q => h (cv.mpr q)) H locs ls hl hP hD hS)
theorem z_if_lt {κ : zK} {y : MethodName} {cc : ByteArray} {ret : Option FieldType} {nL : Nat} {rk MC MS : Nat} (hk : Kx κ y cc ret nL rk MC MS) {pc : Nat} {lv : List (Nat × Value)} {st : List Value} {ws : va_W} {cells slots : Nat} {a off : Int} (tgt : Nat) (d : decode cc pc = .ok (.ifCond .lt off, 3)) (kt : (a < 0) → Z κ tgt lv st ws cells slots) (kf : (¬ a < 0) → Z κ (pc + 3) lv st ws cells slots) (ha : -2147483648 ≤ a ∧ a ≤ 2147483647 := by omega) (ht : (pc : Int) + off = (tgt : Int) := by decide) : Z κ pc lv (.int (iZ a) :: st) ws cells slots := by
  obtain ⟨p, l, e, R, s, m, args, below, meth, c, Q, A, G⟩ := κ
  obtain ⟨hx, hb, hr, hlk, hml, hown, hts, hA, hRf, hRl, hRc, hRs, hK, hW, hSt, hnm⟩ := hk
  intro H locs ls hl hP hD hS
  have cv := iZ_lt ha zz_r0
  exact lv_if_lt hx hb d ht (fun h => kt (cv.mp h) H locs ls hl hP hD hS) (fun h => kf (fun q => h (cv.mpr q)) H locs ls hl hP hD hS)
theorem z_icmp_ge {κ : zK} {y : MethodName} {cc : ByteArray} {ret : Option FieldType} {nL : Nat} {rk MC MS : Nat} (hk : Kx κ y cc ret nL rk MC MS) {pc : Nat} {lv : List (Nat × Value)} {st : List Value} {ws : va_W} {cells slots : Nat} {a b off : Int} (tgt : Nat) (d : decode cc pc = .ok (.if_icmp .ge off, 3)) (kt : (b ≤ a) → Z κ tgt lv st ws cells slots) (kf : (¬ b ≤ a) → Z κ (pc + 3) lv st ws cells slots) (ha : -2147483648 ≤ a ∧ a ≤ 2147483647 := by omega) (hb2 : -2147483648 ≤ b ∧ b ≤ 2147483647 := by omega) (ht : (pc : Int) + off = (tgt : Int) := by decide) : Z κ pc lv (.int (iZ b) :: .int (iZ a) :: st) ws cells slots := by
  obtain ⟨p, l, e, R, s, m, args, below, meth, c, Q, A, G⟩ := κ
  obtain ⟨hx, hb, hr, hlk, hml, hown, hts, hA, hRf, hRl, hRc, hRs, hK, hW, hSt, hnm⟩ := hk
  intro H locs ls hl hP hD hS
  have cv := iZ_le hb2 ha
  exact lv_icmp_ge hx hb d ht (fun h => kt (cv.mp h) H locs ls hl hP hD hS) (fun h => kf (fun q => h (cv.mpr q)) H locs ls hl hP hD hS)
theorem z_if_ge {κ : zK} {y : MethodName} {cc : ByteArray} {ret : Option FieldType} {nL : Nat} {rk MC MS : Nat} (hk : Kx κ y cc ret nL rk MC MS) {pc : Nat} {lv : List (Nat × Value)} {st : List Value} {ws : va_W} {cells slots : Nat} {a off : Int} (tgt : Nat) (d : decode cc pc = .ok (.ifCond .ge off, 3)) (kt : (0 ≤ a) → Z κ tgt lv st ws cells slots) (kf : (¬ 0 ≤ a) → Z κ (pc + 3) lv st ws cells slots) (ha : -2147483648 ≤ a ∧ a ≤ 2147483647 := by omega) (ht : (pc : Int) + off = (tgt : Int) := by decide) : Z κ pc lv (.int (iZ a) :: st) ws cells slots := by
  obtain ⟨p, l, e, R, s, m, args, below, meth, c, Q, A, G⟩ := κ
  obtain ⟨hx, hb, hr, hlk, hml, hown, hts, hA, hRf, hRl, hRc, hRs, hK, hW, hSt, hnm⟩ := hk
  intro H locs ls hl hP hD hS
  have cv := iZ_le zz_r0 ha
  exact lv_if_ge hx hb d ht (fun h => kt (cv.mp h) H locs ls hl hP hD hS) (fun h => kf (fun q => h (cv.mpr q)) H locs ls hl hP hD hS)
theorem z_icmp_gt {κ : zK} {y : MethodName} {cc : ByteArray} {ret : Option FieldType} {nL : Nat} {rk MC MS : Nat} (hk : Kx κ y cc ret nL rk MC MS) {pc : Nat} {lv : List (Nat × Value)} {st : List Value} {ws : va_W} {cells slots : Nat} {a b off : Int} (tgt : Nat) (d : decode cc pc = .ok (.if_icmp .gt off, 3)) (kt : (b < a) → Z κ tgt lv st ws cells slots) (kf : (¬ b < a) → Z κ (pc + 3) lv st ws cells slots) (ha : -2147483648 ≤ a ∧ a ≤ 2147483647 := by omega) (hb2 : -2147483648 ≤ b ∧ b ≤ 2147483647 := by omega) (ht : (pc : Int) + off = (tgt : Int) := by decide) : Z κ pc lv (.int (iZ b) :: .int (iZ a) :: st) ws cells slots := by
  obtain ⟨p, l, e, R, s, m, args, below, meth, c, Q, A, G⟩ := κ
  obtain ⟨hx, hb, hr, hlk, hml, hown, hts, hA, hRf, hRl, hRc, hRs, hK, hW, hSt, hnm⟩ := hk
  intro H locs ls hl hP hD hS
  have cv := iZ_lt hb2 ha
  exact lv_icmp_gt hx hb d ht (fun h => kt (cv.mp h) H locs ls hl hP hD hS) (fun h => kf (fun q => h (cv.mpr q)) H locs ls hl hP hD hS)
theorem z_if_gt {κ : zK} {y : MethodName} {cc : ByteArray} {ret : Option FieldType} {nL : Nat} {rk MC MS : Nat} (hk : Kx κ y cc ret nL rk MC MS) {pc : Nat} {lv : List (Nat × Value)} {st : List Value} {ws : va_W} {cells slots : Nat} {a off : Int} (tgt : Nat) (d : decode cc pc = .ok (.ifCond .gt off, 3)) (kt : (0 < a) → Z κ tgt lv st ws cells slots) (kf : (¬ 0 < a) → Z κ (pc + 3) lv st ws cells slots) (ha : -2147483648 ≤ a ∧ a ≤ 2147483647 := by omega) (ht : (pc : Int) + off = (tgt : Int) := by decide) : Z κ pc lv (.int (iZ a) :: st) ws cells slots := by
  obtain ⟨p, l, e, R, s, m, args, below, meth, c, Q, A, G⟩ := κ
  obtain ⟨hx, hb, hr, hlk, hml, hown, hts, hA, hRf, hRl, hRc, hRs, hK, hW, hSt, hnm⟩ := hk
  intro H locs ls hl hP hD hS
  have cv := iZ_lt zz_r0 ha
  exact lv_if_gt hx hb d ht (fun h => kt (cv.mp h) H locs ls hl hP hD hS) (fun h => kf (fun q => h (cv.mpr q)) H locs ls hl hP hD hS)
theorem z_icmp_le {κ : zK} {y : MethodName} {cc : ByteArray} {ret : Option FieldType} {nL : Nat} {rk MC MS : Nat} (hk : Kx κ y cc ret nL rk MC MS) {pc : Nat} {lv : List (Nat × Value)} {st : List Value} {ws : va_W} {cells slots : Nat} {a b off : Int} (tgt : Nat) (d : decode cc pc = .ok (.if_icmp .le off, 3)) (kt : (a ≤ b) → Z κ tgt lv st ws cells slots) (kf : (¬ a ≤ b) → Z κ (pc + 3) lv st ws cells slots) (ha : -2147483648 ≤ a ∧ a ≤ 2147483647 := by omega) (hb2 : -2147483648 ≤ b ∧ b ≤ 2147483647 := by omega) (ht : (pc : Int) + off = (tgt : Int) := by decide) : Z κ pc lv (.int (iZ b) :: .int (iZ a) :: st) ws cells slots := by
  obtain ⟨p, l, e, R, s, m, args, below, meth, c, Q, A, G⟩ := κ
  obtain ⟨hx, hb, hr, hlk, hml, hown, hts, hA, hRf, hRl, hRc, hRs, hK, hW, hSt, hnm⟩ := hk
  intro H locs ls hl hP hD hS
  have cv := iZ_le ha hb2
  exact lv_icmp_le hx hb d ht (fun h => kt (cv.mp h) H locs ls hl hP hD hS) (fun h => kf (fun q => h (cv.mpr q)) H locs ls hl hP hD hS)
theorem z_if_le {κ : zK} {y : MethodName} {cc : ByteArray} {ret : Option FieldType} {nL : Nat} {rk MC MS : Nat} (hk : Kx κ y cc ret nL rk MC MS) {pc : Nat} {lv : List (Nat × Value)} {st : List Value} {ws : va_W} {cells slots : Nat} {a off : Int} (tgt : Nat) (d : decode cc pc = .ok (.ifCond .le off, 3)) (kt : (a ≤ 0) → Z κ tgt lv st ws cells slots) (kf : (¬ a ≤ 0) → Z κ (pc + 3) lv st ws cells slots) (ha : -2147483648 ≤ a ∧ a ≤ 2147483647 := by omega) (ht : (pc : Int) + off = (tgt : Int) := by decide) : Z κ pc lv (.int (iZ a) :: st) ws cells slots := by
  obtain ⟨p, l, e, R, s, m, args, below, meth, c, Q, A, G⟩ := κ
  obtain ⟨hx, hb, hr, hlk, hml, hown, hts, hA, hRf, hRl, hRc, hRs, hK, hW, hSt, hnm⟩ := hk
  intro H locs ls hl hP hD hS
  have cv := iZ_le ha zz_r0
  exact lv_if_le hx hb d ht (fun h => kt (cv.mp h) H locs ls hl hP hD hS) (fun h => kf (fun q => h (cv.mpr q)) H locs ls hl hP hD hS)
theorem z_ifeqB {κ : zK} {y : MethodName} {cc : ByteArray} {ret : Option FieldType} {nL : Nat} {rk MC MS : Nat} (hk : Kx κ y cc ret nL rk MC MS) {pc : Nat} {lv : List (Nat × Value)} {st : List Value} {ws : va_W} {cells slots : Nat} {x : Int32} {off : Int} (tgt : Nat) (d : decode cc pc = .ok (.ifCond .eq off, 3)) (kt : x = 0 → Z κ tgt lv st ws cells slots) (kf : ¬ x = 0 → Z κ (pc + 3) lv st ws cells slots) (ht : (pc : Int) + off = (tgt : Int) := by decide)
     : Z κ pc lv (.int x :: st) ws cells slots := by
  obtain ⟨p, l, e, R, s, m, args, below, meth, c, Q, A, G⟩ := κ
  obtain ⟨hx, hb, hr, hlk, hml, hown, hts, hA, hRf, hRl, hRc, hRs, hK, hW, hSt, hnm⟩ := hk
  intro H locs ls hl hP hD hS
  exact lv_if_eq hx hb d ht (fun h => kt h H locs ls hl hP hD hS) (fun h => kf h H locs ls hl hP hD hS)
theorem z_ifnull {κ : zK} {y : MethodName} {cc : ByteArray} {ret : Option FieldType} {nL : Nat} {rk MC MS : Nat} (hk : Kx κ y cc ret nL rk MC MS) {pc : Nat} {lv : List (Nat × Value)} {st : List Value} {ws : va_W} {cells slots : Nat} {x : Nat} {off : Int} (d : decode cc pc = .ok (.ifnull off, 3))
    (kk : Z κ (pc + 3) lv (st) ws cells slots) : Z κ pc lv (.ref x :: st) ws cells slots := by
  obtain ⟨p, l, e, R, s, m, args, below, meth, c, Q, A, G⟩ := κ
  obtain ⟨hx, hb, hr, hlk, hml, hown, hts, hA, hRf, hRl, hRc, hRs, hK, hW, hSt, hnm⟩ := hk
  intro H locs ls hl hP hD hS
  exact lv_ifnull hx hb d (kk H locs ls hl hP hD hS)
theorem z_ifnonnull {κ : zK} {y : MethodName} {cc : ByteArray} {ret : Option FieldType} {nL : Nat} {rk MC MS : Nat} (hk : Kx κ y cc ret nL rk MC MS) {pc : Nat} {lv : List (Nat × Value)} {st : List Value} {ws : va_W} {cells slots : Nat} {x : Nat} {off : Int} (tgt : Nat) (d : decode cc pc = .ok (.ifnonnull off, 3)) (ht : (pc : Int) + off = (tgt : Int) := by decide)
    (kk : Z κ tgt lv (st) ws cells slots) : Z κ pc lv (.ref x :: st) ws cells slots := by
  obtain ⟨p, l, e, R, s, m, args, below, meth, c, Q, A, G⟩ := κ
  obtain ⟨hx, hb, hr, hlk, hml, hown, hts, hA, hRf, hRl, hRc, hRs, hK, hW, hSt, hnm⟩ := hk
  intro H locs ls hl hP hD hS
  exact lv_ifnonnull hx hb d ht (kk H locs ls hl hP hD hS)
theorem z_ifnullN {κ : zK} {y : MethodName} {cc : ByteArray} {ret : Option FieldType} {nL : Nat} {rk MC MS : Nat} (hk : Kx κ y cc ret nL rk MC MS) {pc : Nat} {lv : List (Nat × Value)} {st : List Value} {ws : va_W} {cells slots : Nat} {off : Int} (tgt : Nat) (d : decode cc pc = .ok (.ifnull off, 3)) (ht : (pc : Int) + off = (tgt : Int) := by decide)
    (kk : Z κ tgt lv (st) ws cells slots) : Z κ pc lv (.null :: st) ws cells slots := by
  obtain ⟨p, l, e, R, s, m, args, below, meth, c, Q, A, G⟩ := κ
  obtain ⟨hx, hb, hr, hlk, hml, hown, hts, hA, hRf, hRl, hRc, hRs, hK, hW, hSt, hnm⟩ := hk
  intro H locs ls hl hP hD hS
  exact lv_ifnullN hx hb d ht (kk H locs ls hl hP hD hS)
theorem z_ifnonnullN {κ : zK} {y : MethodName} {cc : ByteArray} {ret : Option FieldType} {nL : Nat} {rk MC MS : Nat} (hk : Kx κ y cc ret nL rk MC MS) {pc : Nat} {lv : List (Nat × Value)} {st : List Value} {ws : va_W} {cells slots : Nat} {off : Int} (d : decode cc pc = .ok (.ifnonnull off, 3))
    (kk : Z κ (pc + 3) lv (st) ws cells slots) : Z κ pc lv (.null :: st) ws cells slots := by
  obtain ⟨p, l, e, R, s, m, args, below, meth, c, Q, A, G⟩ := κ
  obtain ⟨hx, hb, hr, hlk, hml, hown, hts, hA, hRf, hRl, hRc, hRs, hK, hW, hSt, hnm⟩ := hk
  intro H locs ls hl hP hD hS
  exact lv_ifnonnullN hx hb d (kk H locs ls hl hP hD hS)
theorem z_null {κ : zK} {y : MethodName} {cc : ByteArray} {ret : Option FieldType} {nL : Nat} {rk MC MS : Nat} (hk : Kx κ y cc ret nL rk MC MS) {pc : Nat} {lv : List (Nat × Value)} {st : List Value} {ws : va_W} {cells slots : Nat} (d : decode cc pc = .ok (.aconst_null, 1))
    (kk : Z κ (pc + 1) lv (.null :: st) ws cells slots) : Z κ pc lv (st) ws cells slots := by
  obtain ⟨p, l, e, R, s, m, args, below, meth, c, Q, A, G⟩ := κ
  obtain ⟨hx, hb, hr, hlk, hml, hown, hts, hA, hRf, hRl, hRc, hRs, hK, hW, hSt, hnm⟩ := hk
  intro H locs ls hl hP hD hS
  exact lv_null hx hb d (kk H locs ls hl hP hD hS)
theorem z_acmp_eq {κ : zK} {y : MethodName} {cc : ByteArray} {ret : Option FieldType} {nL : Nat} {rk MC MS : Nat} (hk : Kx κ y cc ret nL rk MC MS) {pc : Nat} {lv : List (Nat × Value)} {st : List Value} {ws : va_W} {cells slots : Nat} {rx ry : Option Nat} {off : Int} (tgt : Nat) (d : decode cc pc = .ok (.if_acmp .eq off, 3)) (kt : rx = ry → Z κ tgt lv st ws cells slots) (kf : ¬ rx = ry → Z κ (pc + 3) lv st ws cells slots) (ht : (pc : Int) + off = (tgt : Int) := by decide)
     : Z κ pc lv (va_rf ry :: va_rf rx :: st) ws cells slots := by
  obtain ⟨p, l, e, R, s, m, args, below, meth, c, Q, A, G⟩ := κ
  obtain ⟨hx, hb, hr, hlk, hml, hown, hts, hA, hRf, hRl, hRc, hRs, hK, hW, hSt, hnm⟩ := hk
  intro H locs ls hl hP hD hS
  exact lv_acmp_eq hx hb d ht (fun h => kt h H locs ls hl hP hD hS) (fun h => kf h H locs ls hl hP hD hS)
theorem z_acmp_ne {κ : zK} {y : MethodName} {cc : ByteArray} {ret : Option FieldType} {nL : Nat} {rk MC MS : Nat} (hk : Kx κ y cc ret nL rk MC MS) {pc : Nat} {lv : List (Nat × Value)} {st : List Value} {ws : va_W} {cells slots : Nat} {rx ry : Option Nat} {off : Int} (tgt : Nat) (d : decode cc pc = .ok (.if_acmp .ne off, 3)) (kt : ¬ rx = ry → Z κ tgt lv st ws cells slots) (kf : rx = ry → Z κ (pc + 3) lv st ws cells slots) (ht : (pc : Int) + off = (tgt : Int) := by decide)
     : Z κ pc lv (va_rf ry :: va_rf rx :: st) ws cells slots := by
  obtain ⟨p, l, e, R, s, m, args, below, meth, c, Q, A, G⟩ := κ
  obtain ⟨hx, hb, hr, hlk, hml, hown, hts, hA, hRf, hRl, hRc, hRs, hK, hW, hSt, hnm⟩ := hk
  intro H locs ls hl hP hD hS
  exact lv_acmp_ne hx hb d ht (fun h => kt h H locs ls hl hP hD hS) (fun h => kf h H locs ls hl hP hD hS)
theorem z_swIn {κ : zK} {y : MethodName} {cc : ByteArray} {ret : Option FieldType} {nL : Nat} {rk MC MS : Nat} (hk : Kx κ y cc ret nL rk MC MS) {pc : Nat} {lv : List (Nat × Value)} {st : List Value} {ws : va_W} {cells slots : Nat} {dflt lo hi off : Int} {offs : Array Int} {len : Nat} {a : Int} (tgt : Nat) (d : decode cc pc = .ok (.tableswitch dflt lo hi offs, len)) (h1 : lo ≤ a) (h2 : a ≤ hi) (ho : offs[(a - lo).toNat]? = some off) (kk : Z κ tgt lv st ws cells slots) (ha : -2147483648 ≤ a ∧ a ≤ 2147483647 := by omega) (ht : (pc : Int) + off = (tgt : Int) := by decide)
     : Z κ pc lv (.int (iZ a) :: st) ws cells slots := by
  obtain ⟨p, l, e, R, s, m, args, below, meth, c, Q, A, G⟩ := κ
  obtain ⟨hx, hb, hr, hlk, hml, hown, hts, hA, hRf, hRl, hRc, hRs, hK, hW, hSt, hnm⟩ := hk
  intro H locs ls hl hP hD hS
  have e := iZ_toInt ha.1 ha.2
  exact lv_tableIn hx hb d (by rw [e]; omega) (by rw [e]; omega) (by rw [e]; exact ho) ht (kk H locs ls hl hP hD hS)
theorem z_swOut {κ : zK} {y : MethodName} {cc : ByteArray} {ret : Option FieldType} {nL : Nat} {rk MC MS : Nat} (hk : Kx κ y cc ret nL rk MC MS) {pc : Nat} {lv : List (Nat × Value)} {st : List Value} {ws : va_W} {cells slots : Nat} {dflt lo hi : Int} {offs : Array Int} {len : Nat} {a : Int} (tgt : Nat) (d : decode cc pc = .ok (.tableswitch dflt lo hi offs, len)) (h : a < lo ∨ hi < a) (kk : Z κ tgt lv st ws cells slots) (ha : -2147483648 ≤ a ∧ a ≤ 2147483647 := by omega) (ht : (pc : Int) + dflt = (tgt : Int) := by decide)
     : Z κ pc lv (.int (iZ a) :: st) ws cells slots := by
  obtain ⟨p, l, e, R, s, m, args, below, meth, c, Q, A, G⟩ := κ
  obtain ⟨hx, hb, hr, hlk, hml, hown, hts, hA, hRf, hRl, hRc, hRs, hK, hW, hSt, hnm⟩ := hk
  intro H locs ls hl hP hD hS
  have e := iZ_toInt ha.1 ha.2
  exact lv_tableOut hx hb d (by rw [e]; exact h) ht (kk H locs ls hl hP hD hS)

section ZS
variable {κ : zK} {pc : Nat} {lv : List (Nat × Value)} {st : List Value} {ws : va_W} {cells slots : Nat}
theorem z_top {e : Int} (kk : ∀ v : Int, v = e → Z κ pc lv (.int (iZ v) :: st) ws cells slots) : Z κ pc lv (.int (iZ e) :: st) ws cells slots := kk e rfl
theorem z_topN {e : Int} (k : Nat) (he : e = (k : Int)) (kk : Z κ pc lv (.int (iZ (k : Int)) :: st) ws cells slots) : Z κ pc lv (.int (iZ e) :: st) ws cells slots := he ▸ kk
theorem z_topZ {e : Int} (z : Int) (he : e = z) (kk : Z κ pc lv (.int (iZ z) :: st) ws cells slots) : Z κ pc lv (.int (iZ e) :: st) ws cells slots := he ▸ kk
theorem z_topX {x : Int32} (z : Int) (he : x = iZ z) (kk : Z κ pc lv (.int (iZ z) :: st) ws cells slots) : Z κ pc lv (.int x :: st) ws cells slots := he ▸ kk
theorem z_topL {e : Int64} (z : Int64) (he : e = z) (kk : Z κ pc lv (.long z :: st) ws cells slots) : Z κ pc lv (.long e :: st) ws cells slots := he ▸ kk
theorem z_stk {st' : List Value} (he : st = st') (kk : Z κ pc lv st' ws cells slots) : Z κ pc lv st ws cells slots := he ▸ kk
theorem z_to {pc' : Nat} {lv' : List (Nat × Value)} {st' : List Value} {ws' : va_W} (h1 : pc = pc') (h2 : lv = lv') (h3 : st = st') (h4 : ws = ws') (kk : Z κ pc' lv' st' ws' cells slots) : Z κ pc lv st ws cells slots := by
  subst h1; subst h2; subst h3; subst h4; exact kk
theorem z_ws {ws' : va_W} (h4 : ws = ws') (kk : Z κ pc lv st ws' cells slots) : Z κ pc lv st ws cells slots := h4 ▸ kk
theorem z_wide {k n : Nat} (kk : Z κ pc lv st ws k n) (h1 : cells ≤ k := by omega) (h2 : slots ≤ n := by omega) : Z κ pc lv st ws cells slots := by
  obtain ⟨p, l, e, R, s, m, args, below, meth, c, Q, A, G⟩ := κ
  intro H locs ls hl hP hD hS
  exact W.widen h1 h2 (kk H locs ls hl hP hD hS)
theorem z_sub {ws' : va_W} (h : zSub ws ws') (kk : Z κ pc lv st ws' cells slots) : Z κ pc lv st ws cells slots := by
  obtain ⟨p, l, e, R, s, m, args, below, meth, c, Q, A, G⟩ := κ
  intro H locs ls hl hP hD hS
  exact kk H locs ls hl (h.P hP) (h.D hD) hS
theorem z_lvs {lv' : List (Nat × Value)} (ks : List Nat) (h : lv_pick lv ks = lv' := by rfl) (kk : Z κ pc lv' st ws cells slots) : Z κ pc lv st ws cells slots := by
  obtain ⟨p, l, e, R, s, m, args, below, meth, c, Q, A, G⟩ := κ
  intro H locs ls hl hP hD hS
  exact kk H locs ls (lv_sub hl ks h) hP hD hS
/-- two cells of the world are apart -/
theorem z_ne {i j : Nat} {p q : Nat × va_E} (hi : ws[i]? = some p) (hj : ws[j]? = some q) (hn : i ≠ j) (kk : p.1 ≠ q.1 → Z κ pc lv st ws cells slots) : Z κ pc lv st ws cells slots := by
  obtain ⟨p, l, e, R, s, m, args, below, meth, c, Q, A, G⟩ := κ
  intro H locs ls hl hP hD hS
  exact kk (fun e => hn (hD.1 i j _ _ hi hj e)) H locs ls hl hP hD hS
/-- a world's array says nothing beyond its end -/
theorem z_arr {ws' : va_W} {q0 a cA n : Nat} {f g : Nat → Int32} (ha : ws[q0]? = some (a, .inl (cA, n, .inl f))) (hf : ∀ j, j < n → f j = g j) (hw : ws.set q0 (a, .inl (cA, n, .inl g)) = ws') (kk : Z κ pc lv st ws' cells slots) : Z κ pc lv st ws cells slots := by
  obtain ⟨p, l, e, R, s, m, args, below, meth, c, Q, A, G⟩ := κ
  intro H locs ls hl hP hD hS
  subst hw
  have e1 : va_at G.1 zCl (a, .inl (cA, n, .inl g)) H := by
    show H[a]? = some (vp_cell cA (n, .inl g))
    have h0 : H[a]? = some (vp_cell cA (n, .inl f)) := hP q0 _ ha
    rw [h0, vp_cell_i, vp_cell_i, arrV_congr (fun j hj => by rw [hf j hj])]
  exact kk H locs ls hl (hP.set hD ha e1 (fun _ _ => rfl)) (hD.set ha) hS
theorem z_arrI {ws' : va_W} (q0 : Nat) {a n : Nat} {t t' : Nat → Nat} (ha : ws[q0]? = some (a, zI (kG κ) n t)) (hf : ∀ j, j < n → t j = t' j) (hw : ws.set q0 (a, zI (kG κ) n t') = ws') (kk : Z κ pc lv st ws' cells slots) : Z κ pc lv st ws cells slots :=
  z_arr (f := iA t) (g := iA t') ha (fun j hj => by show iZ _ = iZ _; rw [hf j hj]) hw kk
end ZS
theorem z_iald {κ : zK} {y : MethodName} {cc : ByteArray} {ret : Option FieldType} {nL : Nat} {rk MC MS : Nat} (hk : Kx κ y cc ret nL rk MC MS) {pc : Nat} {lv : List (Nat × Value)} {st : List Value} {ws : va_W} {cells slots : Nat} {a n : Nat} {t : Nat → Nat} {i : Nat} (q0 : Nat) (d : decode cc pc = .ok (.iaload, 1)) (ha : ws[q0]? = some (a, zI (kG κ) n t)) (hin : i < n := by omega) (hn : n < 2147483648 := by omega)
    (kk : Z κ (pc + 1) lv (.int (iZ (t i : Int)) :: st) ws cells slots) : Z κ pc lv (.int (iZ (i : Int)) :: .ref a :: st) ws cells slots := by
  obtain ⟨p, l, e, R, s, m, args, below, meth, c, Q, A, G⟩ := κ
  obtain ⟨hx, hb, hr, hlk, hml, hown, hts, hA, hRf, hRl, hRc, hRs, hK, hW, hSt, hnm⟩ := hk
  intro H locs ls hl hP hD hS
  refine va_iald hx hb hK hP q0 0 ha rfl (iZ_in hin hn) d ?_
  rw [iZ_cl (by omega)]
  exact kk H locs ls hl hP hD hS
theorem z_cald {κ : zK} {y : MethodName} {cc : ByteArray} {ret : Option FieldType} {nL : Nat} {rk MC MS : Nat} (hk : Kx κ y cc ret nL rk MC MS) {pc : Nat} {lv : List (Nat × Value)} {st : List Value} {ws : va_W} {cells slots : Nat} {a n : Nat} {t : Nat → Nat} {i : Nat} (q0 : Nat) (d : decode cc pc = .ok (.caload, 1)) (ha : ws[q0]? = some (a, zC (kG κ) n t)) (hin : i < n := by omega) (hn : n < 2147483648 := by omega)
    (kk : Z κ (pc + 1) lv (.int (iZ (t i : Int)) :: st) ws cells slots) : Z κ pc lv (.int (iZ (i : Int)) :: .ref a :: st) ws cells slots := by
  obtain ⟨p, l, e, R, s, m, args, below, meth, c, Q, A, G⟩ := κ
  obtain ⟨hx, hb, hr, hlk, hml, hown, hts, hA, hRf, hRl, hRc, hRs, hK, hW, hSt, hnm⟩ := hk
  intro H locs ls hl hP hD hS
  refine va_cald hx hb hK hP q0 2 ha rfl (iZ_in hin hn) d ?_
  rw [iZ_cl (by omega)]
  exact kk H locs ls hl hP hD hS
theorem z_zald {κ : zK} {y : MethodName} {cc : ByteArray} {ret : Option FieldType} {nL : Nat} {rk MC MS : Nat} (hk : Kx κ y cc ret nL rk MC MS) {pc : Nat} {lv : List (Nat × Value)} {st : List Value} {ws : va_W} {cells slots : Nat} {a n : Nat} {t : Nat → Nat} {i : Nat} (q0 : Nat) (d : decode cc pc = .ok (.baload, 1)) (ha : ws[q0]? = some (a, zB (kG κ) n t)) (hin : i < n := by omega) (hn : n < 2147483648 := by omega)
    (kk : Z κ (pc + 1) lv (.int (iZ (t i : Int)) :: st) ws cells slots) : Z κ pc lv (.int (iZ (i : Int)) :: .ref a :: st) ws cells slots := by
  obtain ⟨p, l, e, R, s, m, args, below, meth, c, Q, A, G⟩ := κ
  obtain ⟨hx, hb, hr, hlk, hml, hown, hts, hA, hRf, hRl, hRc, hRs, hK, hW, hSt, hnm⟩ := hk
  intro H locs ls hl hP hD hS
  refine va_zald hx hb hK hP q0 3 ha rfl (iZ_in hin hn) d ?_
  rw [iZ_cl (by omega)]
  exact kk H locs ls hl hP hD hS
theorem z_iast {κ : zK} {y : MethodName} {cc : ByteArray} {ret : Option FieldType} {nL : Nat} {rk MC MS : Nat} (hk : Kx κ y cc ret nL rk MC MS) {pc : Nat} {lv : List (Nat × Value)} {st : List Value} {ws : va_W} {cells slots : Nat} {a n : Nat} {t : Nat → Nat} {i v : Nat} (q0 : Nat) (ws' : va_W) (d : decode cc pc = .ok (.iastore, 1)) (ha : ws[q0]? = some (a, zI (kG κ) n t)) (kk : Z κ (pc + 1) lv st ws' cells slots) (hin : i < n := by omega) (hn : n < 2147483648 := by omega) (hw : ws.set q0 (a, zI (kG κ) n (va_up t i v)) = ws' := by rfl)
     : Z κ pc lv (.int (iZ (v : Int)) :: .int (iZ (i : Int)) :: .ref a :: st) ws cells slots := by
  obtain ⟨p, l, e, R, s, m, args, below, meth, c, Q, A, G⟩ := κ
  obtain ⟨hx, hb, hr, hlk, hml, hown, hts, hA, hRf, hRl, hRc, hRs, hK, hW, hSt, hnm⟩ := hk
  intro H locs ls hl hP hD hS
  subst hw
  refine va_iast hx hb hK hP hD hS q0 0 ha rfl (iZ_in hin hn) d (fun H1 locs1 h1 h2 h3 => ?_)
  rw [iA_up t (by omega)] at h1 h2
  exact kk H1 locs1 ls hl h1 h2 h3
theorem z_cast_ {κ : zK} {y : MethodName} {cc : ByteArray} {ret : Option FieldType} {nL : Nat} {rk MC MS : Nat} (hk : Kx κ y cc ret nL rk MC MS) {pc : Nat} {lv : List (Nat × Value)} {st : List Value} {ws : va_W} {cells slots : Nat} {a n : Nat} {t : Nat → Nat} {i v : Nat} (q0 : Nat) (ws' : va_W) (d : decode cc pc = .ok (.castore, 1)) (ha : ws[q0]? = some (a, zC (kG κ) n t)) (kk : Z κ (pc + 1) lv st ws' cells slots) (hin : i < n := by omega) (hn : n < 2147483648 := by omega) (hv : v < 65536 := by omega) (hw : ws.set q0 (a, zC (kG κ) n (va_up t i v)) = ws' := by rfl)
     : Z κ pc lv (.int (iZ (v : Int)) :: .int (iZ (i : Int)) :: .ref a :: st) ws cells slots := by
  obtain ⟨p, l, e, R, s, m, args, below, meth, c, Q, A, G⟩ := κ
  obtain ⟨hx, hb, hr, hlk, hml, hown, hts, hA, hRf, hRl, hRc, hRs, hK, hW, hSt, hnm⟩ := hk
  intro H locs ls hl hP hD hS
  subst hw
  refine va_cast hx hb hK hP hD hS q0 2 ha rfl (iZ_in hin hn) d (fun H1 locs1 h1 h2 h3 => ?_)
  rw [show vp_nar .char (iZ (v : Int)) = iZ (v : Int) from by rw [iZ_nI]; exact zz_narC hv] at h1 h2
  rw [iA_up t (by omega)] at h1 h2
  exact kk H1 locs1 ls hl h1 h2 h3
theorem z_zast {κ : zK} {y : MethodName} {cc : ByteArray} {ret : Option FieldType} {nL : Nat} {rk MC MS : Nat} (hk : Kx κ y cc ret nL rk MC MS) {pc : Nat} {lv : List (Nat × Value)} {st : List Value} {ws : va_W} {cells slots : Nat} {a n : Nat} {t : Nat → Nat} {i v : Nat} (q0 : Nat) (ws' : va_W) (d : decode cc pc = .ok (.bastore, 1)) (ha : ws[q0]? = some (a, zB (kG κ) n t)) (kk : Z κ (pc + 1) lv st ws' cells slots) (hin : i < n := by omega) (hn : n < 2147483648 := by omega) (hv : v < 2 := by omega) (hw : ws.set q0 (a, zB (kG κ) n (va_up t i v)) = ws' := by rfl)
     : Z κ pc lv (.int (iZ (v : Int)) :: .int (iZ (i : Int)) :: .ref a :: st) ws cells slots := by
  obtain ⟨p, l, e, R, s, m, args, below, meth, c, Q, A, G⟩ := κ
  obtain ⟨hx, hb, hr, hlk, hml, hown, hts, hA, hRf, hRl, hRc, hRs, hK, hW, hSt, hnm⟩ := hk
  intro H locs ls hl hP hD hS
  subst hw
  refine va_zast hx hb hK hP hD hS q0 3 ha rfl (iZ_in hin hn) d (fun H1 locs1 h1 h2 h3 => ?_)
  rw [show vp_nar .boolean (iZ (v : Int)) = iZ (v : Int) from zz_narZ hv] at h1 h2
  rw [iA_up t (by omega)] at h1 h2
  exact kk H1 locs1 ls hl h1 h2 h3
theorem z_lald {κ : zK} {y : MethodName} {cc : ByteArray} {ret : Option FieldType} {nL : Nat} {rk MC MS : Nat} (hk : Kx κ y cc ret nL rk MC MS) {pc : Nat} {lv : List (Nat × Value)} {st : List Value} {ws : va_W} {cells slots : Nat} {a n : Nat} {f : Nat → Int64} {i : Nat} (q0 : Nat) (d : decode cc pc = .ok (.laload, 1)) (ha : ws[q0]? = some (a, zJ (kG κ) n f)) (hin : i < n := by omega) (hn : n < 2147483648 := by omega)
    (kk : Z κ (pc + 1) lv (.long (f i) :: st) ws cells slots) : Z κ pc lv (.int (iZ (i : Int)) :: .ref a :: st) ws cells slots := by
  obtain ⟨p, l, e, R, s, m, args, below, meth, c, Q, A, G⟩ := κ
  obtain ⟨hx, hb, hr, hlk, hml, hown, hts, hA, hRf, hRl, hRc, hRs, hK, hW, hSt, hnm⟩ := hk
  intro H locs ls hl hP hD hS
  refine va_lald hx hb hK hP q0 1 ha rfl (iZ_in hin hn) d ?_
  rw [iZ_cl (by omega)]
  exact kk H locs ls hl hP hD hS
theorem z_last {κ : zK} {y : MethodName} {cc : ByteArray} {ret : Option FieldType} {nL : Nat} {rk MC MS : Nat} (hk : Kx κ y cc ret nL rk MC MS) {pc : Nat} {lv : List (Nat × Value)} {st : List Value} {ws : va_W} {cells slots : Nat} {a n : Nat} {f : Nat → Int64} {i : Nat} {v : Int64} (q0 : Nat) (ws' : va_W) (d : decode cc pc = .ok (.lastore, 1)) (ha : ws[q0]? = some (a, zJ (kG κ) n f)) (kk : Z κ (pc + 1) lv st ws' cells slots) (hin : i < n := by omega) (hn : n < 2147483648 := by omega) (hw : ws.set q0 (a, zJ (kG κ) n (va_up f i v)) = ws' := by rfl)
     : Z κ pc lv (.long v :: .int (iZ (i : Int)) :: .ref a :: st) ws cells slots := by
  obtain ⟨p, l, e, R, s, m, args, below, meth, c, Q, A, G⟩ := κ
  obtain ⟨hx, hb, hr, hlk, hml, hown, hts, hA, hRf, hRl, hRc, hRs, hK, hW, hSt, hnm⟩ := hk
  intro H locs ls hl hP hD hS
  subst hw
  refine va_last hx hb hK hP hD hS q0 1 ha rfl (iZ_in hin hn) d (fun H1 locs1 h1 h2 h3 => ?_)
  rw [iZ_cl (by omega)] at h1 h2
  exact kk H1 locs1 ls hl h1 h2 h3
theorem z_aald {κ : zK} {y : MethodName} {cc : ByteArray} {ret : Option FieldType} {nL : Nat} {rk MC MS : Nat} (hk : Kx κ y cc ret nL rk MC MS) {pc : Nat} {lv : List (Nat × Value)} {st : List Value} {ws : va_W} {cells slots : Nat} {a n : Nat} {f : Nat → Option Nat} {i : Nat} (q0 : Nat) (d : decode cc pc = .ok (.aaload, 1)) (ha : ws[q0]? = some (a, zL (kG κ) n f)) (hin : i < n := by omega) (hn : n < 2147483648 := by omega)
    (kk : Z κ (pc + 1) lv (va_rf (f i) :: st) ws cells slots) : Z κ pc lv (.int (iZ (i : Int)) :: .ref a :: st) ws cells slots := by
  obtain ⟨p, l, e, R, s, m, args, below, meth, c, Q, A, G⟩ := κ
  obtain ⟨hx, hb, hr, hlk, hml, hown, hts, hA, hRf, hRl, hRc, hRs, hK, hW, hSt, hnm⟩ := hk
  intro H locs ls hl hP hD hS
  refine va_aldq hx hb hK hP q0 4 ha rfl (iZ_in hin hn) d ?_
  rw [iZ_cl (by omega)]
  exact kk H locs ls hl hP hD hS
theorem z_aastN {κ : zK} {y : MethodName} {cc : ByteArray} {ret : Option FieldType} {nL : Nat} {rk MC MS : Nat} (hk : Kx κ y cc ret nL rk MC MS) {pc : Nat} {lv : List (Nat × Value)} {st : List Value} {ws : va_W} {cells slots : Nat} {a n : Nat} {f : Nat → Option Nat} {i : Nat} (q0 : Nat) (ws' : va_W) (d : decode cc pc = .ok (.aastore, 1)) (ha : ws[q0]? = some (a, zL (kG κ) n f)) (kk : Z κ (pc + 1) lv st ws' cells slots) (hin : i < n := by omega) (hn : n < 2147483648 := by omega) (hw : ws.set q0 (a, zL (kG κ) n (va_up f i none)) = ws' := by rfl)
     : Z κ pc lv (.null :: .int (iZ (i : Int)) :: .ref a :: st) ws cells slots := by
  obtain ⟨p, l, e, R, s, m, args, below, meth, c, Q, A, G⟩ := κ
  obtain ⟨hx, hb, hr, hlk, hml, hown, hts, hA, hRf, hRl, hRc, hRs, hK, hW, hSt, hnm⟩ := hk
  intro H locs ls hl hP hD hS
  subst hw
  refine va_astqN hx hb hK hP hD hS q0 4 ha rfl (iZ_in hin hn) d (fun H1 locs1 h1 h2 h3 => ?_)
  rw [iZ_cl (by omega)] at h1 h2
  exact kk H1 locs1 ls hl h1 h2 h3
theorem z_alen {κ : zK} {y : MethodName} {cc : ByteArray} {ret : Option FieldType} {nL : Nat} {rk MC MS : Nat} (hk : Kx κ y cc ret nL rk MC MS) {pc : Nat} {lv : List (Nat × Value)} {st : List Value} {ws : va_W} {cells slots : Nat} {a c0 n : Nat} {x : (Nat → Int32) ⊕ (Nat → Int64) ⊕ (Nat → UInt32) ⊕ (Nat → UInt64) ⊕ (Nat → Option Nat)} {ty : FieldType} (q0 t0 : Nat) (d : decode cc pc = .ok (.arraylength, 1)) (ha : ws[q0]? = some (a, .inl (c0, n, x))) (ht : (zTy (kG κ).2.1)[t0]? = some (c0, ty) := by rfl)
    (kk : Z κ (pc + 1) lv (.int (iZ (n : Int)) :: st) ws cells slots) : Z κ pc lv (.ref a :: st) ws cells slots := by
  obtain ⟨p, l, e, R, s, m, args, below, meth, c, Q, A, G⟩ := κ
  obtain ⟨hx, hb, hr, hlk, hml, hown, hts, hA, hRf, hRl, hRc, hRs, hK, hW, hSt, hnm⟩ := hk
  intro H locs ls hl hP hD hS
  exact va_alen hx hb hK hP q0 t0 ha ht (by rw [iZ_nI]; rfl) d (kk H locs ls hl hP hD hS)
theorem z_newi {κ : zK} {y : MethodName} {cc : ByteArray} {ret : Option FieldType} {nL : Nat} {rk MC MS : Nat} (hk : Kx κ y cc ret nL rk MC MS) {pc : Nat} {lv : List (Nat × Value)} {st : List Value} {ws : va_W} {cells slots : Nat} {n : Nat} (d : decode cc pc = .ok (.newarray .int, 2)) (hq : Cond.arrayClass .int ∈ lw_all) (kk : ∀ q : Nat, Z κ (pc + 2) lv (.ref q :: st) (ws ++ [(q, zI (kG κ) n (fun _ => 0))]) (cells + 1) (slots + n)) (hc : cells + 1 ≤ MC := by omega) (hs : slots + n ≤ MS := by omega) (hn : n < 65536 := by omega)
     : Z κ pc lv (.int (iZ (n : Int)) :: st) ws cells slots := by
  obtain ⟨p, l, e, R, s, m, args, below, meth, c, Q, A, G⟩ := κ
  obtain ⟨hx, hb, hr, hlk, hml, hown, hts, hA, hRf, hRl, hRc, hRs, hK, hW, hSt, hnm⟩ := hk
  intro H locs ls hl hP hD hS
  refine va_newa (atype := .int) (ty := .int) (N' := n) (a0 := ((n, .inl (iA (fun _ => 0))))) hx hb (hts _ hq) rfl hK hP hD hS hA (fun cA => rfl) (by rw [iZ_nI]; exact nI_pos (by omega)) (iZ_cl (by omega)) (by show n * _ ≤ _; simp only [componentBytes]; omega) (by omega) (by omega) d (fun q cA H1 k1 p1 d1 s1 => ?_)
  have e : cA = G.2.1 0 := by
    have h1 := (k1.2 5 (cA, .int) rfl).2
    have h2 := (hK.2 0 (G.2.1 0, .int) rfl).2
    exact Option.some.inj (h1.symm.trans h2)
  subst e
  exact kk q H1 locs ls hl p1 d1 s1
theorem z_newc {κ : zK} {y : MethodName} {cc : ByteArray} {ret : Option FieldType} {nL : Nat} {rk MC MS : Nat} (hk : Kx κ y cc ret nL rk MC MS) {pc : Nat} {lv : List (Nat × Value)} {st : List Value} {ws : va_W} {cells slots : Nat} {n : Nat} (d : decode cc pc = .ok (.newarray .char, 2)) (hq : Cond.arrayClass .char ∈ lw_all) (kk : ∀ q : Nat, Z κ (pc + 2) lv (.ref q :: st) (ws ++ [(q, zC (kG κ) n (fun _ => 0))]) (cells + 1) (slots + n)) (hc : cells + 1 ≤ MC := by omega) (hs : slots + n ≤ MS := by omega) (hn : n < 65536 := by omega)
     : Z κ pc lv (.int (iZ (n : Int)) :: st) ws cells slots := by
  obtain ⟨p, l, e, R, s, m, args, below, meth, c, Q, A, G⟩ := κ
  obtain ⟨hx, hb, hr, hlk, hml, hown, hts, hA, hRf, hRl, hRc, hRs, hK, hW, hSt, hnm⟩ := hk
  intro H locs ls hl hP hD hS
  refine va_newa (atype := .char) (ty := .char) (N' := n) (a0 := ((n, .inl (iA (fun _ => 0))))) hx hb (hts _ hq) rfl hK hP hD hS hA (fun cA => rfl) (by rw [iZ_nI]; exact nI_pos (by omega)) (iZ_cl (by omega)) (by show n * _ ≤ _; simp only [componentBytes]; omega) (by omega) (by omega) d (fun q cA H1 k1 p1 d1 s1 => ?_)
  have e : cA = G.2.1 2 := by
    have h1 := (k1.2 5 (cA, .char) rfl).2
    have h2 := (hK.2 2 (G.2.1 2, .char) rfl).2
    exact Option.some.inj (h1.symm.trans h2)
  subst e
  exact kk q H1 locs ls hl p1 d1 s1
theorem z_newz {κ : zK} {y : MethodName} {cc : ByteArray} {ret : Option FieldType} {nL : Nat} {rk MC MS : Nat} (hk : Kx κ y cc ret nL rk MC MS) {pc : Nat} {lv : List (Nat × Value)} {st : List Value} {ws : va_W} {cells slots : Nat} {n : Nat} (d : decode cc pc = .ok (.newarray .boolean, 2)) (hq : Cond.arrayClass .boolean ∈ lw_all) (kk : ∀ q : Nat, Z κ (pc + 2) lv (.ref q :: st) (ws ++ [(q, zB (kG κ) n (fun _ => 0))]) (cells + 1) (slots + n)) (hc : cells + 1 ≤ MC := by omega) (hs : slots + n ≤ MS := by omega) (hn : n < 65536 := by omega)
     : Z κ pc lv (.int (iZ (n : Int)) :: st) ws cells slots := by
  obtain ⟨p, l, e, R, s, m, args, below, meth, c, Q, A, G⟩ := κ
  obtain ⟨hx, hb, hr, hlk, hml, hown, hts, hA, hRf, hRl, hRc, hRs, hK, hW, hSt, hnm⟩ := hk
  intro H locs ls hl hP hD hS
  refine va_newa (atype := .boolean) (ty := .boolean) (N' := n) (a0 := ((n, .inl (iA (fun _ => 0))))) hx hb (hts _ hq) rfl hK hP hD hS hA (fun cA => rfl) (by rw [iZ_nI]; exact nI_pos (by omega)) (iZ_cl (by omega)) (by show n * _ ≤ _; simp only [componentBytes]; omega) (by omega) (by omega) d (fun q cA H1 k1 p1 d1 s1 => ?_)
  have e : cA = G.2.1 3 := by
    have h1 := (k1.2 5 (cA, .boolean) rfl).2
    have h2 := (hK.2 3 (G.2.1 3, .boolean) rfl).2
    exact Option.some.inj (h1.symm.trans h2)
  subst e
  exact kk q H1 locs ls hl p1 d1 s1
theorem z_newl {κ : zK} {y : MethodName} {cc : ByteArray} {ret : Option FieldType} {nL : Nat} {rk MC MS : Nat} (hk : Kx κ y cc ret nL rk MC MS) {pc : Nat} {lv : List (Nat × Value)} {st : List Value} {ws : va_W} {cells slots : Nat} {n : Nat} (d : decode cc pc = .ok (.newarray .long, 2)) (hq : Cond.arrayClass .long ∈ lw_all) (kk : ∀ q : Nat, Z κ (pc + 2) lv (.ref q :: st) (ws ++ [(q, zJ (kG κ) n (fun _ => 0))]) (cells + 1) (slots + n)) (hc : cells + 1 ≤ MC := by omega) (hs : slots + n ≤ MS := by omega) (hn : n < 65536 := by omega)
     : Z κ pc lv (.int (iZ (n : Int)) :: st) ws cells slots := by
  obtain ⟨p, l, e, R, s, m, args, below, meth, c, Q, A, G⟩ := κ
  obtain ⟨hx, hb, hr, hlk, hml, hown, hts, hA, hRf, hRl, hRc, hRs, hK, hW, hSt, hnm⟩ := hk
  intro H locs ls hl hP hD hS
  refine va_newa (atype := .long) (ty := .long) (N' := n) (a0 := ((n, .inr (.inl (fun _ => 0))))) hx hb (hts _ hq) rfl hK hP hD hS hA (fun cA => rfl) (by rw [iZ_nI]; exact nI_pos (by omega)) (iZ_cl (by omega)) (by show n * _ ≤ _; simp only [componentBytes]; omega) (by omega) (by omega) d (fun q cA H1 k1 p1 d1 s1 => ?_)
  have e : cA = G.2.1 1 := by
    have h1 := (k1.2 5 (cA, .long) rfl).2
    have h2 := (hK.2 1 (G.2.1 1, .long) rfl).2
    exact Option.some.inj (h1.symm.trans h2)
  subst e
  exact kk q H1 locs ls hl p1 d1 s1
theorem z_newq {κ : zK} {y : MethodName} {cc : ByteArray} {ret : Option FieldType} {nL : Nat} {rk MC MS : Nat} (hk : Kx κ y cc ret nL rk MC MS) {pc : Nat} {lv : List (Nat × Value)} {st : List Value} {ws : va_W} {cells slots : Nat} {n : Nat} {i : Nat} (d : decode cc pc = .ok (.anewarray i, 3)) (hq : Cond.classLink y.cls i "java/lang/Object" ∈ lw_all) (kk : ∀ q : Nat, Z κ (pc + 3) lv (.ref q :: st) (ws ++ [(q, zL (kG κ) n (fun _ => none))]) (cells + 1) (slots + n)) (hc : cells + 1 ≤ MC := by omega) (hs : slots + n ≤ MS := by omega) (hn : n < 65536 := by omega)
     : Z κ pc lv (.int (iZ (n : Int)) :: st) ws cells slots := by
  obtain ⟨p, l, e, R, s, m, args, below, meth, c, Q, A, G⟩ := κ
  obtain ⟨hx, hb, hr, hlk, hml, hown, hts, hA, hRf, hRl, hRc, hRs, hK, hW, hSt, hnm⟩ := hk
  intro H locs ls hl hP hD hS
  refine va_newq (N' := n) hx hb hown (hts _ hq) hW.2.1 hK hP hD hS hA (by rw [iZ_nI]; exact nI_pos (by omega)) (iZ_cl (by omega)) (by omega) (by omega) (by omega) d (fun q cA H1 k1 p1 d1 s1 => ?_)
  have e : cA = G.2.1 4 := by
    obtain ⟨_, _, _, _, _, h1⟩ := (k1.2 5 (cA, .object "java/lang/Object") rfl).2
    obtain ⟨_, _, _, _, _, h2⟩ := (hK.2 4 (G.2.1 4, .object "java/lang/Object") rfl).2
    exact Option.some.inj (h1.symm.trans h2)
  subst e
  exact kk q H1 locs ls hl p1 d1 s1
theorem z_get {κ : zK} {y : MethodName} {cc : ByteArray} {ret : Option FieldType} {nL : Nat} {rk MC MS : Nat} (hk : Kx κ y cc ret nL rk MC MS) {pc : Nat} {lv : List (Nat × Value)} {st : List Value} {ws : va_W} {cells slots : Nat} {C : String} {T : u_T} {N ci : Nat} (hin : ∀ w ∈ u_ws C T N, w ∈ lw_all) {a : Nat} {fs : List Value} {v : Value} {ref : String} {index : Nat} (q0 k : Nat) (hq : Cond.fieldLink y.cls index ref (T k).2.1 (T k).2.2.1 ∈ lw_all) (d : decode cc pc = .ok (.getfield index, 3)) (he : ws[q0]? = some (a, zO ci fs)) (hv : fs[k]? = some v) (hc : zCl[ci]? = some (C, T, N) := by rfl) (hk2 : k < N := by decide) (hsame : (T k).1 = ref := by rfl)
    (kk : Z κ (pc + 3) lv (v :: st) ws cells slots) : Z κ pc lv (.ref a :: st) ws cells slots := by
  obtain ⟨p, l, e, R, s, m, args, below, meth, c, Q, A, G⟩ := κ
  obtain ⟨hx, hb, hr, hlk, hml, hown, hts, hA, hRf, hRl, hRc, hRs, hK, hW, hSt, hnm⟩ := hk
  intro H locs ls hl hP hD hS
  exact va_get (C := C) (T := T) (N := N) hx hb hts hin hown hK hP q0 he hc k hk2 (hts _ hq) (fun x h => by rw [← hsame]; exact h) hv d (kk H locs ls hl hP hD hS)
theorem z_getN {κ : zK} {y : MethodName} {cc : ByteArray} {ret : Option FieldType} {nL : Nat} {rk MC MS : Nat} (hk : Kx κ y cc ret nL rk MC MS) {pc : Nat} {lv : List (Nat × Value)} {st : List Value} {ws : va_W} {cells slots : Nat} {C : String} {T : u_T} {N ci : Nat} (hin : ∀ w ∈ u_ws C T N, w ∈ lw_all) {a : Nat} {fs : List Value} {v : Value} {ref host : String} {index : Nat} (q0 k : Nat) (hq : Cond.fieldLinkNest y.cls index ref (T k).2.1 (T k).2.2.1 host ∈ lw_tbl) (d : decode cc pc = .ok (.getfield index, 3)) (he : ws[q0]? = some (a, zO ci fs)) (hv : fs[k]? = some v) (hc : zCl[ci]? = some (C, T, N) := by rfl) (hk2 : k < N := by decide) (hsame : (T k).1 = ref := by rfl)
    (kk : Z κ (pc + 3) lv (v :: st) ws cells slots) : Z κ pc lv (.ref a :: st) ws cells slots := by
  obtain ⟨p, l, e, R, s, m, args, below, meth, c, Q, A, G⟩ := κ
  obtain ⟨hx, hb, hr, hlk, hml, hown, hts, hA, hRf, hRl, hRc, hRs, hK, hW, hSt, hnm⟩ := hk
  intro H locs ls hl hP hD hS
  exact va_getN (C := C) (T := T) (N := N) hx hb hts hin hown hK hP q0 he hc k hk2 (va_Nw.use rfl (hW.nw hq)) (fun x h => by rw [← hsame]; exact h) hv d (kk H locs ls hl hP hD hS)
theorem z_put {κ : zK} {y : MethodName} {cc : ByteArray} {ret : Option FieldType} {nL : Nat} {rk MC MS : Nat} (hk : Kx κ y cc ret nL rk MC MS) {pc : Nat} {lv : List (Nat × Value)} {st : List Value} {ws : va_W} {cells slots : Nat} {C : String} {T : u_T} {N ci : Nat} (hin : ∀ w ∈ u_ws C T N, w ∈ lw_all)(ty0 : Nat → FieldType) (hty : ∀ k, k < N → parseFieldDescriptor (T k).2.2.1 = some (ty0 k)) (hnm2 : ∀ a, a < N → ∀ b, b < N → a ≠ b → (T a).2.1 ≠ (T b).2.1) {a : Nat} {fs : List Value} {v : Value} {ref : String} {index : Nat} (q0 k : Nat) (ws' : va_W) (hq : Cond.fieldLink y.cls index ref (T k).2.1 (T k).2.2.1 ∈ lw_all) (d : decode cc pc = .ok (.putfield index, 3)) (he : ws[q0]? = some (a, zO ci fs)) (kk : Z κ (pc + 3) lv st ws' cells slots) (hn : narrow (ty0 k) v = v := by rfl) (hfit : fits (ty0 k) v = true := by rfl) (hc : zCl[ci]? = some (C, T, N) := by rfl) (hk2 : k < N := by decide) (hl2 : k < fs.length := by exact Nat.le_of_ble_eq_true rfl) (hw : ws.set q0 (a, zO ci (fs.set k v)) = ws' := by rfl) (hsame : (T k).1 = ref := by rfl) (hfin : (T k).2.2.2 = false := by rfl)
     : Z κ pc lv (v :: .ref a :: st) ws cells slots := by
  obtain ⟨p, l, e, R, s, m, args, below, meth, c, Q, A, G⟩ := κ
  obtain ⟨hx, hb, hr, hlk, hml, hown, hts, hA, hRf, hRl, hRc, hRs, hK, hW, hSt, hnm⟩ := hk
  intro H locs ls hl hP hD hS
  subst hw
  exact va_put (C := C) (T := T) (N := N) hx hb hts hin ty0 hty hnm2 hown hK hP hD hS q0 he hc k hk2 (hts _ hq) (fun x h => by rw [← hsame]; exact h) hfin (hty k hk2) hn hfit hl2 d (fun H1 locs1 h1 h2 h3 => kk H1 locs1 ls hl h1 h2 h3)
theorem z_putF {κ : zK} {y : MethodName} {cc : ByteArray} {ret : Option FieldType} {nL : Nat} {rk MC MS : Nat} (hk : Kx κ y cc ret nL rk MC MS) {pc : Nat} {lv : List (Nat × Value)} {st : List Value} {ws : va_W} {cells slots : Nat} {C : String} {T : u_T} {N ci : Nat} (hin : ∀ w ∈ u_ws C T N, w ∈ lw_all)(ty0 : Nat → FieldType) (hty : ∀ k, k < N → parseFieldDescriptor (T k).2.2.1 = some (ty0 k)) (hnm2 : ∀ a, a < N → ∀ b, b < N → a ≠ b → (T a).2.1 ≠ (T b).2.1) {a : Nat} {fs : List Value} {v : Value} {ref : String} {index : Nat} (q0 k : Nat) (ws' : va_W) (hq : Cond.fieldLink y.cls index ref (T k).2.1 (T k).2.2.1 ∈ lw_all) (d : decode cc pc = .ok (.putfield index, 3)) (he : ws[q0]? = some (a, zO ci fs)) (kk : Z κ (pc + 3) lv st ws' cells slots) (hn : narrow (ty0 k) v = v := by rfl) (hfit : fits (ty0 k) v = true := by rfl) (hc : zCl[ci]? = some (C, T, N) := by rfl) (hk2 : k < N := by decide) (hl2 : k < fs.length := by exact Nat.le_of_ble_eq_true rfl) (hw : ws.set q0 (a, zO ci (fs.set k v)) = ws' := by rfl) (hsame : (T k).1 = ref := by rfl) (hfin : (T k).2.2.2 = true := by rfl) (hin2 : y.name = "<init>" := by rfl) (hdecl : (T k).1 = y.cls := by rfl)
     : Z κ pc lv (v :: .ref a :: st) ws cells slots := by
  obtain ⟨p, l, e, R, s, m, args, below, meth, c, Q, A, G⟩ := κ
  obtain ⟨hx, hb, hr, hlk, hml, hown, hts, hA, hRf, hRl, hRc, hRs, hK, hW, hSt, hnm⟩ := hk
  intro H locs ls hl hP hD hS
  subst hw
  exact va_putF (C := C) (T := T) (N := N) hx hb hts hin ty0 hty hnm2 hown hK hP hD hS q0 he hc k hk2 (hts _ hq) (fun x h => by rw [← hsame]; exact h) hfin (hnm.trans hin2) hdecl (hty k hk2) hn hfit hl2 d (fun H1 locs1 h1 h2 h3 => kk H1 locs1 ls hl h1 h2 h3)
theorem z_putN {κ : zK} {y : MethodName} {cc : ByteArray} {ret : Option FieldType} {nL : Nat} {rk MC MS : Nat} (hk : Kx κ y cc ret nL rk MC MS) {pc : Nat} {lv : List (Nat × Value)} {st : List Value} {ws : va_W} {cells slots : Nat} {C : String} {T : u_T} {N ci : Nat} (hin : ∀ w ∈ u_ws C T N, w ∈ lw_all)(ty0 : Nat → FieldType) (hty : ∀ k, k < N → parseFieldDescriptor (T k).2.2.1 = some (ty0 k)) (hnm2 : ∀ a, a < N → ∀ b, b < N → a ≠ b → (T a).2.1 ≠ (T b).2.1) {a : Nat} {fs : List Value} {v : Value} {ref host : String} {index : Nat} (q0 k : Nat) (ws' : va_W) (hq : Cond.fieldLinkNest y.cls index ref (T k).2.1 (T k).2.2.1 host ∈ lw_tbl) (d : decode cc pc = .ok (.putfield index, 3)) (he : ws[q0]? = some (a, zO ci fs)) (kk : Z κ (pc + 3) lv st ws' cells slots) (hn : narrow (ty0 k) v = v := by rfl) (hfit : fits (ty0 k) v = true := by rfl) (hc : zCl[ci]? = some (C, T, N) := by rfl) (hk2 : k < N := by decide) (hl2 : k < fs.length := by exact Nat.le_of_ble_eq_true rfl) (hw : ws.set q0 (a, zO ci (fs.set k v)) = ws' := by rfl) (hsame : (T k).1 = ref := by rfl) (hfin : (T k).2.2.2 = false := by rfl)
     : Z κ pc lv (v :: .ref a :: st) ws cells slots := by
  obtain ⟨p, l, e, R, s, m, args, below, meth, c, Q, A, G⟩ := κ
  obtain ⟨hx, hb, hr, hlk, hml, hown, hts, hA, hRf, hRl, hRc, hRs, hK, hW, hSt, hnm⟩ := hk
  intro H locs ls hl hP hD hS
  subst hw
  exact va_putN (C := C) (T := T) (N := N) hx hb hts hin ty0 hty hnm2 hown hK hP hD hS q0 he hc k hk2 (va_Nw.use rfl (hW.nw hq)) (fun x h => by rw [← hsame]; exact h) hfin (hty k hk2) hn hfit hl2 d (fun H1 locs1 h1 h2 h3 => kk H1 locs1 ls hl h1 h2 h3)
theorem z_new {κ : zK} {y : MethodName} {cc : ByteArray} {ret : Option FieldType} {nL : Nat} {rk MC MS : Nat} (hk : Kx κ y cc ret nL rk MC MS) {pc : Nat} {lv : List (Nat × Value)} {st : List Value} {ws : va_W} {cells slots : Nat} {C : String} {T : u_T} {N ci : Nat} (hin : ∀ w ∈ u_ws C T N, w ∈ lw_all) (ty0 : Nat → FieldType) (hty : ∀ k, k < N → parseFieldDescriptor (T k).2.2.1 = some (ty0 k)) {index : Nat} (fs : List Value) (hq1 : Cond.classLink y.cls index C ∈ lw_all) (hq2 : Cond.instantiable C N ∈ lw_all) (hq3 : Cond.initialized C ∈ lw_all) (d : decode cc pc = .ok (.new index, 3)) (hfs : ∀ j, j < N → defaultValue (ty0 j) = vp_V fs j) (kk : ∀ q : Nat, Z κ (pc + 3) lv (.ref q :: st) (ws ++ [(q, zO ci fs)]) (cells + 1) (slots + N)) (hc : zCl[ci]? = some (C, T, N) := by rfl) (hce : cells + 1 ≤ MC := by omega) (hsl : slots + N ≤ MS := by omega)
     : Z κ pc lv (st) ws cells slots := by
  obtain ⟨p, l, e, R, s, m, args, below, meth, c, Q, A, G⟩ := κ
  obtain ⟨hx, hb, hr, hlk, hml, hown, hts, hA, hRf, hRl, hRc, hRs, hK, hW, hSt, hnm⟩ := hk
  intro H locs ls hl hP hD hS
  exact va_new (C := C) (T := T) (N := N) hx hb hts hin ty0 hty hown (hts _ hq1) (hts _ hq2) (hts _ hq3) hK hP hD hS hA hc hfs (by omega) (by omega) d (fun q H1 p1 d1 s1 => kk q H1 locs ls hl p1 d1 s1)
theorem z_objInit {κ : zK} {y : MethodName} {cc : ByteArray} {ret : Option FieldType} {nL : Nat} {rk MC MS : Nat} (hk : Kx κ y cc ret nL rk MC MS) {pc : Nat} {lv : List (Nat × Value)} {st : List Value} {ws : va_W} {cells slots : Nat} {i : Nat} {a : Nat} (hq : Cond.methodLink y.cls i Lib.objectInit ∈ lw_all) (hq1 : Cond.instanceMethod Lib.objectInit ∈ lw_all) (hq2 : Cond.code Lib.objectInit ⟨#[0xb1]⟩ 1 none ∈ lw_all) (d : decode cc pc = .ok (.invokespecial i, 3)) (kk : Z κ (pc + 3) lv st ws cells slots) (hf : 1 ≤ rk := by decide) (hlo : (st.map fun v => v.category).sum ≤ 8 := by exact Nat.le_of_ble_eq_true rfl)
     : Z κ pc lv (.ref a :: st) ws cells slots := by
  obtain ⟨p, l, e, R, s, m, args, below, meth, c, Q, A, G⟩ := κ
  obtain ⟨hx, hb, hr, hlk, hml, hown, hts, hA, hRf, hRl, hRc, hRs, hK, hW, hSt, hnm⟩ := hk
  intro H locs ls hl hP hD hS
  exact W.objInit hx hb hown (hts _ hq) (hts _ hq1) (hts _ hq2) rfl hl.1 rfl d (by omega) (by show 2 * 0 + _ + 12 ≤ _; omega) (kk H locs ls hl hP hD hS)
theorem z_iret {κ : zK} {y : MethodName} {cc : ByteArray} {ret : Option FieldType} {nL : Nat} {rk MC MS : Nat} (hk : Kx κ y cc ret nL rk MC MS) {pc : Nat} {lv : List (Nat × Value)} {ws : va_W} {cells slots : Nat} {S : Type} {rv : S → Option Value} {post : S → Prop} {w1 : S → va_W} (hR2 : zR κ MC MS rv post w1) (u : S) {v : Int32} (d : decode cc pc = .ok (.ireturn, 1)) (hret : ret = some .int) (hrv : rv u = some (.int v)) (hp : post u) (hsub : zSub ws (w1 u)) (hc : cells ≤ MC := by omega) (hs : slots ≤ MS := by omega)
     : Z κ pc lv (.int v :: []) ws cells slots := by
  obtain ⟨p, l, e, R, s, m, args, below, meth, c, Q, A, G⟩ := κ
  obtain ⟨hx, hb, hr, hlk, hml, hown, hts, hA, hRf, hRl, hRc, hRs, hK, hW, hSt, hnm⟩ := hk
  intro H locs ls hl hP hD hS
  have hQ : Q = _ := hR2
  subst hQ
  have hP' := hsub.P hP
  have hD' := hsub.D hD
  refine W.widen hc hs ?_
  exact W.iret hx hb (hr.trans hret) (fun t ht hW => ⟨⟨u, by rw [hrv], hp, by rw [ht]; exact hP', hD'⟩, hS.F ht⟩) hS.2.2 d hlk
theorem z_zret {κ : zK} {y : MethodName} {cc : ByteArray} {ret : Option FieldType} {nL : Nat} {rk MC MS : Nat} (hk : Kx κ y cc ret nL rk MC MS) {pc : Nat} {lv : List (Nat × Value)} {ws : va_W} {cells slots : Nat} {S : Type} {rv : S → Option Value} {post : S → Prop} {w1 : S → va_W} (hR2 : zR κ MC MS rv post w1) (u : S) {v : Int} (hv : v = 0 ∨ v = 1) (d : decode cc pc = .ok (.ireturn, 1)) (hret : ret = some .boolean) (hrv : rv u = some (.int (iZ v))) (hp : post u) (hsub : zSub ws (w1 u)) (hc : cells ≤ MC := by omega) (hs : slots ≤ MS := by omega)
     : Z κ pc lv (.int (iZ v) :: []) ws cells slots := by
  obtain ⟨p, l, e, R, s, m, args, below, meth, c, Q, A, G⟩ := κ
  obtain ⟨hx, hb, hr, hlk, hml, hown, hts, hA, hRf, hRl, hRc, hRs, hK, hW, hSt, hnm⟩ := hk
  intro H locs ls hl hP hD hS
  have hQ : Q = _ := hR2
  subst hQ
  have hP' := hsub.P hP
  have hD' := hsub.D hD
  refine W.widen hc hs ?_
  exact W.zret hx hb (hr.trans hret) (zz_nz hv) (fun t ht hW => ⟨⟨u, by rw [hrv], hp, by rw [ht]; exact hP', hD'⟩, hS.F ht⟩) hS.2.2 d hlk
theorem z_lret {κ : zK} {y : MethodName} {cc : ByteArray} {ret : Option FieldType} {nL : Nat} {rk MC MS : Nat} (hk : Kx κ y cc ret nL rk MC MS) {pc : Nat} {lv : List (Nat × Value)} {ws : va_W} {cells slots : Nat} {S : Type} {rv : S → Option Value} {post : S → Prop} {w1 : S → va_W} (hR2 : zR κ MC MS rv post w1) (u : S) {v : Int64} (d : decode cc pc = .ok (.lreturn, 1)) (hret : ret = some .long) (hrv : rv u = some (.long v)) (hp : post u) (hsub : zSub ws (w1 u)) (hc : cells ≤ MC := by omega) (hs : slots ≤ MS := by omega)
     : Z κ pc lv (.long v :: []) ws cells slots := by
  obtain ⟨p, l, e, R, s, m, args, below, meth, c, Q, A, G⟩ := κ
  obtain ⟨hx, hb, hr, hlk, hml, hown, hts, hA, hRf, hRl, hRc, hRs, hK, hW, hSt, hnm⟩ := hk
  intro H locs ls hl hP hD hS
  have hQ : Q = _ := hR2
  subst hQ
  have hP' := hsub.P hP
  have hD' := hsub.D hD
  refine W.widen hc hs ?_
  exact W.lret hx hb (hr.trans hret) (fun t ht hW => ⟨⟨u, by rw [hrv], hp, by rw [ht]; exact hP', hD'⟩, hS.F ht⟩) hS.2.2 d hlk
theorem z_vret {κ : zK} {y : MethodName} {cc : ByteArray} {ret : Option FieldType} {nL : Nat} {rk MC MS : Nat} (hk : Kx κ y cc ret nL rk MC MS) {pc : Nat} {lv : List (Nat × Value)} {ws : va_W} {cells slots : Nat} {S : Type} {rv : S → Option Value} {post : S → Prop} {w1 : S → va_W} (hR2 : zR κ MC MS rv post w1) (u : S) (d : decode cc pc = .ok (.return_, 1)) (hret : ret = none) (hrv : rv u = none) (hp : post u) (hsub : zSub ws (w1 u)) (hc : cells ≤ MC := by omega) (hs : slots ≤ MS := by omega)
     : Z κ pc lv ([]) ws cells slots := by
  obtain ⟨p, l, e, R, s, m, args, below, meth, c, Q, A, G⟩ := κ
  obtain ⟨hx, hb, hr, hlk, hml, hown, hts, hA, hRf, hRl, hRc, hRs, hK, hW, hSt, hnm⟩ := hk
  intro H locs ls hl hP hD hS
  have hQ : Q = _ := hR2
  subst hQ
  have hP' := hsub.P hP
  have hD' := hsub.D hD
  refine W.widen hc hs ?_
  exact W.vret hx hb (hr.trans hret) (fun t ht hW => ⟨⟨u, by rw [hrv], hp, by rw [ht]; exact hP', hD'⟩, hS.F ht⟩) hS.2.2 d hlk
theorem z_aret {κ : zK} {y : MethodName} {cc : ByteArray} {ret : Option FieldType} {nL : Nat} {rk MC MS : Nat} (hk : Kx κ y cc ret nL rk MC MS) {pc : Nat} {lv : List (Nat × Value)} {ws : va_W} {cells slots : Nat} {S : Type} {rv : S → Option Value} {post : S → Prop} {w1 : S → va_W} (hR2 : zR κ MC MS rv post w1) (u : S) {a : Nat} {rt : FieldType} (d : decode cc pc = .ok (.areturn, 1)) (hret : ret = some rt) (hrt : (∃ n, rt = .object n) ∨ ∃ t, rt = .array t) (hrv : rv u = some (.ref a)) (hp : post u) (hsub : zSub ws (w1 u)) (hc : cells ≤ MC := by omega) (hs : slots ≤ MS := by omega)
     : Z κ pc lv (.ref a :: []) ws cells slots := by
  obtain ⟨p, l, e, R, s, m, args, below, meth, c, Q, A, G⟩ := κ
  obtain ⟨hx, hb, hr, hlk, hml, hown, hts, hA, hRf, hRl, hRc, hRs, hK, hW, hSt, hnm⟩ := hk
  intro H locs ls hl hP hD hS
  have hQ : Q = _ := hR2
  subst hQ
  have hP' := hsub.P hP
  have hD' := hsub.D hD
  refine W.widen hc hs ?_
  exact W.aret hx hb (hr.trans hret) hrt (Or.inr ⟨a, rfl⟩) (fun t ht hW => ⟨⟨u, by rw [hrv], hp, by rw [ht]; exact hP', hD'⟩, hS.F ht⟩) hS.2.2 d hlk
theorem z_aretN {κ : zK} {y : MethodName} {cc : ByteArray} {ret : Option FieldType} {nL : Nat} {rk MC MS : Nat} (hk : Kx κ y cc ret nL rk MC MS) {pc : Nat} {lv : List (Nat × Value)} {ws : va_W} {cells slots : Nat} {S : Type} {rv : S → Option Value} {post : S → Prop} {w1 : S → va_W} (hR2 : zR κ MC MS rv post w1) (u : S) {rt : FieldType} (d : decode cc pc = .ok (.areturn, 1)) (hret : ret = some rt) (hrt : (∃ n, rt = .object n) ∨ ∃ t, rt = .array t) (hrv : rv u = some .null) (hp : post u) (hsub : zSub ws (w1 u)) (hc : cells ≤ MC := by omega) (hs : slots ≤ MS := by omega)
     : Z κ pc lv (.null :: []) ws cells slots := by
  obtain ⟨p, l, e, R, s, m, args, below, meth, c, Q, A, G⟩ := κ
  obtain ⟨hx, hb, hr, hlk, hml, hown, hts, hA, hRf, hRl, hRc, hRs, hK, hW, hSt, hnm⟩ := hk
  intro H locs ls hl hP hD hS
  have hQ : Q = _ := hR2
  subst hQ
  have hP' := hsub.P hP
  have hD' := hsub.D hD
  refine W.widen hc hs ?_
  exact W.aret hx hb (hr.trans hret) hrt (Or.inl rfl) (fun t ht hW => ⟨⟨u, by rw [hrv], hp, by rw [ht]; exact hP', hD'⟩, hS.F ht⟩) hS.2.2 d hlk
theorem zPre_blind {G : zG} {av : List Value} {wc : va_W} {sz : Nat} : FrameBlind (zPre G av wc sz) := by
  intro a U g mk h
  obtain ⟨h0, h1, h2, h3, h4, h5, h6⟩ := h
  exact ⟨h0, h1, h2, va_K.moved (u := U) (U := U.calling g mk a) (Vm.Alike.refl U.vm) h3, h4, zW.same (s := U) (U := U.calling g mk a) rfl h5, zS.moved (u := U) (U := U.calling g mk a) (Vm.Alike.refl U.vm) h6⟩
section ZC
variable {p : Program} {l : Launch} {e : Env} {R : Room} {s : State} {m : MethodId} {args : Array Value} {below : List Frame} {meth : Method} {c : Code} {H : Heap} {locs : List Loc} {cells slots : Nat} {Q : State → Prop}
theorem z_pre {A : Nat → Prop} {G : zG} {av : List Value} {ws wc wr : va_W} (hS : va_S A s.heap H locs) (hA : ∀ q : Nat, s.heap.size ≤ q → A q) (hP : va_P G.1 zCl ws H) (hD : va_D A ws) (hK : va_K G.1 zCl (zTy G.2.1) s) (hW : zW s) (hSt : zS G A s s.heap) (hcut : zSub ws (wc ++ wr)) :
    (∀ q, va_A wc H.size q → A q) ∧ ∀ U : State, U.heap = H → s.WarmedH U.vm → zPre G av wc H.size av.toArray U := by
  have hP1 := hcut.P hP
  have hD1 := hcut.D hD
  have sub1 : ∀ (k : Nat) (q : Nat × va_E), wc[k]? = some q → (wc ++ wr)[k]? = some q := fun k q hk => by
    rw [List.getElem?_append_left (List.getElem?_eq_some_iff.mp hk).1]; exact hk
  have hF : ∀ q, va_A wc H.size q → A q := by
    intro q h
    rcases h with ⟨k, e, h⟩ | h
    · exact hD1.2 k (q, e) (sub1 k _ h)
    · exact hA q (Nat.le_trans hS.1 h)
  refine ⟨hF, fun U hU hw => ⟨rfl, by rw [hU], by rw [hU]; exact fun k q hk => hP1 k q (sub1 k q hk), hK.moved hw.alike, ⟨fun i j p q hi hj e => hD1.1 i j p q (sub1 i p hi) (sub1 j q hj) e, fun _ _ _ => trivial⟩, hW.warm hw, ?_⟩⟩
  rw [hU]
  exact ((hSt.kept (fun a h1 h2 => hS.2.1 a h1 h2)).narrow hF).moved hw.alike
theorem z_after {A : Nat → Prop} {G : zG} {ws wc wr w1 : va_W} {H1 : Heap} (hP : va_P G.1 zCl ws H) (hD : va_D A ws) (hcut : zSub ws (wc ++ wr)) (hF : ∀ q, va_A wc H.size q → A q)
    (hk : ∀ q : Nat, q < H.size → ¬ va_A wc H.size q → H1[q]? = H[q]?) (hP1 : va_P G.1 zCl w1 H1) (hD1 : va_D (va_A wc H.size) w1) : va_P G.1 zCl (w1 ++ wr) H1 ∧ va_D A (w1 ++ wr) := by
  have hP2 := hcut.P hP
  have hD2 := hcut.D hD
  have sub2 : ∀ (k : Nat) (q : Nat × va_E), wr[k]? = some q → (wc ++ wr)[wc.length + k]? = some q := fun k q hk => by
    rw [List.getElem?_append_right (Nat.le_add_right _ _), Nat.add_sub_cancel_left]; exact hk
  have sub1 : ∀ (k : Nat) (q : Nat × va_E), wc[k]? = some q → (wc ++ wr)[k]? = some q := fun k q hk => by
    rw [List.getElem?_append_left (List.getElem?_eq_some_iff.mp hk).1]; exact hk
  have apart : ∀ (k : Nat) (q : Nat × va_E), wr[k]? = some q → q.1 < H.size ∧ ¬ va_A wc H.size q.1 := by
    intro k q hq
    have hl := (hP2 _ q (sub2 k q hq)).lt
    refine ⟨hl, fun h => ?_⟩
    rcases h with ⟨k2, e, h⟩ | h
    · have := hD2.1 _ _ q (q.1, e) (sub2 k q hq) (sub1 k2 _ h) rfl
      have h3 := (List.getElem?_eq_some_iff.mp h).1
      omega
    · omega
  refine ⟨va_P.app hP1 (fun k q hq => ?_), va_D.app (hD1.weaken (fun k q _ h => hF q.1 h)) ⟨fun i j p q hi hj e => ?_, fun k q hk => hD2.2 _ q (sub2 k q hk)⟩ (fun i j x y hx hy hxy => ?_)⟩
  · obtain ⟨g1, g2⟩ := apart k q hq
    exact (hP2 _ q (sub2 k q hq)).kept (hk q.1 g1 g2)
  · have := hD2.1 _ _ p q (sub2 i p hi) (sub2 j q hj) e
    omega
  · exact (apart j y hy).2 (by rw [← hxy]; exact hD1.2 i x hx)
theorem z_run {A : Nat → Prop} {G : zG} {y : MethodName} {av : List Value} {ws wc wr : va_W} {S : Type} {rv : S → Option Value} {post : S → Prop} {w1 : S → va_W} {mc ms pc : Nat} {ls : Array Slot} {st0 st : List Value} {lv : List (Nat × Value)} {a : Array Value}
    (hr : va_Run p l e R s m args below meth c H locs cells slots mc ms (F0 m pc ls st0) st (zPost G rv post w1 (va_A wc H.size) a) (va_A wc H.size)) (hl : lv_has ls c.maxLocals lv) (hP : va_P G.1 zCl ws H) (hD : va_D A ws) (hS : va_S A s.heap H locs) (hcut : zSub ws (wc ++ wr)) (hF : ∀ q, va_A wc H.size q → A q)
    (kk : ∀ u : S, post u → Z (p, l, e, R, s, m, args, below, meth, c, Q, A, G) (pc + 3) lv ((rv u).toList ++ st) (w1 u ++ wr) (cells + mc) (slots + ms)) : W p l e R s m args below meth c H locs cells slots Q (F0 m pc ls st0) := by
  intro T hT X
  obtain ⟨v, st₀, t, T', L, h0, X', hL, e1, e2, ⟨⟨u, hv, hp, hP1, hD1⟩, hz, hk⟩, stp⟩ := hr T hT X
  cases hv
  rw [h0] at hz hk
  obtain ⟨hPn, hDn⟩ := z_after (H1 := t.heap) hP hD hcut hF hk hP1 hD1
  obtain ⟨t2, a1, b1⟩ := kk u hp T'.heap (locs ++ L) ls hl (by rw [e1]; exact hPn) hDn
    ⟨Nat.le_trans hS.1 (by rw [e1]; exact hz), fun q h1 h2 => by rw [e1, hk q (Nat.lt_of_lt_of_le h1 hS.1) (fun z => h2 (hF q z))]; exact hS.2.1 q h1 h2, fun q hq => by
      rcases List.mem_append.mp hq with h | h
      · exact hS.2.2 q h
      · exact hF _ (hL q h)⟩ T' rfl X'
  exact ⟨t2, stp t2 a1, b1⟩
theorem z_run5 {A : Nat → Prop} {G : zG} {y : MethodName} {av : List Value} {ws wc wr : va_W} {S : Type} {rv : S → Option Value} {post : S → Prop} {w1 : S → va_W} {mc ms pc : Nat} {ls : Array Slot} {st0 st : List Value} {lv : List (Nat × Value)} {a : Array Value}
    (hr : va_Run5 p l e R s m args below meth c H locs cells slots mc ms (F0 m pc ls st0) st (zPost G rv post w1 (va_A wc H.size) a) (va_A wc H.size)) (hl : lv_has ls c.maxLocals lv) (hP : va_P G.1 zCl ws H) (hD : va_D A ws) (hS : va_S A s.heap H locs) (hcut : zSub ws (wc ++ wr)) (hF : ∀ q, va_A wc H.size q → A q)
    (kk : ∀ u : S, post u → Z (p, l, e, R, s, m, args, below, meth, c, Q, A, G) (pc + 5) lv ((rv u).toList ++ st) (w1 u ++ wr) (cells + mc) (slots + ms)) : W p l e R s m args below meth c H locs cells slots Q (F0 m pc ls st0) := by
  intro T hT X
  obtain ⟨v, st₀, t, T', L, h0, X', hL, e1, e2, ⟨⟨u, hv, hp, hP1, hD1⟩, hz, hk⟩, stp⟩ := hr T hT X
  cases hv
  rw [h0] at hz hk
  obtain ⟨hPn, hDn⟩ := z_after (H1 := t.heap) hP hD hcut hF hk hP1 hD1
  obtain ⟨t2, a1, b1⟩ := kk u hp T'.heap (locs ++ L) ls hl (by rw [e1]; exact hPn) hDn
    ⟨Nat.le_trans hS.1 (by rw [e1]; exact hz), fun q h1 h2 => by rw [e1, hk q (Nat.lt_of_lt_of_le h1 hS.1) (fun z => h2 (hF q z))]; exact hS.2.1 q h1 h2, fun q hq => by
      rcases List.mem_append.mp hq with h | h
      · exact hS.2.2 q h
      · exact hF _ (hL q h)⟩ T' rfl X'
  exact ⟨t2, stp t2 a1, b1⟩
end ZC
theorem z_callS {κ : zK} {y : MethodName} {cc : ByteArray} {ret : Option FieldType} {nL : Nat} {rk MC MS : Nat} (hk : Kx κ y cc ret nL rk MC MS) {pc : Nat} {lv : List (Nat × Value)} {st : List Value} {ws : va_W} {cells slots : Nat} {y2 : MethodName} {cc2 : ByteArray} {nL2 : Nat} {ret2 : Option FieldType} {rk2 MC2 MS2 : Nat} {S : Type} {rv : S → Option Value} {post : S → Prop} {w1 : S → va_W} {wc : va_W} {idx : Nat} (As : List Value) (nA : Nat) (wr : va_W) (hM : Ct (kL κ) (kG κ) y2 cc2 nL2 ret2 rk2 MC2 MS2 As wc rv post w1) (q1 : Cond.methodLink y.cls idx y2 ∈ lw_all) (q2 : Cond.static y2 ∈ lw_all) (q3 : Cond.initialized y2.cls ∈ lw_all) (q4 : Cond.code y2 cc2 nL2 ret2 ∈ lw_all) (hcut : zSub ws (wc ++ wr)) (d : decode cc pc = .ok (.invokestatic idx, 3)) {st0 : List Value} (hst : st0 = As.reverse ++ st) (kk : ∀ u : S, post u → Z κ (pc + 3) lv ((rv u).toList ++ st) (w1 u ++ wr) (cells + MC2) (slots + MS2)) (hd : y2.cls ≠ "java/lang/invoke/MethodHandle" ∧ y2.cls ≠ "java/lang/invoke/VarHandle" ∧ (parseMethodDescriptor y2.desc).map (fun d => d.parameters.length) = some nA := by decide +kernel) (hnA : As.length = nA := by rfl) (hfr : rk2 + 1 ≤ rk := by decide) (hlo : nL2 ≤ 21 := by decide) (hcs : (st.map fun v => v.category).sum ≤ 8 := by exact Nat.le_of_ble_eq_true rfl) (hce : cells + MC2 ≤ MC := by omega) (hsl : slots + MS2 ≤ MS := by omega)
     : Z κ pc lv (st0) ws cells slots := by
  obtain ⟨p, l, e, R, s, m, args, below, meth, c, Q, A, G⟩ := κ
  obtain ⟨hx, hb, hr, hlk, hml, hown, hts, hA, hRf, hRl, hRc, hRs, hK, hW, hSt, hnm⟩ := hk
  intro H locs ls hl hP hD hS
  subst hst
  obtain ⟨hF, hpre⟩ := z_pre (av := As) hS hA hP hD hK hW hSt hcut
  refine z_run (y := y2) (av := As) (va_runS (As := As) (rest := st) ⟨hx, hb, hml, hown, hts⟩ (hM H.size) (va_cwS nA hts (lw_S q1 q2 q3 q4) rfl rfl rfl hd ⟨by show rk2 + 1 ≤ R.frames; omega, by show 8 + (nL2 + 11) + 40 * rk2 ≤ R.locals; omega⟩) ⟨zPre_blind, hpre⟩ rfl hnA (hl.1.trans hml) rfl (lv_room hcs) d ⟨by omega, by omega⟩) hl hP hD hS hcut hF kk
theorem z_callV {κ : zK} {y : MethodName} {cc : ByteArray} {ret : Option FieldType} {nL : Nat} {rk MC MS : Nat} (hk : Kx κ y cc ret nL rk MC MS) {pc : Nat} {lv : List (Nat × Value)} {st : List Value} {ws : va_W} {cells slots : Nat} {y2 : MethodName} {cc2 : ByteArray} {nL2 : Nat} {ret2 : Option FieldType} {rk2 MC2 MS2 : Nat} {S : Type} {rv : S → Option Value} {post : S → Prop} {w1 : S → va_W} {wc : va_W} {idx : Nat} {b : Nat} (As : List Value) (nA : Nat) (wr : va_W) (hM : Ct (kL κ) (kG κ) y2 cc2 nL2 ret2 rk2 MC2 MS2 (.ref b :: As) wc rv post w1) (q1 : Cond.methodLink y.cls idx y2 ∈ lw_all) (q2 : Cond.instanceMethod y2 ∈ lw_all) (q3 : Cond.selects y2.cls y2 y2 ∈ lw_all) (q4 : Cond.initialized y2.cls ∈ lw_all) (q5 : Cond.code y2 cc2 nL2 ret2 ∈ lw_all) (hcut : zSub ws (wc ++ wr)) (j ci : Nat) {fs : List Value} (hj : wc[j]? = some (b, zO ci fs)) {C : String} {T : u_T} {N : Nat} (d : decode cc pc = .ok (.invokevirtual idx, 3)) {st0 : List Value} (hst : st0 = As.reverse ++ .ref b :: st) (kk : ∀ u : S, post u → Z κ (pc + 3) lv ((rv u).toList ++ st) (w1 u ++ wr) (cells + MC2) (slots + MS2)) (hcc : zCl[ci]? = some (C, T, N) := by rfl) (hC : C = y2.cls := by rfl) (hd : y2.cls ≠ "java/lang/invoke/MethodHandle" ∧ y2.cls ≠ "java/lang/invoke/VarHandle" ∧ (parseMethodDescriptor y2.desc).map (fun d => d.parameters.length) = some nA := by decide +kernel) (hnA : As.length = nA := by rfl) (hfr : rk2 + 1 ≤ rk := by decide) (hlo : nL2 ≤ 21 := by decide) (hcs : (st.map fun v => v.category).sum ≤ 8 := by exact Nat.le_of_ble_eq_true rfl) (hce : cells + MC2 ≤ MC := by omega) (hsl : slots + MS2 ≤ MS := by omega)
     : Z κ pc lv (st0) ws cells slots := by
  obtain ⟨p, l, e, R, s, m, args, below, meth, c, Q, A, G⟩ := κ
  obtain ⟨hx, hb, hr, hlk, hml, hown, hts, hA, hRf, hRl, hRc, hRs, hK, hW, hSt, hnm⟩ := hk
  intro H locs ls hl hP hD hS
  subst hst
  subst hC
  obtain ⟨hF, hpre⟩ := z_pre (av := .ref b :: As) hS hA hP hD hK hW hSt hcut
  have hj2 : (wc ++ wr)[j]? = some (b, zO ci fs) := by rw [List.getElem?_append_left (List.getElem?_eq_some_iff.mp hj).1]; exact hj
  refine z_run (y := y2) (av := .ref b :: As) (va_runV (C := y2.cls) (As := As) (rest := st) ⟨hx, hb, hml, hown, hts⟩ (hM H.size) (cwV nA hts (lw_V q1 q2 q3 q4 q5) rfl rfl rfl ⟨rfl, hd⟩ ⟨by show rk2 + 1 ≤ R.frames; omega, by show 8 + (nL2 + 11) + 40 * rk2 ≤ R.locals; omega⟩) ⟨zPre_blind, va_recv hK (hcut.P hP) hcc hj2, hpre⟩ rfl hnA (hl.1.trans hml) rfl (lv_room hcs) d ⟨by omega, by omega⟩) hl hP hD hS hcut hF kk
theorem z_callI {κ : zK} {y : MethodName} {cc : ByteArray} {ret : Option FieldType} {nL : Nat} {rk MC MS : Nat} (hk : Kx κ y cc ret nL rk MC MS) {pc : Nat} {lv : List (Nat × Value)} {st : List Value} {ws : va_W} {cells slots : Nat} {y2 : MethodName} {cc2 : ByteArray} {nL2 : Nat} {rk2 MC2 MS2 : Nat} {S : Type} {rv : S → Option Value} {post : S → Prop} {w1 : S → va_W} {wc : va_W} {idx : Nat} {b : Nat} (As : List Value) (nA : Nat) (wr : va_W) (hM : Ct (kL κ) (kG κ) y2 cc2 nL2 none rk2 MC2 MS2 (.ref b :: As) wc rv post w1) (q1 : Cond.methodLink y.cls idx y2 ∈ lw_all) (q2 : Cond.instanceMethod y2 ∈ lw_all) (q4 : Cond.initialized y2.cls ∈ lw_all) (q5 : Cond.code y2 cc2 nL2 none ∈ lw_all) (hcut : zSub ws (wc ++ wr)) (d : decode cc pc = .ok (.invokespecial idx, 3)) {st0 : List Value} (hst : st0 = As.reverse ++ .ref b :: st) (kk : ∀ u : S, post u → Z κ (pc + 3) lv ((rv u).toList ++ st) (w1 u ++ wr) (cells + MC2) (slots + MS2)) (hni : y2.name = "<init>" := by rfl) (hd : y2.cls ≠ "java/lang/invoke/MethodHandle" ∧ y2.cls ≠ "java/lang/invoke/VarHandle" ∧ (parseMethodDescriptor y2.desc).map (fun d => d.parameters.length) = some nA := by decide +kernel) (hnA : As.length = nA := by rfl) (hfr : rk2 + 1 ≤ rk := by decide) (hlo : nL2 ≤ 21 := by decide) (hcs : (st.map fun v => v.category).sum ≤ 8 := by exact Nat.le_of_ble_eq_true rfl) (hce : cells + MC2 ≤ MC := by omega) (hsl : slots + MS2 ≤ MS := by omega)
     : Z κ pc lv (st0) ws cells slots := by
  obtain ⟨p, l, e, R, s, m, args, below, meth, c, Q, A, G⟩ := κ
  obtain ⟨hx, hb, hr, hlk, hml, hown, hts, hA, hRf, hRl, hRc, hRs, hK, hW, hSt, hnm⟩ := hk
  intro H locs ls hl hP hD hS
  subst hst
  obtain ⟨hF, hpre⟩ := z_pre (av := .ref b :: As) hS hA hP hD hK hW hSt hcut
  refine z_run (y := y2) (av := .ref b :: As) (va_runI (As := As) (rest := st) ⟨hx, hb, hml, hown, hts⟩ (hM H.size) (cwI nA hts (lw_meth q5) rfl rfl rfl (hts _ q4) (hts _ q1) (hts _ q2) hni hd ⟨by show rk2 + 1 ≤ R.frames; omega, by show 8 + (nL2 + 11) + 40 * rk2 ≤ R.locals; omega⟩) ⟨zPre_blind, hpre⟩ rfl hnA (hl.1.trans hml) rfl (lv_room hcs) d ⟨by omega, by omega⟩) hl hP hD hS hcut hF kk
theorem z_callIN {κ : zK} {y : MethodName} {cc : ByteArray} {ret : Option FieldType} {nL : Nat} {rk MC MS : Nat} (hk : Kx κ y cc ret nL rk MC MS) {pc : Nat} {lv : List (Nat × Value)} {st : List Value} {ws : va_W} {cells slots : Nat} {y2 : MethodName} {cc2 : ByteArray} {nL2 : Nat} {rk2 MC2 MS2 : Nat} {S : Type} {rv : S → Option Value} {post : S → Prop} {w1 : S → va_W} {wc : va_W} {idx : Nat} {b : Nat} {host : String} (As : List Value) (nA : Nat) (wr : va_W) (hM : Ct (kL κ) (kG κ) y2 cc2 nL2 none rk2 MC2 MS2 (.ref b :: As) wc rv post w1) (q1 : Cond.methodLinkNest y.cls idx y2 host ∈ lw_tbl) (q2 : Cond.instanceMethod y2 ∈ lw_all) (q4 : Cond.initialized y2.cls ∈ lw_all) (q5 : Cond.code y2 cc2 nL2 none ∈ lw_all) (hcut : zSub ws (wc ++ wr)) (d : decode cc pc = .ok (.invokespecial idx, 3)) {st0 : List Value} (hst : st0 = As.reverse ++ .ref b :: st) (kk : ∀ u : S, post u → Z κ (pc + 3) lv ((rv u).toList ++ st) (w1 u ++ wr) (cells + MC2) (slots + MS2)) (hni : y2.name = "<init>" := by rfl) (hd : y2.cls ≠ "java/lang/invoke/MethodHandle" ∧ y2.cls ≠ "java/lang/invoke/VarHandle" ∧ (parseMethodDescriptor y2.desc).map (fun d => d.parameters.length) = some nA := by decide +kernel) (hnA : As.length = nA := by rfl) (hfr : rk2 + 1 ≤ rk := by decide) (hlo : nL2 ≤ 21 := by decide) (hcs : (st.map fun v => v.category).sum ≤ 8 := by exact Nat.le_of_ble_eq_true rfl) (hce : cells + MC2 ≤ MC := by omega) (hsl : slots + MS2 ≤ MS := by omega)
     : Z κ pc lv (st0) ws cells slots := by
  obtain ⟨p, l, e, R, s, m, args, below, meth, c, Q, A, G⟩ := κ
  obtain ⟨hx, hb, hr, hlk, hml, hown, hts, hA, hRf, hRl, hRc, hRs, hK, hW, hSt, hnm⟩ := hk
  intro H locs ls hl hP hD hS
  subst hst
  obtain ⟨hF, hpre⟩ := z_pre (av := .ref b :: As) hS hA hP hD hK hW hSt hcut
  refine z_run (y := y2) (av := .ref b :: As) (va_runIN (As := As) (rest := st) ⟨hx, hb, hml, hown, hts⟩ (hM H.size) ⟨va_cnB nA hts (lw_meth q5) rfl rfl rfl (hW.nw q1) (hts _ q4) hd ⟨by show rk2 + 1 ≤ R.frames; omega, by show 8 + (nL2 + 11) + 40 * rk2 ≤ R.locals; omega⟩, hni, hts _ q2⟩ ⟨zPre_blind, hpre⟩ rfl hnA (hl.1.trans hml) rfl (lv_room hcs) d ⟨by omega, by omega⟩) hl hP hD hS hcut hF kk
