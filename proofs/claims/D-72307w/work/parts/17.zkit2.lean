/-! THE Z-KIT, second part -/
set_option maxRecDepth 100000
/-- as Met.ofW, for a method of a class some of whose methods an entry runs: she is none of them -/
theorem Met.ofF {l : Launch} {y : MethodName} {ws ws' : List Cond} {rm : Room} {Pc : Array Value → State → Prop} {Qc : Array Value → State → Outcome → State → Prop} {mc ms : Nat} {free : Addr → Prop} {cc : ByteArray} {maxL : Nat} {ret : Option FieldType}
    (hy : plainFor y = true) (hw : ws = Cond.code y cc maxL ret :: ws')
    (body : ∀ p e s m args below meth c s₁, BodyLoose p l y (headSpec ws rm) cc maxL ret e s m args below meth c s₁ → c.maxLocals = maxL → Pc args s →
      W p l e (headSpec ws rm).room s m args below meth c s.heap [] 0 0 (MQ below Qc args s mc ms free) (entryFrame m args maxL)) : Met l y ws rm Pc Qc mc ms free := by
  refine Jvm.Free.MetFree.of_bodySF (code := cc) (maxLocals := maxL) (ret := ret) hy ?_ ?_
  · intro args s m h hn
    obtain ⟨meth, c, h1, h2, h3, h4, h5, h6, -, -⟩ := Cond.code_spec hn (atoms_spec (ws := ws) h _ (by rw [hw]; exact List.mem_cons_self))
    exact ⟨meth, c, h1, h2, h3, h4, h5, h6⟩
  · intro p e s m args below meth c s₁ B hml hP _
    have hh0 : s₁.heap = s.heap := by rw [B.state]; rfl
    obtain ⟨t, a1, o, b1, b2, b3⟩ := body p e s m args below meth c s₁ B hml hP s₁ hh0 (Stand.of_body B)
    exact ⟨t, o, a1, b1, b2, ⟨b3.1, b3.2⟩⟩
theorem Ct.ofF {l : Launch} {G : zG} {y : MethodName} {cc : ByteArray} {nL : Nat} {ret : Option FieldType} {rk MC MS : Nat} {av : List Value} {wc : va_W} {S : Type} {rv : S → Option Value} {post : S → Prop} {w1 : S → va_W}
    (hy : plainFor y = true) (hn : (lg_sl av).length ≤ nL)
    (h : ∀ κ : zK, kL κ = l → kG κ = G → Kx κ y cc ret nL rk MC MS → zR κ MC MS rv post w1 → Z κ 0 (lv_args 0 av) [] wc 0 0) : Ct l G y cc nL ret rk MC MS av wc rv post w1 := by
  intro sz
  refine Met.ofF (cc := cc) (maxL := nL) (ret := ret) hy rfl ?_
  intro p e s m args below meth c s₁ B hml hv
  obtain ⟨rfl, hsz, hP, hK, hD0, hw, hs⟩ := hv
  subst hsz
  have hts := atoms_spec (ws := ws_ y cc nL ret) B.pre
  have hts : ∀ w ∈ lw_all, w.before _ s = true := fun w h => hts w (List.mem_cons_of_mem _ h)
  have hD := hD0.self (sz := s.heap.size)
  have hl := lv_entry av hn
  rw [lg_entry_eq]
  refine h (p, l, e, (headSpec (ws_ y cc nL ret) (zRm rk MC MS)).room, s, m, av.toArray, below, meth, c, MQ below (zPost G rv post w1 (va_A wc s.heap.size)) av.toArray s MC MS (va_A wc s.heap.size), va_A wc s.heap.size, G) rfl rfl
    ⟨B.exec, B.bytes, B.returns, B.notSynchronized, hml, findClass_of_methodNamed B.named, hts, fun q h => Or.inr h, Nat.le_refl _, Nat.le_refl _, rfl, rfl, hK, hw, hs, (name_of_methodNamed B.named B.method).1⟩ rfl s.heap [] _ (by rw [hml]; exact hl) hP hD va_S.rf
theorem iZ_tdiv (x : Int) (b : Nat) (hx : -2147483648 < x ∧ x ≤ 2147483647) (h0 : 0 < b) (hb : b < 2147483648) : iZ x / iZ (b : Int) = iZ (x.tdiv b) := by
  rw [← Int32.toInt_inj, Int32.toInt_div, iZ_toInt (by omega) hx.2, iZ_toInt (by omega) (by omega)]
  exact (Int32.toInt_ofInt).symm
theorem iZ_tmod (x : Int) (b : Nat) (hx : -2147483648 < x ∧ x ≤ 2147483647) (h0 : 0 < b) (hb : b < 2147483648) : iZ x - iZ x / iZ (b : Int) * iZ (b : Int) = iZ (x.tmod b) := by
  rw [iZ_tdiv x b hx h0 hb, iZ_mul, iZ_sub]
  congr 1
  have := Int.tmod_add_tdiv_mul x b
  omega
theorem z_lstore_n {κ : zK} {y : MethodName} {cc : ByteArray} {ret : Option FieldType} {nL : Nat} {rk MC MS : Nat} (hk : Kx κ y cc ret nL rk MC MS) {pc : Nat} {lv : List (Nat × Value)} {st : List Value} {ws : va_W} {cells slots : Nat} {k : Fin 4} {i : Nat} {x : Int64} (lv' : List (Nat × Value)) (d : decode cc pc = .ok (.lstore_n k, 1)) (hi : (k : Nat) = i := by rfl) (hn : i + 1 < nL := by decide) (hlv : (i, Value.long x) :: lv.filter (fun q => !(q.1 == i) && (!(q.1 == i + 1) && !(q.1 + 1 == i && q.2.category == 2))) = lv' := by rfl)
    (kk : Z κ (pc + 1) lv' (st) ws cells slots) : Z κ pc lv (.long x :: st) ws cells slots := by
  obtain ⟨p, l, e, R, s, m, args, below, meth, c, Q, A, G⟩ := κ
  obtain ⟨hx, hb, hr, hlk, hml, hown, hts, hA, hRf, hRl, hRc, hRs, hK, hW, hSt, hnm⟩ := hk
  intro H locs ls hl hP hD hS
  exact lv_lstore_n hx hb d hi hl (hml ▸ hn) hlv (fun ls' hl' => kk H locs ls' hl' hP hD hS)
theorem z_ifneB {κ : zK} {y : MethodName} {cc : ByteArray} {ret : Option FieldType} {nL : Nat} {rk MC MS : Nat} (hk : Kx κ y cc ret nL rk MC MS) {pc : Nat} {lv : List (Nat × Value)} {st : List Value} {ws : va_W} {cells slots : Nat} {x : Int32} {off : Int} (tgt : Nat) (d : decode cc pc = .ok (.ifCond .ne off, 3)) (kt : ¬ x = 0 → Z κ tgt lv st ws cells slots) (kf : x = 0 → Z κ (pc + 3) lv st ws cells slots) (ht : (pc : Int) + off = (tgt : Int) := by decide)
     : Z κ pc lv (.int x :: st) ws cells slots := by
  obtain ⟨p, l, e, R, s, m, args, below, meth, c, Q, A, G⟩ := κ
  obtain ⟨hx, hb, hr, hlk, hml, hown, hts, hA, hRf, hRl, hRc, hRs, hK, hW, hSt, hnm⟩ := hk
  intro H locs ls hl hP hD hS
  exact lv_if_ne hx hb d ht (fun h => kt h H locs ls hl hP hD hS) (fun h => kf h H locs ls hl hP hD hS)
theorem z_ifltB {κ : zK} {y : MethodName} {cc : ByteArray} {ret : Option FieldType} {nL : Nat} {rk MC MS : Nat} (hk : Kx κ y cc ret nL rk MC MS) {pc : Nat} {lv : List (Nat × Value)} {st : List Value} {ws : va_W} {cells slots : Nat} {x : Int32} {off : Int} (tgt : Nat) (d : decode cc pc = .ok (.ifCond .lt off, 3)) (kt : x < 0 → Z κ tgt lv st ws cells slots) (kf : ¬ x < 0 → Z κ (pc + 3) lv st ws cells slots) (ht : (pc : Int) + off = (tgt : Int) := by decide)
     : Z κ pc lv (.int x :: st) ws cells slots := by
  obtain ⟨p, l, e, R, s, m, args, below, meth, c, Q, A, G⟩ := κ
  obtain ⟨hx, hb, hr, hlk, hml, hown, hts, hA, hRf, hRl, hRc, hRs, hK, hW, hSt, hnm⟩ := hk
  intro H locs ls hl hP hD hS
  exact lv_if_lt hx hb d ht (fun h => kt h H locs ls hl hP hD hS) (fun h => kf h H locs ls hl hP hD hS)
theorem z_ifgeB {κ : zK} {y : MethodName} {cc : ByteArray} {ret : Option FieldType} {nL : Nat} {rk MC MS : Nat} (hk : Kx κ y cc ret nL rk MC MS) {pc : Nat} {lv : List (Nat × Value)} {st : List Value} {ws : va_W} {cells slots : Nat} {x : Int32} {off : Int} (tgt : Nat) (d : decode cc pc = .ok (.ifCond .ge off, 3)) (kt : 0 ≤ x → Z κ tgt lv st ws cells slots) (kf : ¬ 0 ≤ x → Z κ (pc + 3) lv st ws cells slots) (ht : (pc : Int) + off = (tgt : Int) := by decide)
     : Z κ pc lv (.int x :: st) ws cells slots := by
  obtain ⟨p, l, e, R, s, m, args, below, meth, c, Q, A, G⟩ := κ
  obtain ⟨hx, hb, hr, hlk, hml, hown, hts, hA, hRf, hRl, hRc, hRs, hK, hW, hSt, hnm⟩ := hk
  intro H locs ls hl hP hD hS
  exact lv_if_ge hx hb d ht (fun h => kt h H locs ls hl hP hD hS) (fun h => kf h H locs ls hl hP hD hS)
theorem z_ifleB {κ : zK} {y : MethodName} {cc : ByteArray} {ret : Option FieldType} {nL : Nat} {rk MC MS : Nat} (hk : Kx κ y cc ret nL rk MC MS) {pc : Nat} {lv : List (Nat × Value)} {st : List Value} {ws : va_W} {cells slots : Nat} {x : Int32} {off : Int} (tgt : Nat) (d : decode cc pc = .ok (.ifCond .le off, 3)) (kt : x ≤ 0 → Z κ tgt lv st ws cells slots) (kf : ¬ x ≤ 0 → Z κ (pc + 3) lv st ws cells slots) (ht : (pc : Int) + off = (tgt : Int) := by decide)
     : Z κ pc lv (.int x :: st) ws cells slots := by
  obtain ⟨p, l, e, R, s, m, args, below, meth, c, Q, A, G⟩ := κ
  obtain ⟨hx, hb, hr, hlk, hml, hown, hts, hA, hRf, hRl, hRc, hRs, hK, hW, hSt, hnm⟩ := hk
  intro H locs ls hl hP hD hS
  exact lv_if_le hx hb d ht (fun h => kt h H locs ls hl hP hD hS) (fun h => kf h H locs ls hl hP hD hS)
theorem z_iremZ {κ : zK} {y : MethodName} {cc : ByteArray} {ret : Option FieldType} {nL : Nat} {rk MC MS : Nat} (hk : Kx κ y cc ret nL rk MC MS) {pc : Nat} {lv : List (Nat × Value)} {st : List Value} {ws : va_W} {cells slots : Nat} {a : Int} {b : Nat} (d : decode cc pc = .ok (.irem, 1)) (ha : -2147483648 < a ∧ a ≤ 2147483647 := by omega) (h0 : 0 < b := by omega) (hb2 : b < 2147483648 := by omega)
    (kk : Z κ (pc + 1) lv (.int (iZ (a.tmod b)) :: st) ws cells slots) : Z κ pc lv (.int (iZ (b : Int)) :: .int (iZ a) :: st) ws cells slots := by
  obtain ⟨p, l, e, R, s, m, args, below, meth, c, Q, A, G⟩ := κ
  obtain ⟨hx, hb, hr, hlk, hml, hown, hts, hA, hRf, hRl, hRc, hRs, hK, hW, hSt, hnm⟩ := hk
  intro H locs ls hl hP hD hS
  refine lv_irem hx hb d (by rw [iZ_nI]; exact nI_ne0 h0 (by omega)) ?_
  rw [iZ_tmod a b ha h0 hb2]
  exact kk H locs ls hl hP hD hS
theorem z_lcmpB {κ : zK} {y : MethodName} {cc : ByteArray} {ret : Option FieldType} {nL : Nat} {rk MC MS : Nat} (hk : Kx κ y cc ret nL rk MC MS) {pc : Nat} {lv : List (Nat × Value)} {st : List Value} {ws : va_W} {cells slots : Nat} {a b : Int64} (d : decode cc pc = .ok (.lcmp, 1))
    (kk : Z κ (pc + 1) lv (.int (lg_cmp a b) :: st) ws cells slots) : Z κ pc lv (.long b :: .long a :: st) ws cells slots := by
  obtain ⟨p, l, e, R, s, m, args, below, meth, c, Q, A, G⟩ := κ
  obtain ⟨hx, hb, hr, hlk, hml, hown, hts, hA, hRf, hRl, hRc, hRs, hK, hW, hSt, hnm⟩ := hk
  intro H locs ls hl hP hD hS
  exact W.lcmp hx hb d (kk H locs ls hl hP hD hS)
theorem lgc0 {a b : Int64} : lg_cmp a b = 0 ↔ a = b := by
  unfold lg_cmp
  constructor
  · intro h
    split at h
    · exact absurd h (by decide)
    · split at h
      · assumption
      · exact absurd h (by decide)
  · intro h
    subst h
    rw [if_neg (fun q => Int64.lt_irrefl q), if_pos rfl]
section ZS2
variable {κ : zK} {pc : Nat} {lv : List (Nat × Value)} {st : List Value} {ws : va_W} {cells slots : Nat}
/-- the content of an array of references, or of longs, says nothing beyond its end -/
theorem z_arrL {ws' : va_W} (q0 : Nat) {a n : Nat} {f g : Nat → Option Nat} (ha : ws[q0]? = some (a, zL (kG κ) n f)) (hf : ∀ j, j < n → f j = g j) (hw : ws.set q0 (a, zL (kG κ) n g) = ws') (kk : Z κ pc lv st ws' cells slots) : Z κ pc lv st ws cells slots := by
  obtain ⟨p, l, e, R, s, m, args, below, meth, c, Q, A, G⟩ := κ
  intro H locs ls hl hP hD hS
  subst hw
  have e1 : va_at G.1 zCl (a, zL G n g) H := by
    show H[a]? = some (vp_cell (G.2.1 4) (n, .inr (.inr (.inr (.inr g)))))
    have h0 : H[a]? = some (vp_cell (G.2.1 4) (n, .inr (.inr (.inr (.inr f))))) := hP q0 _ ha
    rw [h0, vp_cell_q, vp_cell_q, arrV_congr (fun j hj => by rw [hf j hj])]
  exact kk H locs ls hl (hP.set hD ha e1 (fun _ _ => rfl)) (hD.set ha) hS
theorem z_arrJ {ws' : va_W} (q0 : Nat) {a n : Nat} {f g : Nat → Int64} (ha : ws[q0]? = some (a, zJ (kG κ) n f)) (hf : ∀ j, j < n → f j = g j) (hw : ws.set q0 (a, zJ (kG κ) n g) = ws') (kk : Z κ pc lv st ws' cells slots) : Z κ pc lv st ws cells slots := by
  obtain ⟨p, l, e, R, s, m, args, below, meth, c, Q, A, G⟩ := κ
  intro H locs ls hl hP hD hS
  subst hw
  have e1 : va_at G.1 zCl (a, zJ G n g) H := by
    show H[a]? = some (vp_cell (G.2.1 1) (n, .inr (.inl g)))
    have h0 : H[a]? = some (vp_cell (G.2.1 1) (n, .inr (.inl f))) := hP q0 _ ha
    rw [h0, vp_cell_l, vp_cell_l, arrV_congr (fun j hj => by rw [hf j hj])]
  exact kk H locs ls hl (hP.set hD ha e1 (fun _ _ => rfl)) (hD.set ha) hS
/-- a cell of the world gone -/
theorem zz_drop {E T : va_W} : zSub (E ++ T) E := ⟨id, fun k q hk => by rw [id, List.getElem?_append_left (List.getElem?_eq_some_iff.mp hk).1]; exact hk, fun _ _ _ _ _ _ h => h⟩
theorem zSub.app {E E' T : va_W} (h : zSub E E') : zSub (E ++ T) (E' ++ T) := by
  obtain ⟨g, h1, h2⟩ := h
  have key : ∀ (k : Nat) (q : Nat × va_E), (E' ++ T)[k]? = some q → (k < E'.length ∧ E'[k]? = some q) ∨ (E'.length ≤ k ∧ T[k - E'.length]? = some q) := by
    intro k q hk
    rcases Nat.lt_or_ge k E'.length with h | h
    · rw [List.getElem?_append_left h] at hk; exact Or.inl ⟨h, hk⟩
    · rw [List.getElem?_append_right h] at hk; exact Or.inr ⟨h, hk⟩
  refine ⟨fun k => if k < E'.length then g k else E.length + (k - E'.length), fun k q hk => ?_, fun i j p q hi hj e => ?_⟩
  · rcases key k q hk with ⟨h, hk⟩ | ⟨h, hk⟩
    · simp only [if_pos h]
      have := h1 k q hk
      rw [List.getElem?_append_left (List.getElem?_eq_some_iff.mp this).1]; exact this
    · simp only [if_neg (Nat.not_lt.mpr h)]
      rw [List.getElem?_append_right (Nat.le_add_right _ _), Nat.add_sub_cancel_left]; exact hk
  · rcases key i p hi with ⟨a1, a2⟩ | ⟨a1, a2⟩ <;> rcases key j q hj with ⟨b1, b2⟩ | ⟨b1, b2⟩
    · simp only [if_pos a1, if_pos b1] at e; exact h2 i j p q a2 b2 e
    · simp only [if_pos a1, if_neg (Nat.not_lt.mpr b1)] at e
      have := (List.getElem?_eq_some_iff.mp (h1 i p a2)).1
      omega
    · simp only [if_pos b1, if_neg (Nat.not_lt.mpr a1)] at e
      have := (List.getElem?_eq_some_iff.mp (h1 j q b2)).1
      omega
    · simp only [if_neg (Nat.not_lt.mpr a1), if_neg (Nat.not_lt.mpr b1)] at e; omega
/-- the last part of three goes to the middle, and back -/
theorem zSub.mid {X Y T : va_W} : zSub (X ++ Y ++ T) (X ++ T ++ Y) := by
  have key : ∀ (k : Nat) (q : Nat × va_E), (X ++ T ++ Y)[k]? = some q → (k < X.length ∧ X[k]? = some q) ∨ (X.length ≤ k ∧ k < X.length + T.length ∧ T[k - X.length]? = some q) ∨ (X.length + T.length ≤ k ∧ Y[k - X.length - T.length]? = some q ∧ k - X.length - T.length < Y.length) := by
    intro k q hk
    rw [List.append_assoc] at hk
    rcases Nat.lt_or_ge k X.length with h | h
    · rw [List.getElem?_append_left h] at hk; exact Or.inl ⟨h, hk⟩
    · rw [List.getElem?_append_right h] at hk
      rcases Nat.lt_or_ge (k - X.length) T.length with h2 | h2
      · rw [List.getElem?_append_left h2] at hk; exact Or.inr (Or.inl ⟨h, by omega, hk⟩)
      · rw [List.getElem?_append_right h2] at hk; exact Or.inr (Or.inr ⟨by omega, hk, (List.getElem?_eq_some_iff.mp hk).1⟩)
  refine ⟨fun k => if k < X.length then k else if k < X.length + T.length then k + Y.length else k - T.length, fun k q hk => ?_, fun i j p q hi hj e => ?_⟩
  · rcases key k q hk with ⟨h, hk⟩ | ⟨h, h2, hk⟩ | ⟨h, hk, h3⟩
    · simp only [if_pos h]
      rw [List.append_assoc, List.getElem?_append_left h]; exact hk
    · simp only [if_neg (Nat.not_lt.mpr h), if_pos h2]
      rw [List.getElem?_append_right (by rw [List.length_append]; omega), List.length_append, show k + Y.length - (X.length + Y.length) = k - X.length from by omega]; exact hk
    · simp only [if_neg (show ¬ k < X.length by omega), if_neg (Nat.not_lt.mpr h)]
      rw [List.getElem?_append_left (by rw [List.length_append]; omega), List.getElem?_append_right (by omega), show k - T.length - X.length = k - X.length - T.length from by omega]; exact hk
  · rcases key i p hi with ⟨a1, -⟩ | ⟨a1, a2, -⟩ | ⟨a1, -, a3⟩ <;> rcases key j q hj with ⟨b1, -⟩ | ⟨b1, b2, -⟩ | ⟨b1, -, b3⟩ <;> (dsimp only at e; (repeat' (split at e)) <;> omega)
end ZS2
theorem z_aloadQ_n {κ : zK} {y : MethodName} {cc : ByteArray} {ret : Option FieldType} {nL : Nat} {rk MC MS : Nat} (hk : Kx κ y cc ret nL rk MC MS) {pc : Nat} {lv : List (Nat × Value)} {st : List Value} {ws : va_W} {cells slots : Nat} {k : Fin 4} {i : Nat} {o : Option Nat} (d : decode cc pc = .ok (.aload_n k, 1)) (j : Nat) (hj : lv[j]? = some (i, va_rf o)) (hi : (k : Nat) = i := by rfl)
    (kk : Z κ (pc + 1) lv (va_rf o :: st) ws cells slots) : Z κ pc lv (st) ws cells slots := by
  obtain ⟨p, l, e, R, s, m, args, below, meth, c, Q, A, G⟩ := κ
  obtain ⟨hx, hb, hr, hlk, hml, hown, hts, hA, hRf, hRl, hRc, hRs, hK, hW, hSt, hnm⟩ := hk
  intro H locs ls hl hP hD hS
  cases o with
  | none => exact lv_aload_nN hx hb d hi (lv_at hl j hj) (kk H locs ls hl hP hD hS)
  | some x => exact lv_aload_n hx hb d hi (lv_at hl j hj) (kk H locs ls hl hP hD hS)
theorem z_astoreN {κ : zK} {y : MethodName} {cc : ByteArray} {ret : Option FieldType} {nL : Nat} {rk MC MS : Nat} (hk : Kx κ y cc ret nL rk MC MS) {pc : Nat} {lv : List (Nat × Value)} {st : List Value} {ws : va_W} {cells slots : Nat} {i : Nat} (lv' : List (Nat × Value)) (d : decode cc pc = .ok (.astore i, 2)) (hn : i < nL := by decide) (hlv : (i, Value.null) :: lv.filter (fun q => !(q.1 == i) && !(q.1 + 1 == i && q.2.category == 2)) = lv' := by rfl)
    (kk : Z κ (pc + 2) lv' (st) ws cells slots) : Z κ pc lv (.null :: st) ws cells slots := by
  obtain ⟨p, l, e, R, s, m, args, below, meth, c, Q, A, G⟩ := κ
  obtain ⟨hx, hb, hr, hlk, hml, hown, hts, hA, hRf, hRl, hRc, hRs, hK, hW, hSt, hnm⟩ := hk
  intro H locs ls hl hP hD hS
  exact lv_astoreN hx hb d hl (hml ▸ hn) hlv (fun ls' hl' => kk H locs ls' hl' hP hD hS)
theorem z_astoreQ_n {κ : zK} {y : MethodName} {cc : ByteArray} {ret : Option FieldType} {nL : Nat} {rk MC MS : Nat} (hk : Kx κ y cc ret nL rk MC MS) {pc : Nat} {lv : List (Nat × Value)} {st : List Value} {ws : va_W} {cells slots : Nat} {k : Fin 4} {i : Nat} {o : Option Nat} (lv' : List (Nat × Value)) (d : decode cc pc = .ok (.astore_n k, 1)) (hi : (k : Nat) = i := by rfl) (hn : i < nL := by decide) (hlv : (i, va_rf o) :: lv.filter (fun q => !(q.1 == i) && !(q.1 + 1 == i && q.2.category == 2)) = lv' := by rfl)
    (kk : Z κ (pc + 1) lv' (st) ws cells slots) : Z κ pc lv (va_rf o :: st) ws cells slots := by
  obtain ⟨p, l, e, R, s, m, args, below, meth, c, Q, A, G⟩ := κ
  obtain ⟨hx, hb, hr, hlk, hml, hown, hts, hA, hRf, hRl, hRc, hRs, hK, hW, hSt, hnm⟩ := hk
  intro H locs ls hl hP hD hS
  cases o with
  | none => exact lv_astore_nN hx hb d hi hl (hml ▸ hn) hlv (fun ls' hl' => kk H locs ls' hl' hP hD hS)
  | some x => exact lv_astore_n hx hb d hi hl (hml ▸ hn) hlv (fun ls' hl' => kk H locs ls' hl' hP hD hS)
theorem zz_nq {C : String} (o : Option Nat) : narrow (.object C) (va_rf o) = va_rf o := by cases o <;> rfl
theorem zz_fq {C : String} (o : Option Nat) : fits (.object C) (va_rf o) = true := by cases o <;> rfl
theorem z_getAD {κ : zK} {y : MethodName} {cc : ByteArray} {ret : Option FieldType} {nL : Nat} {rk MC MS : Nat} (hk : Kx κ y cc ret nL rk MC MS) {pc : Nat} {lv : List (Nat × Value)} {st : List Value} {ws : va_W} {cells slots : Nat} {own : String} {index : Nat} (hown2 : y.cls = own) (hq : Cond.fieldLink own index "java/util/BitSet" "$assertionsDisabled" "Z" ∈ lw_all) (d : decode cc pc = .ok (.getstatic index, 3))
    (kk : Z κ (pc + 3) lv (.int (iZ 1) :: st) ws cells slots) : Z κ pc lv (st) ws cells slots := by
  obtain ⟨p, l, e, R, s, m, args, below, meth, c, Q, A, G⟩ := κ
  obtain ⟨hx, hb, hr, hlk, hml, hown, hts, hA, hRf, hRl, hRc, hRs, hK, hW, hSt, hnm⟩ := hk
  intro H locs ls hl hP hD hS
  subst hown2
  exact va_gets hx hb hSt.1 hS hown (hts _ hq) (fun _ h => h) d (kk H locs ls hl hP hD hS)
theorem z_getHi {κ : zK} {y : MethodName} {cc : ByteArray} {ret : Option FieldType} {nL : Nat} {rk MC MS : Nat} (hk : Kx κ y cc ret nL rk MC MS) {pc : Nat} {lv : List (Nat × Value)} {st : List Value} {ws : va_W} {cells slots : Nat} {own : String} {index : Nat} (hown2 : y.cls = own) (hq : Cond.fieldLink own index "java/lang/Integer$IntegerCache" "high" "I" ∈ lw_all) (d : decode cc pc = .ok (.getstatic index, 3))
    (kk : Z κ (pc + 3) lv (.int (iZ 127) :: st) ws cells slots) : Z κ pc lv (st) ws cells slots := by
  obtain ⟨p, l, e, R, s, m, args, below, meth, c, Q, A, G⟩ := κ
  obtain ⟨hx, hb, hr, hlk, hml, hown, hts, hA, hRf, hRl, hRc, hRs, hK, hW, hSt, hnm⟩ := hk
  intro H locs ls hl hP hD hS
  subst hown2
  exact va_gets hx hb hSt.2.1 hS hown (hts _ hq) (fun _ h => h) d (kk H locs ls hl hP hD hS)
theorem z_getCa {κ : zK} {y : MethodName} {cc : ByteArray} {ret : Option FieldType} {nL : Nat} {rk MC MS : Nat} (hk : Kx κ y cc ret nL rk MC MS) {pc : Nat} {lv : List (Nat × Value)} {st : List Value} {ws : va_W} {cells slots : Nat} {own : String} {index : Nat} (hown2 : y.cls = own) (hq : Cond.fieldLink own index "java/lang/Integer$IntegerCache" "cache" "[Ljava/lang/Integer;" ∈ lw_all) (d : decode cc pc = .ok (.getstatic index, 3))
    (kk : Z κ (pc + 3) lv (.ref (kG κ).2.2.2.1 :: st) ws cells slots) : Z κ pc lv (st) ws cells slots := by
  obtain ⟨p, l, e, R, s, m, args, below, meth, c, Q, A, G⟩ := κ
  obtain ⟨hx, hb, hr, hlk, hml, hown, hts, hA, hRf, hRl, hRc, hRs, hK, hW, hSt, hnm⟩ := hk
  intro H locs ls hl hP hD hS
  subst hown2
  exact va_gets hx hb hSt.2.2.1 hS hown (hts _ hq) (fun _ h => h) d (kk H locs ls hl hP hD hS)
theorem z_getEm {κ : zK} {y : MethodName} {cc : ByteArray} {ret : Option FieldType} {nL : Nat} {rk MC MS : Nat} (hk : Kx κ y cc ret nL rk MC MS) {pc : Nat} {lv : List (Nat × Value)} {st : List Value} {ws : va_W} {cells slots : Nat} {own : String} {index : Nat} {host : String} (hown2 : y.cls = own) (hq : Cond.fieldLinkNest own index "java/util/ImmutableCollections" "EMPTY" "Ljava/lang/Object;" host ∈ lw_tbl) (d : decode cc pc = .ok (.getstatic index, 3))
    (kk : Z κ (pc + 3) lv (.ref (kG κ).2.2.2.2 :: st) ws cells slots) : Z κ pc lv (st) ws cells slots := by
  obtain ⟨p, l, e, R, s, m, args, below, meth, c, Q, A, G⟩ := κ
  obtain ⟨hx, hb, hr, hlk, hml, hown, hts, hA, hRf, hRl, hRc, hRs, hK, hW, hSt, hnm⟩ := hk
  intro H locs ls hl hP hD hS
  subst hown2
  exact va_getsN hx hb hSt.2.2.2.2.2.1 hS hown (va_Nw.use rfl (hW.nw hq)) (fun _ h => h) d (kk H locs ls hl hP hD hS)
theorem z_neEm {κ : zK} {y : MethodName} {cc : ByteArray} {ret : Option FieldType} {nL : Nat} {rk MC MS : Nat} (hk : Kx κ y cc ret nL rk MC MS) {pc : Nat} {lv : List (Nat × Value)} {st : List Value} {ws : va_W} {cells slots : Nat} (q0 : Nat) {a : Nat} {x : va_E} (ha : ws[q0]? = some (a, x)) (kk : ¬ a = (kG κ).2.2.2.2 → Z κ pc lv st ws cells slots) : Z κ pc lv st ws cells slots := by
  obtain ⟨p, l, e, R, s, m, args, below, meth, c, Q, A, G⟩ := κ
  have hSt := hk.2.2.2.2.2.2.2.2.2.2.2.2.2.2.1
  intro H locs ls hl hP hD hS
  refine kk (fun e => ?_) H locs ls hl hP hD hS
  exact hSt.2.2.2.2.2.2 (show A G.2.2.2.2 from (show a = G.2.2.2.2 from e) ▸ hD.2 q0 _ ha)
theorem z_aldC {κ : zK} {y : MethodName} {cc : ByteArray} {ret : Option FieldType} {nL : Nat} {rk MC MS : Nat} (hk : Kx κ y cc ret nL rk MC MS) {pc : Nat} {lv : List (Nat × Value)} {st : List Value} {ws : va_W} {cells slots : Nat} {v : Nat} (d : decode cc pc = .ok (.aaload, 1)) (hv : v < 256)
    (kk : Z κ (pc + 1) lv (.ref ((kG κ).2.2.1 v) :: st) ws cells slots) : Z κ pc lv (.int (iZ (v : Int)) :: .ref (kG κ).2.2.2.1 :: st) ws cells slots := by
  obtain ⟨p, l, e, R, s, m, args, below, meth, c, Q, A, G⟩ := κ
  obtain ⟨hx, hb, hr, hlk, hml, hown, hts, hA, hRf, hRl, hRc, hRs, hK, hW, hSt, hnm⟩ := hk
  intro H locs ls hl hP hD hS
  exact vb_tq hx hb hSt.2.2.2.1 hS (v := .ref (G.2.2.1 v)) (iZ_in hv (by decide)) (by rw [iZ_cl (by omega)]) d (kk H locs ls hl hP hD hS)
theorem zz_vbc : ∀ v, v < 16 → vb_c (128 + v) = iZ (v : Int) := by decide
theorem z_getV {κ : zK} {y : MethodName} {cc : ByteArray} {ret : Option FieldType} {nL : Nat} {rk MC MS : Nat} (hk : Kx κ y cc ret nL rk MC MS) {pc : Nat} {lv : List (Nat × Value)} {st : List Value} {ws : va_W} {cells slots : Nat} {v index : Nat} {own : String} (hown2 : y.cls = own) (hq : Cond.fieldLink own index "java/lang/Integer" "value" "I" ∈ lw_all) (d : decode cc pc = .ok (.getfield index, 3)) (hv : v < 16)
    (kk : Z κ (pc + 3) lv (.int (iZ (v : Int)) :: st) ws cells slots) : Z κ pc lv (.ref ((kG κ).2.2.1 (128 + v)) :: st) ws cells slots := by
  obtain ⟨p, l, e, R, s, m, args, below, meth, c, Q, A, G⟩ := κ
  obtain ⟨hx, hb, hr, hlk, hml, hown, hts, hA, hRf, hRl, hRc, hRs, hK, hW, hSt, hnm⟩ := hk
  intro H locs ls hl hP hD hS
  subst hown2
  refine va_getX (i := 128 + v) (v := fun k => .int (vb_c k)) hx hb hSt.2.2.2.2.1.2 (show 128 + v < 256 by omega) hS hown (hts _ hq) (fun _ h => h) d ?_
  have e : vb_c (128 + v) = iZ (v : Int) := zz_vbc v hv
  show W _ _ _ _ _ _ _ _ _ _ _ _ _ _ _ (F0 m (pc + 3) ls (.int (vb_c (128 + v)) :: st))
  rw [e]
  exact kk H locs ls hl hP hD hS
theorem z_castI {κ : zK} {y : MethodName} {cc : ByteArray} {ret : Option FieldType} {nL : Nat} {rk MC MS : Nat} (hk : Kx κ y cc ret nL rk MC MS) {pc : Nat} {lv : List (Nat × Value)} {st : List Value} {ws : va_W} {cells slots : Nat} {a n index : Nat} {t : Nat → Nat} {own : String} (q0 : Nat) (hown2 : y.cls = own) (hq : Cond.classLink own index "[I" ∈ lw_all) (d : decode cc pc = .ok (.checkcast index, 3)) (ha : ws[q0]? = some (a, zI (kG κ) n t))
    (kk : Z κ (pc + 3) lv (.ref a :: st) ws cells slots) : Z κ pc lv (.ref a :: st) ws cells slots := by
  obtain ⟨p, l, e, R, s, m, args, below, meth, c, Q, A, G⟩ := κ
  obtain ⟨hx, hb, hr, hlk, hml, hown, hts, hA, hRf, hRl, hRc, hRs, hK, hW, hSt, hnm⟩ := hk
  intro H locs ls hl hP hD hS
  subst hown2
  exact va_castA hx hb hown (hts _ hq) hP q0 ha (hK.2 0 (G.2.1 0, .int) rfl).2 d (kk H locs ls hl hP hD hS)
theorem z_castJ {κ : zK} {y : MethodName} {cc : ByteArray} {ret : Option FieldType} {nL : Nat} {rk MC MS : Nat} (hk : Kx κ y cc ret nL rk MC MS) {pc : Nat} {lv : List (Nat × Value)} {st : List Value} {ws : va_W} {cells slots : Nat} {a n index : Nat} {f : Nat → Int64} {own : String} (q0 : Nat) (hown2 : y.cls = own) (hq : Cond.classLink own index "[J" ∈ lw_all) (d : decode cc pc = .ok (.checkcast index, 3)) (ha : ws[q0]? = some (a, zJ (kG κ) n f))
    (kk : Z κ (pc + 3) lv (.ref a :: st) ws cells slots) : Z κ pc lv (.ref a :: st) ws cells slots := by
  obtain ⟨p, l, e, R, s, m, args, below, meth, c, Q, A, G⟩ := κ
  obtain ⟨hx, hb, hr, hlk, hml, hown, hts, hA, hRf, hRl, hRc, hRs, hK, hW, hSt, hnm⟩ := hk
  intro H locs ls hl hP hD hS
  subst hown2
  exact va_castA hx hb hown (hts _ hq) hP q0 ha (hK.2 1 (G.2.1 1, .long) rfl).2 d (kk H locs ls hl hP hD hS)
theorem z_castO {κ : zK} {y : MethodName} {cc : ByteArray} {ret : Option FieldType} {nL : Nat} {rk MC MS : Nat} (hk : Kx κ y cc ret nL rk MC MS) {pc : Nat} {lv : List (Nat × Value)} {st : List Value} {ws : va_W} {cells slots : Nat} {a ci index : Nat} {fs : List Value} {C : String} {T : u_T} {N : Nat} {own : String} (q0 : Nat) (hown2 : y.cls = own) (hq : Cond.classLink own index C ∈ lw_all) (d : decode cc pc = .ok (.checkcast index, 3)) (ha : ws[q0]? = some (a, zO ci fs))
    (kk : Z κ (pc + 3) lv (.ref a :: st) ws cells slots) (hc : zCl[ci]? = some (C, T, N) := by rfl) : Z κ pc lv (.ref a :: st) ws cells slots := by
  obtain ⟨p, l, e, R, s, m, args, below, meth, c, Q, A, G⟩ := κ
  obtain ⟨hx, hb, hr, hlk, hml, hown, hts, hA, hRf, hRl, hRc, hRs, hK, hW, hSt, hnm⟩ := hk
  intro H locs ls hl hP hD hS
  subst hown2
  exact va_castE hx hb hown (hts _ hq) (va_recv hK hP hc ha) d (kk H locs ls hl hP hD hS)
theorem z_castV {κ : zK} {y : MethodName} {cc : ByteArray} {ret : Option FieldType} {nL : Nat} {rk MC MS : Nat} (hk : Kx κ y cc ret nL rk MC MS) {pc : Nat} {lv : List (Nat × Value)} {st : List Value} {ws : va_W} {cells slots : Nat} {v index : Nat} {own : String} (hown2 : y.cls = own) (hq : Cond.classLink own index "java/lang/Integer" ∈ lw_all) (d : decode cc pc = .ok (.checkcast index, 3)) (hv : v < 16)
    (kk : Z κ (pc + 3) lv (.ref ((kG κ).2.2.1 (128 + v)) :: st) ws cells slots) : Z κ pc lv (.ref ((kG κ).2.2.1 (128 + v)) :: st) ws cells slots := by
  obtain ⟨p, l, e, R, s, m, args, below, meth, c, Q, A, G⟩ := κ
  obtain ⟨hx, hb, hr, hlk, hml, hown, hts, hA, hRf, hRl, hRc, hRs, hK, hW, hSt, hnm⟩ := hk
  intro H locs ls hl hP hD hS
  subst hown2
  refine va_castE hx hb hown (hts _ hq) ?_ d (kk H locs ls hl hP hD hS)
  obtain ⟨cell, h1, h2, h3, -⟩ := (hSt.2.2.2.2.1.1 (128 + v) (by omega)).kept hS.2.1
  exact ⟨cell, h1, h2, h3⟩
theorem z_instV {κ : zK} {y : MethodName} {cc : ByteArray} {ret : Option FieldType} {nL : Nat} {rk MC MS : Nat} (hk : Kx κ y cc ret nL rk MC MS) {pc : Nat} {lv : List (Nat × Value)} {st : List Value} {ws : va_W} {cells slots : Nat} {v index : Nat} {own : String} (hown2 : y.cls = own) (hq : Cond.classLink own index "java/lang/Integer" ∈ lw_all) (d : decode cc pc = .ok (.instanceof index, 3)) (hv : v < 16)
    (kk : Z κ (pc + 3) lv (.int (iZ 1) :: st) ws cells slots) : Z κ pc lv (.ref ((kG κ).2.2.1 (128 + v)) :: st) ws cells slots := by
  obtain ⟨p, l, e, R, s, m, args, below, meth, c, Q, A, G⟩ := κ
  obtain ⟨hx, hb, hr, hlk, hml, hown, hts, hA, hRf, hRl, hRc, hRs, hK, hW, hSt, hnm⟩ := hk
  intro H locs ls hl hP hD hS
  subst hown2
  refine va_instE hx hb hown (hts _ hq) ?_ d (kk H locs ls hl hP hD hS)
  obtain ⟨cell, h1, h2, h3, -⟩ := (hSt.2.2.2.2.1.1 (128 + v) (by omega)).kept hS.2.1
  exact ⟨cell, h1, h2, h3⟩
theorem z_getM {κ : zK} {y : MethodName} {cc : ByteArray} {ret : Option FieldType} {nL : Nat} {rk MC MS : Nat} (hk : Kx κ y cc ret nL rk MC MS) {pc : Nat} {lv : List (Nat × Value)} {st : List Value} {ws : va_W} {cells slots : Nat} {C : String} {T : u_T} {N ci : Nat} (hin : ∀ w ∈ u_ws C T N, w ∈ lw_all) {a : Nat} {fs : List Value} {v : Value} {ref : String} {index : Nat} (q0 k : Nat) (hsm : Cond.sameField ref (T k).1 (T k).2.1 (T k).2.2.1 ∈ lw_all) (hq : Cond.fieldLink y.cls index ref (T k).2.1 (T k).2.2.1 ∈ lw_all) (d : decode cc pc = .ok (.getfield index, 3)) (he : ws[q0]? = some (a, zO ci fs)) (hv : fs[k]? = some v) (hc : zCl[ci]? = some (C, T, N) := by rfl) (hk2 : k < N := by decide)
    (kk : Z κ (pc + 3) lv (v :: st) ws cells slots) : Z κ pc lv (.ref a :: st) ws cells slots := by
  obtain ⟨p, l, e, R, s, m, args, below, meth, c, Q, A, G⟩ := κ
  obtain ⟨hx, hb, hr, hlk, hml, hown, hts, hA, hRf, hRl, hRc, hRs, hK, hW, hSt, hnm⟩ := hk
  intro H locs ls hl hP hD hS
  exact va_get (C := C) (T := T) (N := N) hx hb hts hin hown hK hP q0 he hc k hk2 (hts _ hq) (u_same (hts _ hsm)) hv d (kk H locs ls hl hP hD hS)
theorem z_putM {κ : zK} {y : MethodName} {cc : ByteArray} {ret : Option FieldType} {nL : Nat} {rk MC MS : Nat} (hk : Kx κ y cc ret nL rk MC MS) {pc : Nat} {lv : List (Nat × Value)} {st : List Value} {ws : va_W} {cells slots : Nat} {C : String} {T : u_T} {N ci : Nat} (hin : ∀ w ∈ u_ws C T N, w ∈ lw_all)(ty0 : Nat → FieldType) (hty : ∀ k, k < N → parseFieldDescriptor (T k).2.2.1 = some (ty0 k)) (hnm2 : ∀ a, a < N → ∀ b, b < N → a ≠ b → (T a).2.1 ≠ (T b).2.1) {a : Nat} {fs : List Value} {v : Value} {ref : String} {index : Nat} (q0 k : Nat) (ws' : va_W) (hsm : Cond.sameField ref (T k).1 (T k).2.1 (T k).2.2.1 ∈ lw_all) (hq : Cond.fieldLink y.cls index ref (T k).2.1 (T k).2.2.1 ∈ lw_all) (d : decode cc pc = .ok (.putfield index, 3)) (he : ws[q0]? = some (a, zO ci fs)) (kk : Z κ (pc + 3) lv st ws' cells slots) (hn : narrow (ty0 k) v = v := by rfl) (hfit : fits (ty0 k) v = true := by rfl) (hc : zCl[ci]? = some (C, T, N) := by rfl) (hk2 : k < N := by decide) (hl2 : k < fs.length := by exact Nat.le_of_ble_eq_true rfl) (hw : ws.set q0 (a, zO ci (fs.set k v)) = ws' := by rfl) (hfin : (T k).2.2.2 = false := by rfl)
     : Z κ pc lv (v :: .ref a :: st) ws cells slots := by
  obtain ⟨p, l, e, R, s, m, args, below, meth, c, Q, A, G⟩ := κ
  obtain ⟨hx, hb, hr, hlk, hml, hown, hts, hA, hRf, hRl, hRc, hRs, hK, hW, hSt, hnm⟩ := hk
  intro H locs ls hl hP hD hS
  subst hw
  exact va_put (C := C) (T := T) (N := N) hx hb hts hin ty0 hty hnm2 hown hK hP hD hS q0 he hc k hk2 (hts _ hq) (u_same (hts _ hsm)) hfin (hty k hk2) hn hfit hl2 d (fun H1 locs1 h1 h2 h3 => kk H1 locs1 ls hl h1 h2 h3)
theorem z_aastI {κ : zK} {y : MethodName} {cc : ByteArray} {ret : Option FieldType} {nL : Nat} {rk MC MS : Nat} (hk : Kx κ y cc ret nL rk MC MS) {pc : Nat} {lv : List (Nat × Value)} {st : List Value} {ws : va_W} {cells slots : Nat} {a n v nv : Nat} {tv : Nat → Nat} {f : Nat → Option Nat} {i : Nat} (q0 q1 : Nat) (ws' : va_W) (hca : Cond.castable "[I" "java/lang/Object" ∈ lw_tbl) (d : decode cc pc = .ok (.aastore, 1)) (ha : ws[q0]? = some (a, zL (kG κ) n f)) (hv : ws[q1]? = some (v, zI (kG κ) nv tv)) (kk : Z κ (pc + 1) lv st ws' cells slots) (hin : i < n := by omega) (hn : n < 2147483648 := by omega) (hw : ws.set q0 (a, zL (kG κ) n (va_up f i (some v))) = ws' := by rfl)
     : Z κ pc lv (.ref v :: .int (iZ (i : Int)) :: .ref a :: st) ws cells slots := by
  obtain ⟨p, l, e, R, s, m, args, below, meth, c, Q, A, G⟩ := κ
  obtain ⟨hx, hb, hr, hlk, hml, hown, hts, hA, hRf, hRl, hRc, hRs, hK, hW, hSt, hnm⟩ := hk
  intro H locs ls hl hP hD hS
  subst hw
  refine vb_astq (C := "[I") (E := "java/lang/Object") hx hb hK hP hD hS q0 4 ha rfl ⟨_, hP q1 _ hv, rfl, (hK.2 0 (G.2.1 0, .int) rfl).2⟩ (vb_asgC (hW.nw hca)) (iZ_in hin hn) d (fun H1 locs1 h1 h2 h3 => ?_)
  rw [iZ_cl (by omega)] at h1 h2
  exact kk H1 locs1 ls hl h1 h2 h3
theorem z_callU {κ : zK} {y : MethodName} {cc : ByteArray} {ret : Option FieldType} {nL : Nat} {rk MC MS : Nat} (hk : Kx κ y cc ret nL rk MC MS) {pc : Nat} {lv : List (Nat × Value)} {st : List Value} {ws : va_W} {cells slots : Nat} {y2 : MethodName} {cc2 : ByteArray} {nL2 : Nat} {ret2 : Option FieldType} {rk2 MC2 MS2 : Nat} {S : Type} {rv : S → Option Value} {post : S → Prop} {w1 : S → va_W} {wc : va_W} {idx : Nat} {b : Nat} (As : List Value) (nA : Nat) (wr : va_W) (x2 : MethodName) (owner C : String) (hM : Ct (kL κ) (kG κ) y2 cc2 nL2 ret2 rk2 MC2 MS2 (.ref b :: As) wc rv post w1) (q1 : Cond.methodLink y.cls idx x2 ∈ lw_all) (qs : Cond.sameMethod x2.cls owner x2.name x2.desc ∈ lw_all) (qd : Cond.declares ⟨owner, x2.name, x2.desc⟩ ∈ lw_tbl) (q3 : Cond.selects C x2 y2 ∈ lw_all) (q2 : Cond.instanceMethod y2 ∈ lw_all) (q4 : Cond.initialized y2.cls ∈ lw_all) (q5 : Cond.code y2 cc2 nL2 ret2 ∈ lw_all) (hcut : zSub ws (wc ++ wr)) (j ci : Nat) {fs : List Value} (hj : wc[j]? = some (b, zO ci fs)) {T : u_T} {N : Nat} (d : decode cc pc = .ok (.invokevirtual idx, 3)) {st0 : List Value} (hst : st0 = As.reverse ++ .ref b :: st) (kk : ∀ u : S, post u → Z κ (pc + 3) lv ((rv u).toList ++ st) (w1 u ++ wr) (cells + MC2) (slots + MS2)) (hcc : zCl[ci]? = some (C, T, N) := by rfl) (hd : owner ≠ "java/lang/invoke/MethodHandle" ∧ owner ≠ "java/lang/invoke/VarHandle" ∧ (parseMethodDescriptor x2.desc).map (fun d => d.parameters.length) = some nA := by decide +kernel) (hnA : As.length = nA := by rfl) (hfr : rk2 + 1 ≤ rk := by decide) (hlo : nL2 ≤ 21 := by decide) (hcs : (st.map fun v => v.category).sum ≤ 8 := by exact Nat.le_of_ble_eq_true rfl) (hce : cells + MC2 ≤ MC := by omega) (hsl : slots + MS2 ≤ MS := by omega)
     : Z κ pc lv (st0) ws cells slots := by
  obtain ⟨p, l, e, R, s, m, args, below, meth, c, Q, A, G⟩ := κ
  obtain ⟨hx, hb, hr, hlk, hml, hown, hts, hA, hRf, hRl, hRc, hRs, hK, hW, hSt, hnm⟩ := hk
  intro H locs ls hl hP hD hS
  subst hst
  obtain ⟨hF, hpre⟩ := z_pre (av := .ref b :: As) hS hA hP hD hK hW hSt hcut
  have hj2 : (wc ++ wr)[j]? = some (b, zO ci fs) := by rw [List.getElem?_append_left (List.getElem?_eq_some_iff.mp hj).1]; exact hj
  have hT : GoodIn lw_all (va_wsU y.cls idx C owner x2 y2 (ws_ y2 cc2 nL2 ret2)) := lw_app (fun w hw => by
    simp only [List.mem_cons, List.not_mem_nil, or_false] at hw
    rcases hw with rfl | rfl | rfl | rfl | rfl
    · exact q1
    · exact qs
    · exact q3
    · exact q2
    · exact q4) (lw_meth q5)
  refine z_run (y := y2) (av := .ref b :: As) (va_runU (C := C) (As := As) (rest := st) ⟨hx, hb, hml, hown, hts⟩ (hM H.size) (va_cwA nA hts hT rfl rfl rfl (hW.nw qd) hd ⟨by show rk2 + 1 ≤ R.frames; omega, by show 8 + (nL2 + 11) + 40 * rk2 ≤ R.locals; omega⟩) ⟨zPre_blind, va_recv hK (hcut.P hP) hcc hj2, hpre⟩ rfl hnA (hl.1.trans hml) rfl (lv_room hcs) d ⟨by omega, by omega⟩) hl hP hD hS hcut hF kk
theorem z_callF {κ : zK} {y : MethodName} {cc : ByteArray} {ret : Option FieldType} {nL : Nat} {rk MC MS : Nat} (hk : Kx κ y cc ret nL rk MC MS) {pc : Nat} {lv : List (Nat × Value)} {st : List Value} {ws : va_W} {cells slots : Nat} {y2 : MethodName} {cc2 : ByteArray} {nL2 : Nat} {ret2 : Option FieldType} {rk2 MC2 MS2 : Nat} {S : Type} {rv : S → Option Value} {post : S → Prop} {w1 : S → va_W} {wc : va_W} {idx : Nat} {b : Nat} (As : List Value) (nA : Nat) (wr : va_W) (x2 : MethodName) (C : String) {count : Nat} (hM : Ct (kL κ) (kG κ) y2 cc2 nL2 ret2 rk2 MC2 MS2 (.ref b :: As) wc rv post w1) (q1 : Cond.methodLink y.cls idx x2 ∈ lw_all) (hFw : (C, x2, y2) ∈ zFw) (q3 : Cond.selects C x2 y2 ∈ lw_all) (q2 : Cond.instanceMethod y2 ∈ lw_all) (q4 : Cond.initialized y2.cls ∈ lw_all) (q5 : Cond.code y2 cc2 nL2 ret2 ∈ lw_all) (hcut : zSub ws (wc ++ wr)) (j ci : Nat) {fs : List Value} (hj : wc[j]? = some (b, zO ci fs)) {T : u_T} {N : Nat} (d : decode cc pc = .ok (.invokeinterface idx count, 5)) {st0 : List Value} (hst : st0 = As.reverse ++ .ref b :: st) (kk : ∀ u : S, post u → Z κ (pc + 5) lv ((rv u).toList ++ st) (w1 u ++ wr) (cells + MC2) (slots + MS2)) (hcc : zCl[ci]? = some (C, T, N) := by rfl) (hd : x2.cls ≠ "java/lang/invoke/MethodHandle" ∧ x2.cls ≠ "java/lang/invoke/VarHandle" ∧ (parseMethodDescriptor x2.desc).map (fun d => d.parameters.length) = some nA := by decide +kernel) (hnA : As.length = nA := by rfl) (hfr : rk2 + 1 ≤ rk := by decide) (hlo : nL2 ≤ 21 := by decide) (hcs : (st.map fun v => v.category).sum ≤ 8 := by exact Nat.le_of_ble_eq_true rfl) (hce : cells + MC2 ≤ MC := by omega) (hsl : slots + MS2 ≤ MS := by omega)
     : Z κ pc lv (st0) ws cells slots := by
  obtain ⟨p, l, e, R, s, m, args, below, meth, c, Q, A, G⟩ := κ
  obtain ⟨hx, hb, hr, hlk, hml, hown, hts, hA, hRf, hRl, hRc, hRs, hK, hW, hSt, hnm⟩ := hk
  intro H locs ls hl hP hD hS
  subst hst
  obtain ⟨hF, hpre⟩ := z_pre (av := .ref b :: As) hS hA hP hD hK hW hSt hcut
  have hj2 : (wc ++ wr)[j]? = some (b, zO ci fs) := by rw [List.getElem?_append_left (List.getElem?_eq_some_iff.mp hj).1]; exact hj
  have hT : GoodIn lw_all (va_wsF y.cls idx C x2 y2 (ws_ y2 cc2 nL2 ret2)) := lw_app (fun w hw => by
    simp only [List.mem_cons, List.not_mem_nil, or_false] at hw
    rcases hw with rfl | rfl | rfl | rfl
    · exact q1
    · exact q3
    · exact q2
    · exact q4) (lw_meth q5)
  refine z_run5 (y := y2) (av := .ref b :: As) (va_runF (C := C) (As := As) (rest := st) (hK.1 ci _ hcc).2 ⟨hx, hb, hml, hown, hts⟩ (hM H.size) (va_cwF nA hts hT rfl rfl rfl (hW.2.2 _ hFw) hd ⟨by show rk2 + 1 ≤ R.frames; omega, by show 8 + (nL2 + 11) + 40 * rk2 ≤ R.locals; omega⟩) ⟨zPre_blind, va_recv hK (hcut.P hP) hcc hj2, hpre⟩ rfl hnA (hl.1.trans hml) rfl (lv_room hcs) d ⟨by omega, by omega⟩) hl hP hD hS hcut hF kk
theorem z_callVi {κ : zK} {y : MethodName} {cc : ByteArray} {ret : Option FieldType} {nL : Nat} {rk MC MS : Nat} (hk : Kx κ y cc ret nL rk MC MS) {pc : Nat} {lv : List (Nat × Value)} {st : List Value} {ws : va_W} {cells slots : Nat} {y2 : MethodName} {cc2 : ByteArray} {nL2 : Nat} {ret2 : Option FieldType} {rk2 MC2 MS2 : Nat} {S : Type} {rv : S → Option Value} {post : S → Prop} {w1 : S → va_W} {wc : va_W} {idx : Nat} {v : Nat} (As : List Value) (nA : Nat) (wr : va_W) (hM : Ct (kL κ) (kG κ) y2 cc2 nL2 ret2 rk2 MC2 MS2 (.ref ((kG κ).2.2.1 (128 + v)) :: As) wc rv post w1) (q1 : Cond.methodLink y.cls idx y2 ∈ lw_all) (q2 : Cond.instanceMethod y2 ∈ lw_all) (q3 : Cond.selects y2.cls y2 y2 ∈ lw_all) (q4 : Cond.initialized y2.cls ∈ lw_all) (q5 : Cond.code y2 cc2 nL2 ret2 ∈ lw_all) (hcut : zSub ws (wc ++ wr)) (hv : v < 16) (d : decode cc pc = .ok (.invokevirtual idx, 3)) {st0 : List Value} (hst : st0 = As.reverse ++ .ref ((kG κ).2.2.1 (128 + v)) :: st) (kk : ∀ u : S, post u → Z κ (pc + 3) lv ((rv u).toList ++ st) (w1 u ++ wr) (cells + MC2) (slots + MS2)) (hC : "java/lang/Integer" = y2.cls := by rfl) (hd : y2.cls ≠ "java/lang/invoke/MethodHandle" ∧ y2.cls ≠ "java/lang/invoke/VarHandle" ∧ (parseMethodDescriptor y2.desc).map (fun d => d.parameters.length) = some nA := by decide +kernel) (hnA : As.length = nA := by rfl) (hfr : rk2 + 1 ≤ rk := by decide) (hlo : nL2 ≤ 21 := by decide) (hcs : (st.map fun v => v.category).sum ≤ 8 := by exact Nat.le_of_ble_eq_true rfl) (hce : cells + MC2 ≤ MC := by omega) (hsl : slots + MS2 ≤ MS := by omega)
     : Z κ pc lv (st0) ws cells slots := by
  obtain ⟨p, l, e, R, s, m, args, below, meth, c, Q, A, G⟩ := κ
  obtain ⟨hx, hb, hr, hlk, hml, hown, hts, hA, hRf, hRl, hRc, hRs, hK, hW, hSt, hnm⟩ := hk
  intro H locs ls hl hP hD hS
  subst hst
  obtain ⟨hF, hpre⟩ := z_pre (av := .ref (G.2.2.1 (128 + v)) :: As) hS hA hP hD hK hW hSt hcut
  have hrc : ∃ cell : Cell, H[G.2.2.1 (128 + v)]? = some cell ∧ cell.vm.isStatics = false ∧ s.vm.findClass y2.cls = some cell.cls := by
    obtain ⟨cell, g1, g2, g3, -⟩ := (hSt.2.2.2.2.1.1 (128 + v) (by omega)).kept hS.2.1
    exact ⟨cell, g1, g2, by rw [← hC]; exact g3⟩
  refine z_run (y := y2) (av := .ref (G.2.2.1 (128 + v)) :: As) (va_runV (C := y2.cls) (As := As) (rest := st) ⟨hx, hb, hml, hown, hts⟩ (hM H.size) (cwV nA hts (lw_V q1 q2 q3 q4 q5) rfl rfl rfl ⟨rfl, hd⟩ ⟨by show rk2 + 1 ≤ R.frames; omega, by show 8 + (nL2 + 11) + 40 * rk2 ≤ R.locals; omega⟩) ⟨zPre_blind, hrc, hpre⟩ rfl hnA (hl.1.trans hml) rfl (lv_room hcs) d ⟨by omega, by omega⟩) hl hP hD hS hcut hF kk
theorem z_callUi {κ : zK} {y : MethodName} {cc : ByteArray} {ret : Option FieldType} {nL : Nat} {rk MC MS : Nat} (hk : Kx κ y cc ret nL rk MC MS) {pc : Nat} {lv : List (Nat × Value)} {st : List Value} {ws : va_W} {cells slots : Nat} {y2 : MethodName} {cc2 : ByteArray} {nL2 : Nat} {ret2 : Option FieldType} {rk2 MC2 MS2 : Nat} {S : Type} {rv : S → Option Value} {post : S → Prop} {w1 : S → va_W} {wc : va_W} {idx : Nat} {v : Nat} (As : List Value) (nA : Nat) (wr : va_W) (x2 : MethodName) (owner : String) (hM : Ct (kL κ) (kG κ) y2 cc2 nL2 ret2 rk2 MC2 MS2 (.ref ((kG κ).2.2.1 (128 + v)) :: As) wc rv post w1) (q1 : Cond.methodLink y.cls idx x2 ∈ lw_all) (qs : Cond.sameMethod x2.cls owner x2.name x2.desc ∈ lw_all) (qd : Cond.declares ⟨owner, x2.name, x2.desc⟩ ∈ lw_tbl) (q3 : Cond.selects "java/lang/Integer" x2 y2 ∈ lw_all) (q2 : Cond.instanceMethod y2 ∈ lw_all) (q4 : Cond.initialized y2.cls ∈ lw_all) (q5 : Cond.code y2 cc2 nL2 ret2 ∈ lw_all) (hcut : zSub ws (wc ++ wr)) (hv : v < 16) (d : decode cc pc = .ok (.invokevirtual idx, 3)) {st0 : List Value} (hst : st0 = As.reverse ++ .ref ((kG κ).2.2.1 (128 + v)) :: st) (kk : ∀ u : S, post u → Z κ (pc + 3) lv ((rv u).toList ++ st) (w1 u ++ wr) (cells + MC2) (slots + MS2)) (hd : owner ≠ "java/lang/invoke/MethodHandle" ∧ owner ≠ "java/lang/invoke/VarHandle" ∧ (parseMethodDescriptor x2.desc).map (fun d => d.parameters.length) = some nA := by decide +kernel) (hnA : As.length = nA := by rfl) (hfr : rk2 + 1 ≤ rk := by decide) (hlo : nL2 ≤ 21 := by decide) (hcs : (st.map fun v => v.category).sum ≤ 8 := by exact Nat.le_of_ble_eq_true rfl) (hce : cells + MC2 ≤ MC := by omega) (hsl : slots + MS2 ≤ MS := by omega)
     : Z κ pc lv (st0) ws cells slots := by
  obtain ⟨p, l, e, R, s, m, args, below, meth, c, Q, A, G⟩ := κ
  obtain ⟨hx, hb, hr, hlk, hml, hown, hts, hA, hRf, hRl, hRc, hRs, hK, hW, hSt, hnm⟩ := hk
  intro H locs ls hl hP hD hS
  subst hst
  obtain ⟨hF, hpre⟩ := z_pre (av := .ref (G.2.2.1 (128 + v)) :: As) hS hA hP hD hK hW hSt hcut
  have hrc : ∃ cell : Cell, H[G.2.2.1 (128 + v)]? = some cell ∧ cell.vm.isStatics = false ∧ s.vm.findClass "java/lang/Integer" = some cell.cls := by
    obtain ⟨cell, g1, g2, g3, -⟩ := (hSt.2.2.2.2.1.1 (128 + v) (by omega)).kept hS.2.1
    exact ⟨cell, g1, g2, g3⟩
  have hT : GoodIn lw_all (va_wsU y.cls idx "java/lang/Integer" owner x2 y2 (ws_ y2 cc2 nL2 ret2)) := lw_app (fun w hw => by
    simp only [List.mem_cons, List.not_mem_nil, or_false] at hw
    rcases hw with rfl | rfl | rfl | rfl | rfl
    · exact q1
    · exact qs
    · exact q3
    · exact q2
    · exact q4) (lw_meth q5)
  refine z_run (y := y2) (av := .ref (G.2.2.1 (128 + v)) :: As) (va_runU (C := "java/lang/Integer") (As := As) (rest := st) ⟨hx, hb, hml, hown, hts⟩ (hM H.size) (va_cwA nA hts hT rfl rfl rfl (hW.nw qd) hd ⟨by show rk2 + 1 ≤ R.frames; omega, by show 8 + (nL2 + 11) + 40 * rk2 ≤ R.locals; omega⟩) ⟨zPre_blind, hrc, hpre⟩ rfl hnA (hl.1.trans hml) rfl (lv_room hcs) d ⟨by omega, by omega⟩) hl hP hD hS hcut hF kk
theorem zz_fitI {cA : ClassId} {n i : Nat} {t : Nat → Nat} {v : Value} (h : (vp_cell cA (n, .inl (iA t))).slots[i]? = some v) : fits .int v = true := by
  rw [vp_cell_i] at h
  simp only [arrV, Array.getElem?_ofFn] at h
  split at h
  · cases h; rfl
  · cases h
theorem zz_fitJ {cA : ClassId} {n i : Nat} {t : Nat → Int64} {v : Value} (h : (vp_cell cA (n, .inr (.inl t))).slots[i]? = some v) : fits .long v = true := by
  rw [vp_cell_l] at h
  simp only [arrV, Array.getElem?_ofFn] at h
  split at h
  · cases h; rfl
  · cases h
theorem z_cloneI {κ : zK} {y : MethodName} {cc : ByteArray} {ret : Option FieldType} {nL : Nat} {rk MC MS : Nat} (hk : Kx κ y cc ret nL rk MC MS) {pc : Nat} {lv : List (Nat × Value)} {st : List Value} {ws : va_W} {cells slots : Nat} {a n index : Nat} {t : Nat → Nat} {own : String} (q0 : Nat) (hown2 : y.cls = own) (hq : Cond.methodLink own index ⟨"[I", "clone", "()Ljava/lang/Object;"⟩ ∈ lw_all) (q1 : Cond.sameMethod "[I" "java/lang/Object" "clone" "()Ljava/lang/Object;" ∈ lw_all) (q2 : Cond.native ⟨"java/lang/Object", "clone", "()Ljava/lang/Object;"⟩ ∈ lw_all) (q3 : Cond.instanceMethod ⟨"java/lang/Object", "clone", "()Ljava/lang/Object;"⟩ ∈ lw_all) (q4 : Cond.selects "[I" ⟨"[I", "clone", "()Ljava/lang/Object;"⟩ ⟨"java/lang/Object", "clone", "()Ljava/lang/Object;"⟩ ∈ lw_all) (q5 : Cond.castable "[I" "java/lang/Cloneable" ∈ lw_tbl) (d : decode cc pc = .ok (.invokevirtual index, 3)) (ha : ws[q0]? = some (a, zI (kG κ) n t)) (kk : ∀ q : Nat, Z κ (pc + 3) lv (.ref q :: st) (ws ++ [(q, zI (kG κ) n t)]) (cells + 1) (slots + n)) (hf : 1 ≤ rk := by decide) (hcs : (st.map fun v => v.category).sum ≤ 8 := by exact Nat.le_of_ble_eq_true rfl) (hce : cells + 1 ≤ MC := by omega) (hsl : slots + n ≤ MS := by omega)
     : Z κ pc lv (.ref a :: st) ws cells slots := by
  obtain ⟨p, l, e, R, s, m, args, below, meth, c, Q, A, G⟩ := κ
  obtain ⟨hx, hb, hr, hlk, hml, hown, hts, hA, hRf, hRl, hRc, hRs, hK, hW, hSt, hnm⟩ := hk
  intro H locs ls hl hP hD hS
  subst hown2
  refine va_clone hx hb (hl.1.symm) hown (hts _ hq) (hts _ q1) (hts _ q2) (hts _ q3) (hts _ q4) (hW.nw q5) hK hP hD hS hA q0 0 ha rfl (hK.2 0 (G.2.1 0, .int) rfl).2 (fun i v h => zz_fitI h) (by omega) (by omega) (by omega) (by show slots + n ≤ _; omega) d (fun q H1 k1 p1 d1 s1 => kk q H1 locs ls hl p1 d1 s1)
theorem z_cloneJ {κ : zK} {y : MethodName} {cc : ByteArray} {ret : Option FieldType} {nL : Nat} {rk MC MS : Nat} (hk : Kx κ y cc ret nL rk MC MS) {pc : Nat} {lv : List (Nat × Value)} {st : List Value} {ws : va_W} {cells slots : Nat} {a n index : Nat} {t : Nat → Int64} {own : String} (q0 : Nat) (hown2 : y.cls = own) (hq : Cond.methodLink own index ⟨"[J", "clone", "()Ljava/lang/Object;"⟩ ∈ lw_all) (q1 : Cond.sameMethod "[J" "java/lang/Object" "clone" "()Ljava/lang/Object;" ∈ lw_all) (q2 : Cond.native ⟨"java/lang/Object", "clone", "()Ljava/lang/Object;"⟩ ∈ lw_all) (q3 : Cond.instanceMethod ⟨"java/lang/Object", "clone", "()Ljava/lang/Object;"⟩ ∈ lw_all) (q4 : Cond.selects "[J" ⟨"[J", "clone", "()Ljava/lang/Object;"⟩ ⟨"java/lang/Object", "clone", "()Ljava/lang/Object;"⟩ ∈ lw_all) (q5 : Cond.castable "[J" "java/lang/Cloneable" ∈ lw_tbl) (d : decode cc pc = .ok (.invokevirtual index, 3)) (ha : ws[q0]? = some (a, zJ (kG κ) n t)) (kk : ∀ q : Nat, Z κ (pc + 3) lv (.ref q :: st) (ws ++ [(q, zJ (kG κ) n t)]) (cells + 1) (slots + n)) (hf : 1 ≤ rk := by decide) (hcs : (st.map fun v => v.category).sum ≤ 8 := by exact Nat.le_of_ble_eq_true rfl) (hce : cells + 1 ≤ MC := by omega) (hsl : slots + n ≤ MS := by omega)
     : Z κ pc lv (.ref a :: st) ws cells slots := by
  obtain ⟨p, l, e, R, s, m, args, below, meth, c, Q, A, G⟩ := κ
  obtain ⟨hx, hb, hr, hlk, hml, hown, hts, hA, hRf, hRl, hRc, hRs, hK, hW, hSt, hnm⟩ := hk
  intro H locs ls hl hP hD hS
  subst hown2
  refine va_clone hx hb (hl.1.symm) hown (hts _ hq) (hts _ q1) (hts _ q2) (hts _ q3) (hts _ q4) (hW.nw q5) hK hP hD hS hA q0 1 ha rfl (hK.2 1 (G.2.1 1, .long) rfl).2 (fun i v h => zz_fitJ h) (by omega) (by omega) (by omega) (by show slots + n ≤ _; omega) d (fun q H1 k1 p1 d1 s1 => kk q H1 locs ls hl p1 d1 s1)
theorem zz_nfw : nativeFrameWords "java/lang/System" "arraycopy" 5 ≤ 20 := by decide
theorem z_copyI {κ : zK} {y : MethodName} {cc : ByteArray} {ret : Option FieldType} {nL : Nat} {rk MC MS : Nat} (hk : Kx κ y cc ret nL rk MC MS) {pc : Nat} {lv : List (Nat × Value)} {st : List Value} {ws : va_W} {cells slots : Nat} {a0 a1 n0 n1 k index : Nat} {f g : Nat → Nat} {own : String} (q0 q1 : Nat) (ws' : va_W) (hown2 : y.cls = own) (hq : Cond.methodLink own index arraycopyName ∈ lw_all) (h1 : Cond.native arraycopyName ∈ lw_all) (h2 : Cond.static arraycopyName ∈ lw_all) (h3 : Cond.initialized "java/lang/System" ∈ lw_all) (d : decode cc pc = .ok (.invokestatic index, 3)) (ha : ws[q0]? = some (a0, zI (kG κ) n0 f)) (hb2 : ws[q1]? = some (a1, zI (kG κ) n1 g)) (kk : Z κ (pc + 3) lv st ws' cells slots) (hk0 : k ≤ n0 ∧ k ≤ n1 ∧ k < 2147483648 := by omega) (hw : ws.set q1 (a1, zI (kG κ) n1 (fun j => if j < k then f j else g j)) = ws' := by rfl) (hf : 1 ≤ rk := by decide) (hcs : (st.map fun v => v.category).sum ≤ 8 := by exact Nat.le_of_ble_eq_true rfl)
     : Z κ pc lv (.int (iZ (k : Int)) :: .int (iZ 0) :: .ref a1 :: .int (iZ 0) :: .ref a0 :: st) ws cells slots := by
  obtain ⟨p, l, e, R, s, m, args, below, meth, c, Q, A, G⟩ := κ
  obtain ⟨hx, hb, hr, hlk, hml, hown, hts, hA, hRf, hRl, hRc, hRs, hK, hW, hSt, hnm⟩ := hk
  intro H locs ls hl hP hD hS
  subst hown2
  subst hw
  have e0 : (iZ 0).toNatClampNeg = 0 := rfl
  have ek : (iZ (k : Int)).toNatClampNeg = k := iZ_cl hk0.2.2
  have g0 : ¬ iZ (k : Int) < 0 := by
    rw [show (0 : Int32) = iZ 0 from rfl, iZ_lt (by omega) (by omega)]; omega
  refine va_copyi (ty := .int) hx hb (hl.1.symm) hown (hts _ hq) (hts _ h1) (hts _ h2) (hts _ h3) hK hP hD hS q0 q1 0 0 ha hb2 rfl rfl rfl (by decide) (by decide) g0 (by rw [e0, ek]; omega) (by rw [e0, ek]; omega) (fun _ _ => rfl) (by omega) (by have := zz_nfw; omega) d (fun H1 locs1 p1 d1 s1 => ?_)
  have e : va_cpy (iA f) (iA g) (iZ 0).toNatClampNeg (iZ 0).toNatClampNeg (iZ (k : Int)).toNatClampNeg = iA (fun j => if j < k then f j else g j) := by
    rw [e0, ek]
    funext j
    unfold va_cpy iA
    simp only [Nat.zero_le, true_and, Nat.zero_add, Nat.sub_zero]
    split <;> rfl
  rw [e] at p1 d1
  exact kk H1 locs1 ls hl p1 d1 s1
