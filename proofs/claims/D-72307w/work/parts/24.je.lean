/-! a list's nodes -/
def nds (n : Nat) (c : Nat → Nat × va_E) : va_W := (List.range n).map c
def ndC (G : zG) (n : Nat) (A X : Nat → Nat) (i : Nat) : Nat × va_E := (A i, zO 7 [.ref (G.2.2.1 (128 + X i)), va_rf (if i + 1 < n then some (A (i + 1)) else none), va_rf (if 0 < i then some (A (i - 1)) else none)])
def ups (c : Nat → Nat × va_E) (i : Nat) (x : Nat × va_E) : Nat → Nat × va_E := fun j => if j = i then x else c j
def fstO : Nat → (Nat → Nat) → Option Nat
  | 0, _ => none
  | _ + 1, A => some (A 0)
def lstO : Nat → (Nat → Nat) → Option Nat
  | 0, _ => none
  | n + 1, A => some (A n)
def skp (A : Nat → Nat) (i : Nat) : Nat → Nat := fun j => if j < i then A j else A (j + 1)
theorem fstO_p {n : Nat} {A : Nat → Nat} (h : 1 ≤ n) : fstO n A = some (A 0) := by
  cases n with
  | zero => omega
  | succ n => rfl
theorem lstO_p {n : Nat} {A : Nat → Nat} (h : 1 ≤ n) : lstO n A = some (A (n - 1)) := by
  cases n with
  | zero => omega
  | succ n => rfl
theorem ups_eq {c : Nat → Nat × va_E} {i : Nat} {x : Nat × va_E} : ups c i x i = x := by unfold ups; rw [if_pos rfl]
theorem ups_ne {c : Nat → Nat × va_E} {i j : Nat} {x y : Nat × va_E} (h : j ≠ i) (e : c j = y) : ups c i x j = y := by unfold ups; rw [if_neg h, e]
theorem nds_get {n i : Nat} {c : Nat → Nat × va_E} (h : i < n) : (nds n c)[i]? = some (c i) := by
  unfold nds; rw [List.getElem?_map, List.getElem?_range h]; rfl
theorem ndx_get {E : va_W} {n i k : Nat} {c : Nat → Nat × va_E} {x : Nat × va_E} (hE : E.length = k) (h : i < n) (hx : c i = x) : (E ++ nds n c)[k + i]? = some x := by
  rw [← hE, List.getElem?_append_right (Nat.le_add_right _ _), Nat.add_sub_cancel_left, nds_get h, hx]
theorem nds_congr {n : Nat} {c c' : Nat → Nat × va_E} (h : ∀ i, i < n → c i = c' i) : nds n c = nds n c' := List.map_congr_left fun i hi => h i (List.mem_range.mp hi)
theorem nds_set {n i : Nat} {c : Nat → Nat × va_E} {x : Nat × va_E} : (nds n c).set i x = nds n (ups c i x) := by
  apply List.ext_getElem?
  intro j
  rw [List.getElem?_set]
  have hl : (nds n c).length = n := by unfold nds; rw [List.length_map, List.length_range]
  have hl2 : (nds n (ups c i x)).length = n := by unfold nds; rw [List.length_map, List.length_range]
  by_cases hj : j < n
  · rw [nds_get hj, nds_get hj]
    by_cases e : i = j
    · subst e; rw [if_pos rfl, if_pos (by omega), ups_eq]
    · rw [if_neg e, ups_ne (fun q => e q.symm) rfl]
  · rw [List.getElem?_eq_none (by omega : (nds n (ups c i x)).length ≤ j), List.getElem?_eq_none (by omega : (nds n c).length ≤ j)]
    split
    · rw [if_neg (by omega)]
    · rfl
theorem ndx_set {E : va_W} {n i k : Nat} {c : Nat → Nat × va_E} {x : Nat × va_E} (hE : E.length = k) : (E ++ nds n c).set (k + i) x = E ++ nds n (ups c i x) := by
  rw [← hE, List.set_append_right _ _ (Nat.le_add_right _ _), Nat.add_sub_cancel_left, nds_set]
theorem nds_snoc {n : Nat} {c : Nat → Nat × va_E} : nds (n + 1) c = nds n c ++ [c n] := by unfold nds; rw [List.range_succ, List.map_append]; rfl
theorem zSub.eq {a b : va_W} (h : a = b) : zSub a b := h ▸ zSub.rfl'
theorem nds_del {n i : Nat} {c : Nat → Nat × va_E} (hi : i < n) : zSub (nds n c) (nds (n - 1) (fun j => c (if j < i then j else j + 1))) := by
  refine ⟨fun j => if j < i then j else j + 1, fun k q hk => ?_, fun a b p q ha hb e => ?_⟩
  · have hl : (nds (n - 1) (fun j => c (if j < i then j else j + 1))).length = n - 1 := by unfold nds; rw [List.length_map, List.length_range]
    have hk2 := (List.getElem?_eq_some_iff.mp hk).1
    rw [hl] at hk2
    rw [nds_get hk2] at hk
    rw [nds_get (show (if k < i then k else k + 1) < n by split <;> omega)]
    exact hk
  · dsimp only at e
    split at e <;> split at e <;> omega
theorem zSub.appR {E T T' : va_W} (h : zSub T T') : zSub (E ++ T) (E ++ T') := by
  obtain ⟨g, h1, h2⟩ := h
  have key : ∀ (k : Nat) (q : Nat × va_E), (E ++ T')[k]? = some q → (k < E.length ∧ E[k]? = some q) ∨ (E.length ≤ k ∧ T'[k - E.length]? = some q) := by
    intro k q hk
    rcases Nat.lt_or_ge k E.length with h | h
    · rw [List.getElem?_append_left h] at hk; exact Or.inl ⟨h, hk⟩
    · rw [List.getElem?_append_right h] at hk; exact Or.inr ⟨h, hk⟩
  refine ⟨fun k => if k < E.length then k else E.length + g (k - E.length), fun k q hk => ?_, fun i j p q hi hj e => ?_⟩
  · rcases key k q hk with ⟨h, hk⟩ | ⟨h, hk⟩
    · simp only [if_pos h]; rw [List.getElem?_append_left h]; exact hk
    · simp only [if_neg (Nat.not_lt.mpr h)]
      rw [List.getElem?_append_right (Nat.le_add_right _ _), Nat.add_sub_cancel_left]; exact h1 _ q hk
  · rcases key i p hi with ⟨a1, a2⟩ | ⟨a1, a2⟩ <;> rcases key j q hj with ⟨b1, b2⟩ | ⟨b1, b2⟩
    · simp only [if_pos a1, if_pos b1] at e; exact e
    · simp only [if_pos a1, if_neg (Nat.not_lt.mpr b1)] at e; omega
    · simp only [if_pos b1, if_neg (Nat.not_lt.mpr a1)] at e; omega
    · simp only [if_neg (Nat.not_lt.mpr a1), if_neg (Nat.not_lt.mpr b1)] at e
      have := h2 _ _ p q a2 b2 (by omega)
      omega
theorem ndE {G : zG} {a b x y : Nat} {o p r t : Option Nat} (h1 : a = b) (h2 : x = y) (h3 : o = p) (h4 : r = t) : ((a, zO 7 [.ref (G.2.2.1 (128 + x)), va_rf o, va_rf r]) : Nat × va_E) = (b, zO 7 [.ref (G.2.2.1 (128 + y)), va_rf p, va_rf t]) := by
  subst h1; subst h2; subst h3; subst h4; rfl
/-- a new last node -/
theorem nd_add {G : zG} {k q v : Nat} {A X : Nat → Nat} : nds (k + 1) (ups (ndC G (k + 1) A X) k (A k, zO 7 [.ref (G.2.2.1 (128 + X k)), .ref q, va_rf (if 0 < k then some (A (k - 1)) else none)])) ++ [(q, zO 7 [.ref (G.2.2.1 (128 + v)), .null, .ref (A k)])] = nds (k + 1 + 1) (ndC G (k + 1 + 1) (va_up A (k + 1) q) (va_up X (k + 1) v)) := by
  rw [nds_snoc (n := k + 1)]
  congr 1
  · refine nds_congr fun i hi => ?_
    by_cases e : i = k
    · subst e
      rw [ups_eq]
      unfold ndC va_up
      refine ndE (o := some q) ?_ ?_ ?_ ?_ <;> ((repeat' split) <;> first | rfl | (exfalso; omega) | (congr 1; omega) | (congr 2; omega))
    · rw [ups_ne e rfl]
      unfold ndC va_up
      refine ndE ?_ ?_ ?_ ?_ <;> ((repeat' split) <;> first | rfl | (exfalso; omega) | (congr 1; omega) | (congr 2; omega))
  · congr 1
    unfold ndC va_up
    refine ndE (o := none) (r := some (A k)) ?_ ?_ ?_ ?_ <;> ((repeat' split) <;> first | rfl | (exfalso; omega) | (congr 1; omega) | (congr 2; omega))
/-- a node gone: what the nodes that stay hold -/
theorem nd_gone {G : zG} {n i : Nat} {A X : Nat → Nat} {c : Nat → Nat × va_E} (hi : i < n) (h0 : ∀ j, j < n → j + 1 ≠ i → j ≠ i → j ≠ i + 1 → c j = ndC G n A X j)
    (h1 : 0 < i → c (i - 1) = (A (i - 1), zO 7 [.ref (G.2.2.1 (128 + X (i - 1))), va_rf (if i + 1 < n then some (A (i + 1)) else none), va_rf (if 0 < i - 1 then some (A (i - 1 - 1)) else none)]))
    (h2 : i + 1 < n → c (i + 1) = (A (i + 1), zO 7 [.ref (G.2.2.1 (128 + X (i + 1))), va_rf (if i + 1 + 1 < n then some (A (i + 1 + 1)) else none), va_rf (if 0 < i then some (A (i - 1)) else none)])) :
    zSub (nds n c) (nds (n - 1) (ndC G (n - 1) (skp A i) (skp X i))) := by
  refine (nds_del hi).trans (zSub.eq (nds_congr fun j hj => ?_))
  rcases Nat.lt_or_ge j i with e | e
  · rw [if_pos e]
    by_cases e1 : j + 1 = i
    · have h1 := h1 (by omega)
      rw [show i - 1 = j from by omega] at h1
      rw [h1]
      unfold ndC skp
      refine ndE ?_ ?_ ?_ ?_ <;> ((repeat' split) <;> first | rfl | (exfalso; omega) | (congr 1; omega) | (congr 2; omega))
    · rw [h0 j (by omega) (by omega) (by omega) (by omega)]
      unfold ndC skp
      refine ndE ?_ ?_ ?_ ?_ <;> ((repeat' split) <;> first | rfl | (exfalso; omega) | (congr 1; omega) | (congr 2; omega))
  · rw [if_neg (Nat.not_lt.mpr e)]
    by_cases e1 : j = i
    · subst e1
      rw [h2 (by omega)]
      unfold ndC skp
      refine ndE ?_ ?_ ?_ ?_ <;> ((repeat' split) <;> first | rfl | (exfalso; omega) | (congr 1; omega) | (congr 2; omega))
    · rw [h0 (j + 1) (by omega) (by omega) (by omega) (by omega)]
      unfold ndC skp
      refine ndE ?_ ?_ ?_ ?_ <;> ((repeat' split) <;> first | rfl | (exfalso; omega) | (congr 1; omega) | (congr 2; omega))
theorem skp_fst {n i : Nat} {A : Nat → Nat} (hn : 1 < n) (hi : i < n) : fstO (n - 1) (skp A i) = if i = 0 then some (A 1) else some (A 0) := by
  rw [fstO_p (by omega)]
  unfold skp
  by_cases e : i = 0
  · rw [if_pos e, if_neg (by omega)]
  · rw [if_neg e, if_pos (by omega)]
theorem skp_lst {n i : Nat} {A : Nat → Nat} (hn : 1 < n) (hi : i < n) : lstO (n - 1) (skp A i) = if i + 1 = n then some (A (i - 1)) else some (A (n - 1)) := by
  rw [lstO_p (by omega)]
  unfold skp
  by_cases e : i + 1 = n
  · rw [if_pos e, if_pos (by omega), show n - 1 - 1 = i - 1 from by omega]
  · rw [if_neg e, if_neg (by omega), show n - 1 - 1 + 1 = n - 1 from by omega]
theorem ndC_at {G : zG} {n i : Nat} {A X : Nat → Nat} {o1 o2 : Option Nat} (h1 : (if i + 1 < n then some (A (i + 1)) else none) = o1) (h2 : (if 0 < i then some (A (i - 1)) else none) = o2) : ndC G n A X i = (A i, zO 7 [.ref (G.2.2.1 (128 + X i)), va_rf o1, va_rf o2]) := by
  subst h1; subst h2; rfl
def nxO (n : Nat) (A : Nat → Nat) (p : Nat) : Option Nat := if p < n then some (A p) else none
theorem nxO_p {n p : Nat} {A : Nat → Nat} (h : p < n) : nxO n A p = some (A p) := if_pos h
theorem nxO_skp {n p : Nat} {A : Nat → Nat} (h : p < n) : nxO n A (p + 1) = nxO (n - 1) (skp A p) p := by
  unfold nxO skp
  by_cases e : p + 1 < n
  · rw [if_pos e, if_pos (by omega), if_neg (by omega)]
  · rw [if_neg e, if_neg (by omega)]
/-! contracts, part je -/
set_option maxRecDepth 100000
set_option maxHeartbeats 600000 in
theorem ct_J16_init (l_ : Launch) (G : zG) (nd : Nat) (p : Option Nat) (it : Nat) (nx : Option Nat) :
    Ct l_ G yJ16_init cJ16_init 4 none 2 0 0 [.ref nd, va_rf p, .ref it, va_rf nx] ([(nd, zO 7 [.null, .null, .null])])
      (fun _u : Unit => none) (fun _u : Unit => True) (fun _u : Unit => [(nd, zO 7 [.ref it, va_rf nx, va_rf p])]) := by
  rcases p with _ | p <;> rcases nx with _ | nx
  · skip
    refine Ct.of (by decide) (Nat.le_of_ble_eq_true rfl) ?_
    intro κ hl_ hG_ hk hR_
    subst hl_
    subst hG_
    show Z κ 0 [(0, .ref nd), (1, .null), (2, .ref it), (3, .null)] [] ([(nd, zO 7 [.null, .null, .null])]) 0 0
    refine z_aload_n hk dJ16_init_0 0 rfl (kk := ?_)
    refine z_objInit hk q406 q102 q103 dJ16_init_1 (kk := ?_)
    refine z_aload_n hk dJ16_init_4 0 rfl (kk := ?_)
    refine z_aload_n hk dJ16_init_5 2 rfl (kk := ?_)
    refine z_put hk in_J16 tyJ16 tyJ16_ok nmJ16 0 0 ([(nd, zO 7 [.ref it, .null, .null])]) q407 dJ16_init_6 rfl (kk := ?_)
    refine z_aload_n hk dJ16_init_9 0 rfl (kk := ?_)
    refine z_aload_nN hk dJ16_init_10 3 rfl (kk := ?_)
    refine z_put hk in_J16 tyJ16 tyJ16_ok nmJ16 0 1 ([(nd, zO 7 [.ref it, .null, .null])]) q410 dJ16_init_11 rfl (kk := ?_)
    refine z_aload_n hk dJ16_init_14 0 rfl (kk := ?_)
    refine z_aload_nN hk dJ16_init_15 1 rfl (kk := ?_)
    refine z_put hk in_J16 tyJ16 tyJ16_ok nmJ16 0 2 ([(nd, zO 7 [.ref it, .null, .null])]) q413 dJ16_init_16 rfl (kk := ?_)
    exact z_vret hk hR_ () dJ16_init_19 rfl rfl (by trivial) (zSub.ix [0] rfl)
  · skip
    refine Ct.of (by decide) (Nat.le_of_ble_eq_true rfl) ?_
    intro κ hl_ hG_ hk hR_
    subst hl_
    subst hG_
    show Z κ 0 [(0, .ref nd), (1, .null), (2, .ref it), (3, .ref nx)] [] ([(nd, zO 7 [.null, .null, .null])]) 0 0
    refine z_aload_n hk dJ16_init_0 0 rfl (kk := ?_)
    refine z_objInit hk q406 q102 q103 dJ16_init_1 (kk := ?_)
    refine z_aload_n hk dJ16_init_4 0 rfl (kk := ?_)
    refine z_aload_n hk dJ16_init_5 2 rfl (kk := ?_)
    refine z_put hk in_J16 tyJ16 tyJ16_ok nmJ16 0 0 ([(nd, zO 7 [.ref it, .null, .null])]) q407 dJ16_init_6 rfl (kk := ?_)
    refine z_aload_n hk dJ16_init_9 0 rfl (kk := ?_)
    refine z_aload_n hk dJ16_init_10 3 rfl (kk := ?_)
    refine z_put hk in_J16 tyJ16 tyJ16_ok nmJ16 0 1 ([(nd, zO 7 [.ref it, .ref nx, .null])]) q410 dJ16_init_11 rfl (kk := ?_)
    refine z_aload_n hk dJ16_init_14 0 rfl (kk := ?_)
    refine z_aload_nN hk dJ16_init_15 1 rfl (kk := ?_)
    refine z_put hk in_J16 tyJ16 tyJ16_ok nmJ16 0 2 ([(nd, zO 7 [.ref it, .ref nx, .null])]) q413 dJ16_init_16 rfl (kk := ?_)
    exact z_vret hk hR_ () dJ16_init_19 rfl rfl (by trivial) (zSub.ix [0] rfl)
  · skip
    refine Ct.of (by decide) (Nat.le_of_ble_eq_true rfl) ?_
    intro κ hl_ hG_ hk hR_
    subst hl_
    subst hG_
    show Z κ 0 [(0, .ref nd), (1, .ref p), (2, .ref it), (3, .null)] [] ([(nd, zO 7 [.null, .null, .null])]) 0 0
    refine z_aload_n hk dJ16_init_0 0 rfl (kk := ?_)
    refine z_objInit hk q406 q102 q103 dJ16_init_1 (kk := ?_)
    refine z_aload_n hk dJ16_init_4 0 rfl (kk := ?_)
    refine z_aload_n hk dJ16_init_5 2 rfl (kk := ?_)
    refine z_put hk in_J16 tyJ16 tyJ16_ok nmJ16 0 0 ([(nd, zO 7 [.ref it, .null, .null])]) q407 dJ16_init_6 rfl (kk := ?_)
    refine z_aload_n hk dJ16_init_9 0 rfl (kk := ?_)
    refine z_aload_nN hk dJ16_init_10 3 rfl (kk := ?_)
    refine z_put hk in_J16 tyJ16 tyJ16_ok nmJ16 0 1 ([(nd, zO 7 [.ref it, .null, .null])]) q410 dJ16_init_11 rfl (kk := ?_)
    refine z_aload_n hk dJ16_init_14 0 rfl (kk := ?_)
    refine z_aload_n hk dJ16_init_15 1 rfl (kk := ?_)
    refine z_put hk in_J16 tyJ16 tyJ16_ok nmJ16 0 2 ([(nd, zO 7 [.ref it, .null, .ref p])]) q413 dJ16_init_16 rfl (kk := ?_)
    exact z_vret hk hR_ () dJ16_init_19 rfl rfl (by trivial) (zSub.ix [0] rfl)
  · skip
    refine Ct.of (by decide) (Nat.le_of_ble_eq_true rfl) ?_
    intro κ hl_ hG_ hk hR_
    subst hl_
    subst hG_
    show Z κ 0 [(0, .ref nd), (1, .ref p), (2, .ref it), (3, .ref nx)] [] ([(nd, zO 7 [.null, .null, .null])]) 0 0
    refine z_aload_n hk dJ16_init_0 0 rfl (kk := ?_)
    refine z_objInit hk q406 q102 q103 dJ16_init_1 (kk := ?_)
    refine z_aload_n hk dJ16_init_4 0 rfl (kk := ?_)
    refine z_aload_n hk dJ16_init_5 2 rfl (kk := ?_)
    refine z_put hk in_J16 tyJ16 tyJ16_ok nmJ16 0 0 ([(nd, zO 7 [.ref it, .null, .null])]) q407 dJ16_init_6 rfl (kk := ?_)
    refine z_aload_n hk dJ16_init_9 0 rfl (kk := ?_)
    refine z_aload_n hk dJ16_init_10 3 rfl (kk := ?_)
    refine z_put hk in_J16 tyJ16 tyJ16_ok nmJ16 0 1 ([(nd, zO 7 [.ref it, .ref nx, .null])]) q410 dJ16_init_11 rfl (kk := ?_)
    refine z_aload_n hk dJ16_init_14 0 rfl (kk := ?_)
    refine z_aload_n hk dJ16_init_15 1 rfl (kk := ?_)
    refine z_put hk in_J16 tyJ16 tyJ16_ok nmJ16 0 2 ([(nd, zO 7 [.ref it, .ref nx, .ref p])]) q413 dJ16_init_16 rfl (kk := ?_)
    exact z_vret hk hR_ () dJ16_init_19 rfl rfl (by trivial) (zSub.ix [0] rfl)

set_option maxHeartbeats 600000 in
theorem ct_J12_init (l_ : Launch) (G : zG) (ls : Nat) :
    Ct l_ G yJ12_init cJ12_init 1 none 3 0 0 [.ref ls] ([(ls, zO 6 [.int (iZ ((0 : Nat) : Int)), .int (iZ ((0 : Nat) : Int)), .null, .null])])
      (fun _u : Unit => none) (fun _u : Unit => True) (fun _u : Unit => [(ls, zO 6 [.int (iZ ((0 : Nat) : Int)), .int (iZ ((0 : Nat) : Int)), .null, .null])]) := by
  refine Ct.of (by decide) (Nat.le_of_ble_eq_true rfl) ?_
  intro κ hl_ hG_ hk hR_
  subst hl_
  subst hG_
  show Z κ 0 [(0, .ref ls)] [] ([(ls, zO 6 [.int (iZ ((0 : Nat) : Int)), .int (iZ ((0 : Nat) : Int)), .null, .null])]) 0 0
  refine z_aload_n hk dJ12_init_0 0 rfl (kk := ?_)
  refine z_callI hk [] 0 [(ls, zO 6 [.int (iZ ((0 : Nat) : Int)), .int (iZ ((0 : Nat) : Int)), .null, .null])] (ct_J1_init (kL κ) (kG κ) ls ) q354 q141 q59 q142 (zSub.ix [0] rfl) dJ12_init_1 rfl (kk := fun _ _ => ?_)
  show Z κ 4 [(0, .ref ls)] [] ([(ls, zO 6 [.int (iZ ((0 : Nat) : Int)), .int (iZ ((0 : Nat) : Int)), .null, .null])]) 0 0
  refine z_aload_n hk dJ12_init_4 0 rfl (kk := ?_)
  refine z_iconst (z := ((0 : Nat) : Int)) hk dJ12_init_5 (kk := ?_)
  refine z_put hk in_J14 tyJ14 tyJ14_ok nmJ14 0 0 ([(ls, zO 6 [.int (iZ ((0 : Nat) : Int)), .int (iZ ((0 : Nat) : Int)), .null, .null])]) q359 dJ12_init_6 rfl (kk := ?_)
  exact z_vret hk hR_ () dJ12_init_9 rfl rfl (by trivial) (zSub.ix [0] rfl)

set_option maxHeartbeats 600000 in
theorem ct_J13_init (l_ : Launch) (G : zG) (ls : Nat) :
    Ct l_ G yJ13_init cJ13_init 1 none 4 0 0 [.ref ls] ([(ls, zO 6 [.int (iZ ((0 : Nat) : Int)), .int (iZ ((0 : Nat) : Int)), .null, .null])])
      (fun _u : Unit => none) (fun _u : Unit => True) (fun _u : Unit => [(ls, zO 6 [.int (iZ ((0 : Nat) : Int)), .int (iZ ((0 : Nat) : Int)), .null, .null])]) := by
  refine Ct.of (by decide) (Nat.le_of_ble_eq_true rfl) ?_
  intro κ hl_ hG_ hk hR_
  subst hl_
  subst hG_
  show Z κ 0 [(0, .ref ls)] [] ([(ls, zO 6 [.int (iZ ((0 : Nat) : Int)), .int (iZ ((0 : Nat) : Int)), .null, .null])]) 0 0
  refine z_aload_n hk dJ13_init_0 0 rfl (kk := ?_)
  refine z_callI hk [] 0 [] (ct_J12_init (kL κ) (kG κ) ls ) q351 q352 q72 q353 (zSub.ix [0] rfl) dJ13_init_1 rfl (kk := fun _ _ => ?_)
  show Z κ 4 [(0, .ref ls)] [] ([(ls, zO 6 [.int (iZ ((0 : Nat) : Int)), .int (iZ ((0 : Nat) : Int)), .null, .null])]) 0 0
  exact z_vret hk hR_ () dJ13_init_4 rfl rfl (by trivial) (zSub.ix [0] rfl)

set_option maxHeartbeats 600000 in
theorem ct_J14_init (l_ : Launch) (G : zG) (ls : Nat) :
    Ct l_ G yJ14_init cJ14_init 1 none 5 0 0 [.ref ls] ([(ls, zO 6 [.int (iZ ((0 : Nat) : Int)), .int (iZ ((0 : Nat) : Int)), .null, .null])])
      (fun _u : Unit => none) (fun _u : Unit => True) (fun _u : Unit => [(ls, zO 6 [.int (iZ ((0 : Nat) : Int)), .int (iZ ((0 : Nat) : Int)), .null, .null])]) := by
  refine Ct.of (by decide) (Nat.le_of_ble_eq_true rfl) ?_
  intro κ hl_ hG_ hk hR_
  subst hl_
  subst hG_
  show Z κ 0 [(0, .ref ls)] [] ([(ls, zO 6 [.int (iZ ((0 : Nat) : Int)), .int (iZ ((0 : Nat) : Int)), .null, .null])]) 0 0
  refine z_aload_n hk dJ14_init_0 0 rfl (kk := ?_)
  refine z_callI hk [] 0 [] (ct_J13_init (kL κ) (kG κ) ls ) q348 q349 q73 q350 (zSub.ix [0] rfl) dJ14_init_1 rfl (kk := fun _ _ => ?_)
  show Z κ 4 [(0, .ref ls)] [] ([(ls, zO 6 [.int (iZ ((0 : Nat) : Int)), .int (iZ ((0 : Nat) : Int)), .null, .null])]) 0 0
  refine z_aload_n hk dJ14_init_4 0 rfl (kk := ?_)
  refine z_iconst (z := ((0 : Nat) : Int)) hk dJ14_init_5 (kk := ?_)
  refine z_put hk in_J14 tyJ14 tyJ14_ok nmJ14 0 1 ([(ls, zO 6 [.int (iZ ((0 : Nat) : Int)), .int (iZ ((0 : Nat) : Int)), .null, .null])]) q355 dJ14_init_6 rfl (kk := ?_)
  exact z_vret hk hR_ () dJ14_init_9 rfl rfl (by trivial) (zSub.ix [0] rfl)

set_option maxHeartbeats 600000 in
theorem ct_J14_linkLast_0 (l_ : Launch) (G : zG) (ls : Nat) (mc : Nat) (v : Nat) (A : Nat → Nat) (X : Nat → Nat) :
    Ct l_ G yJ14_linkLast cJ14_linkLast 4 none 3 1 3 [.ref ls, .ref (G.2.2.1 (128 + v))] ([(ls, zO 6 [.int (iZ ((mc : Nat) : Int)), .int (iZ ((0 : Nat) : Int)), .null, .null])])
      (fun u : Nat => none) (fun u : Nat => True) (fun u : Nat => [(ls, zO 6 [.int (iZ ((mc + 1 : Nat) : Int)), .int (iZ ((0 + 1 : Nat) : Int)), va_rf (fstO (0 + 1) (va_up A 0 u)), va_rf (lstO (0 + 1) (va_up A 0 u))])] ++ nds (0 + 1) (ndC G (0 + 1) (va_up A 0 u) (va_up X 0 v))) := by
  refine Ct.of (by decide) (Nat.le_of_ble_eq_true rfl) ?_
  intro κ hl_ hG_ hk hR_
  subst hl_
  subst hG_
  show Z κ 0 [(0, .ref ls), (1, .ref ((kG κ).2.2.1 (128 + v)))] [] ([(ls, zO 6 [.int (iZ ((mc : Nat) : Int)), .int (iZ ((0 : Nat) : Int)), .null, .null])]) 0 0
  refine z_aload_n hk dJ14_linkLast_0 0 rfl (kk := ?_)
  refine z_get hk in_J14 0 3 q358 dJ14_linkLast_1 rfl rfl (kk := ?_)
  refine z_astore_nN hk [(2, .null), (0, .ref ls), (1, .ref ((kG κ).2.2.1 (128 + v)))] dJ14_linkLast_4 (kk := ?_)
  refine z_new (ci := 7) hk in_J16 tyJ16 tyJ16_ok [.null, .null, .null] q401 q402 q77 dJ14_linkLast_5 (fun j hj => by have hj2 : j = 0 ∨ j = 1 ∨ j = 2 := (by omega); rcases hj2 with rfl | rfl | rfl <;> rfl) (kk := fun q_1 => ?_)
  show Z κ 8 [(2, .null), (0, .ref ls), (1, .ref ((kG κ).2.2.1 (128 + v)))] [.ref q_1] ([(ls, zO 6 [.int (iZ ((mc : Nat) : Int)), .int (iZ ((0 : Nat) : Int)), .null, .null]), (q_1, zO 7 [.null, .null, .null])]) 1 3
  refine z_dup hk dJ14_linkLast_8 (kk := ?_)
  refine z_aload_nN hk dJ14_linkLast_9 0 rfl (kk := ?_)
  refine z_aload_n hk dJ14_linkLast_10 2 rfl (kk := ?_)
  refine z_null hk dJ14_linkLast_11 (kk := ?_)
  refine z_callI hk [.null, .ref ((kG κ).2.2.1 (128 + v)), .null] 3 [(ls, zO 6 [.int (iZ ((mc : Nat) : Int)), .int (iZ ((0 : Nat) : Int)), .null, .null])] (ct_J16_init (kL κ) (kG κ) q_1 none ((kG κ).2.2.1 (128 + v)) none ) q403 q404 q77 q405 (zSub.ix [1, 0] rfl) dJ14_linkLast_12 rfl (kk := fun _ _ => ?_)
  show Z κ 15 [(2, .null), (0, .ref ls), (1, .ref ((kG κ).2.2.1 (128 + v)))] [.ref q_1] ([(q_1, zO 7 [.ref ((kG κ).2.2.1 (128 + v)), .null, .null]), (ls, zO 6 [.int (iZ ((mc : Nat) : Int)), .int (iZ ((0 : Nat) : Int)), .null, .null])]) 1 3
  refine z_astore_n hk [(3, .ref q_1), (2, .null), (0, .ref ls), (1, .ref ((kG κ).2.2.1 (128 + v)))] dJ14_linkLast_15 (kk := ?_)
  refine z_aload_n hk dJ14_linkLast_16 2 rfl (kk := ?_)
  refine z_aload_n hk dJ14_linkLast_17 0 rfl (kk := ?_)
  refine z_put hk in_J14 tyJ14 tyJ14_ok nmJ14 1 3 ([(q_1, zO 7 [.ref ((kG κ).2.2.1 (128 + v)), .null, .null]), (ls, zO 6 [.int (iZ ((mc : Nat) : Int)), .int (iZ ((0 : Nat) : Int)), .null, .ref q_1])]) q358 dJ14_linkLast_18 rfl (kk := ?_)
  refine z_aload_nN hk dJ14_linkLast_21 1 rfl (kk := ?_)
  refine z_ifnonnullN hk dJ14_linkLast_22 (kk := ?_)
  refine z_aload_n hk dJ14_linkLast_25 2 rfl (kk := ?_)
  refine z_aload_n hk dJ14_linkLast_26 0 rfl (kk := ?_)
  refine z_put hk in_J14 tyJ14 tyJ14_ok nmJ14 1 2 ([(q_1, zO 7 [.ref ((kG κ).2.2.1 (128 + v)), .null, .null]), (ls, zO 6 [.int (iZ ((mc : Nat) : Int)), .int (iZ ((0 : Nat) : Int)), .ref q_1, .ref q_1])]) q357 dJ14_linkLast_27 rfl (kk := ?_)
  refine z_goto hk 38 dJ14_linkLast_30 (kk := ?_)
  refine z_aload_n hk dJ14_linkLast_38 2 rfl (kk := ?_)
  refine z_dup hk dJ14_linkLast_39 (kk := ?_)
  refine z_get hk in_J14 1 1 q355 dJ14_linkLast_40 rfl rfl (kk := ?_)
  refine z_iconst (z := ((1 : Nat) : Int)) hk dJ14_linkLast_43 (kk := ?_)
  refine z_iadd (z := ((1 : Nat) : Int)) hk dJ14_linkLast_44 (by omega) (kk := ?_)
  refine z_put hk in_J14 tyJ14 tyJ14_ok nmJ14 1 1 ([(q_1, zO 7 [.ref ((kG κ).2.2.1 (128 + v)), .null, .null]), (ls, zO 6 [.int (iZ ((mc : Nat) : Int)), .int (iZ ((1 : Nat) : Int)), .ref q_1, .ref q_1])]) q355 dJ14_linkLast_45 rfl (kk := ?_)
  refine z_aload_n hk dJ14_linkLast_48 2 rfl (kk := ?_)
  refine z_dup hk dJ14_linkLast_49 (kk := ?_)
  refine z_getM hk in_J14 1 0 q361 q363 dJ14_linkLast_50 rfl rfl (kk := ?_)
  refine z_iconst (z := ((1 : Nat) : Int)) hk dJ14_linkLast_53 (kk := ?_)
  refine z_iadd (z := ((mc + 1 : Nat) : Int)) hk dJ14_linkLast_54 (Int.natCast_add _ _).symm (kk := ?_)
  refine z_putM hk in_J14 tyJ14 tyJ14_ok nmJ14 1 0 ([(q_1, zO 7 [.ref ((kG κ).2.2.1 (128 + v)), .null, .null]), (ls, zO 6 [.int (iZ ((mc + 1 : Nat) : Int)), .int (iZ ((1 : Nat) : Int)), .ref q_1, .ref q_1])]) q361 q363 dJ14_linkLast_55 rfl (kk := ?_)
  refine z_sub (zSub.ix [1, 0] (ws' := [(ls, zO 6 [.int (iZ ((mc + 1 : Nat) : Int)), .int (iZ ((1 : Nat) : Int)), .ref q_1, .ref q_1]), (q_1, zO 7 [.ref ((kG κ).2.2.1 (128 + v)), .null, .null])]) rfl) ?_
  refine z_sub (ws' := [(ls, zO 6 [.int (iZ ((mc + 1 : Nat) : Int)), .int (iZ ((0 + 1 : Nat) : Int)), va_rf (fstO (0 + 1) (va_up A 0 q_1)), va_rf (lstO (0 + 1) (va_up A 0 q_1))])] ++ nds (0 + 1) (ndC (kG κ) (0 + 1) (va_up A 0 q_1) (va_up X 0 v))) (zSub.ix [0, 1] rfl) ?_
  exact z_vret hk hR_ q_1 dJ14_linkLast_58 rfl rfl (by trivial) (zSub.app (zSub.ix [0] rfl))

set_option maxHeartbeats 600000 in
theorem ct_J14_linkLast_s (l_ : Launch) (G : zG) (ls : Nat) (mc : Nat) (k : Nat) (v : Nat) (A : Nat → Nat) (X : Nat → Nat) :
    Ct l_ G yJ14_linkLast cJ14_linkLast 4 none 3 1 3 [.ref ls, .ref (G.2.2.1 (128 + v))] ([(ls, zO 6 [.int (iZ ((mc : Nat) : Int)), .int (iZ ((k + 1 : Nat) : Int)), .ref (A 0), .ref (A k)])] ++ nds (k + 1) (ndC G (k + 1) A X))
      (fun u : Nat => none) (fun u : Nat => True) (fun u : Nat => [(ls, zO 6 [.int (iZ ((mc + 1 : Nat) : Int)), .int (iZ ((k + 1 + 1 : Nat) : Int)), va_rf (fstO (k + 1 + 1) (va_up A (k + 1) u)), va_rf (lstO (k + 1 + 1) (va_up A (k + 1) u))])] ++ nds (k + 1 + 1) (ndC G (k + 1 + 1) (va_up A (k + 1) u) (va_up X (k + 1) v))) := by
  refine Ct.of (by decide) (Nat.le_of_ble_eq_true rfl) ?_
  intro κ hl_ hG_ hk hR_
  subst hl_
  subst hG_
  show Z κ 0 [(0, .ref ls), (1, .ref ((kG κ).2.2.1 (128 + v)))] [] ([(ls, zO 6 [.int (iZ ((mc : Nat) : Int)), .int (iZ ((k + 1 : Nat) : Int)), .ref (A 0), .ref (A k)])] ++ nds (k + 1) (ndC (kG κ) (k + 1) A X)) 0 0
  have e_1 : (ndC (kG κ) (k + 1) A X) k = (A k, zO 7 [.ref ((kG κ).2.2.1 (128 + X k)), va_rf (if k + 1 < (k + 1) then some (A (k + 1)) else none), va_rf (if 0 < k then some (A (k - 1)) else none)]) := ndC_at rfl rfl
  refine z_aload_n hk dJ14_linkLast_0 0 rfl (kk := ?_)
  refine z_get hk in_J14 0 3 q358 dJ14_linkLast_1 rfl rfl (kk := ?_)
  refine z_astore_n hk [(2, .ref (A k)), (0, .ref ls), (1, .ref ((kG κ).2.2.1 (128 + v)))] dJ14_linkLast_4 (kk := ?_)
  refine z_new (ci := 7) hk in_J16 tyJ16 tyJ16_ok [.null, .null, .null] q401 q402 q77 dJ14_linkLast_5 (fun j hj => by have hj2 : j = 0 ∨ j = 1 ∨ j = 2 := (by omega); rcases hj2 with rfl | rfl | rfl <;> rfl) (kk := fun q_2 => ?_)
  refine z_sub zSub.mid ?_
  show Z κ 8 [(2, .ref (A k)), (0, .ref ls), (1, .ref ((kG κ).2.2.1 (128 + v)))] [.ref q_2] ([(ls, zO 6 [.int (iZ ((mc : Nat) : Int)), .int (iZ ((k + 1 : Nat) : Int)), .ref (A 0), .ref (A k)]), (q_2, zO 7 [.null, .null, .null])] ++ nds (k + 1) (ndC (kG κ) (k + 1) A X)) 1 3
  refine z_dup hk dJ14_linkLast_8 (kk := ?_)
  refine z_aload_n hk dJ14_linkLast_9 0 rfl (kk := ?_)
  refine z_aload_n hk dJ14_linkLast_10 2 rfl (kk := ?_)
  refine z_null hk dJ14_linkLast_11 (kk := ?_)
  refine z_callI hk [.ref (A k), .ref ((kG κ).2.2.1 (128 + v)), .null] 3 ([(ls, zO 6 [.int (iZ ((mc : Nat) : Int)), .int (iZ ((k + 1 : Nat) : Int)), .ref (A 0), .ref (A k)])] ++ nds (k + 1) (ndC (kG κ) (k + 1) A X)) (ct_J16_init (kL κ) (kG κ) q_2 (some (A k)) ((kG κ).2.2.1 (128 + v)) none ) q403 q404 q77 q405 (zSub.app (E' := [(q_2, zO 7 [.null, .null, .null]), (ls, zO 6 [.int (iZ ((mc : Nat) : Int)), .int (iZ ((k + 1 : Nat) : Int)), .ref (A 0), .ref (A k)])]) (T := nds (k + 1) (ndC (kG κ) (k + 1) A X)) (zSub.ix [1, 0] rfl)) dJ14_linkLast_12 rfl (kk := fun _ _ => ?_)
  show Z κ 15 [(2, .ref (A k)), (0, .ref ls), (1, .ref ((kG κ).2.2.1 (128 + v)))] [.ref q_2] ([(q_2, zO 7 [.ref ((kG κ).2.2.1 (128 + v)), .null, .ref (A k)]), (ls, zO 6 [.int (iZ ((mc : Nat) : Int)), .int (iZ ((k + 1 : Nat) : Int)), .ref (A 0), .ref (A k)])] ++ nds (k + 1) (ndC (kG κ) (k + 1) A X)) 1 3
  refine z_astore_n hk [(3, .ref q_2), (2, .ref (A k)), (0, .ref ls), (1, .ref ((kG κ).2.2.1 (128 + v)))] dJ14_linkLast_15 (kk := ?_)
  refine z_aload_n hk dJ14_linkLast_16 2 rfl (kk := ?_)
  refine z_aload_n hk dJ14_linkLast_17 0 rfl (kk := ?_)
  refine z_put hk in_J14 tyJ14 tyJ14_ok nmJ14 1 3 ([(q_2, zO 7 [.ref ((kG κ).2.2.1 (128 + v)), .null, .ref (A k)]), (ls, zO 6 [.int (iZ ((mc : Nat) : Int)), .int (iZ ((k + 1 : Nat) : Int)), .ref (A 0), .ref q_2])] ++ nds (k + 1) (ndC (kG κ) (k + 1) A X)) q358 dJ14_linkLast_18 rfl (kk := ?_)
  refine z_aload_n hk dJ14_linkLast_21 1 rfl (kk := ?_)
  refine z_ifnonnull hk 33 dJ14_linkLast_22 (kk := ?_)
  refine z_aload_n hk dJ14_linkLast_33 1 rfl (kk := ?_)
  refine z_aload_n hk dJ14_linkLast_34 0 rfl (kk := ?_)
  refine z_put hk in_J16 tyJ16 tyJ16_ok nmJ16 (2 + k) 1 ([(q_2, zO 7 [.ref ((kG κ).2.2.1 (128 + v)), .null, .ref (A k)]), (ls, zO 6 [.int (iZ ((mc : Nat) : Int)), .int (iZ ((k + 1 : Nat) : Int)), .ref (A 0), .ref q_2])] ++ nds (k + 1) (ups (ndC (kG κ) (k + 1) A X) k (A k, zO 7 [.ref ((kG κ).2.2.1 (128 + X k)), .ref q_2, va_rf (if 0 < k then some (A (k - 1)) else none)]))) q412 dJ14_linkLast_35 (ndx_get (E := [(q_2, zO 7 [.ref ((kG κ).2.2.1 (128 + v)), .null, .ref (A k)]), (ls, zO 6 [.int (iZ ((mc : Nat) : Int)), .int (iZ ((k + 1 : Nat) : Int)), .ref (A 0), .ref q_2])]) rfl (by omega) e_1) (hw := ndx_set rfl) (kk := ?_)
  obtain ⟨c_4, hc_4⟩ : ∃ z_, z_ = ups (ndC (kG κ) (k + 1) A X) k (A k, zO 7 [.ref ((kG κ).2.2.1 (128 + X k)), .ref q_2, va_rf (if 0 < k then some (A (k - 1)) else none)]) := ⟨_, rfl⟩
  rw [← hc_4]
  have nc_4 : ∀ j_, j_ ≠ k → c_4 j_ = (ndC (kG κ) (k + 1) A X) j_ := fun j_ hj_ => by rw [hc_4]; exact ups_ne hj_ rfl
  have e_5 : c_4 k = (A k, zO 7 [.ref ((kG κ).2.2.1 (128 + X k)), .ref q_2, va_rf (if 0 < k then some (A (k - 1)) else none)]) := by rw [hc_4]; exact ups_eq
  refine z_aload_n hk dJ14_linkLast_38 2 rfl (kk := ?_)
  refine z_dup hk dJ14_linkLast_39 (kk := ?_)
  refine z_get hk in_J14 1 1 q355 dJ14_linkLast_40 rfl rfl (kk := ?_)
  refine z_iconst (z := ((1 : Nat) : Int)) hk dJ14_linkLast_43 (kk := ?_)
  refine z_iadd (z := ((k + 2 : Nat) : Int)) hk dJ14_linkLast_44 (by omega) (kk := ?_)
  refine z_put hk in_J14 tyJ14 tyJ14_ok nmJ14 1 1 ([(q_2, zO 7 [.ref ((kG κ).2.2.1 (128 + v)), .null, .ref (A k)]), (ls, zO 6 [.int (iZ ((mc : Nat) : Int)), .int (iZ ((k + 2 : Nat) : Int)), .ref (A 0), .ref q_2])] ++ nds (k + 1) c_4) q355 dJ14_linkLast_45 rfl (kk := ?_)
  refine z_aload_n hk dJ14_linkLast_48 2 rfl (kk := ?_)
  refine z_dup hk dJ14_linkLast_49 (kk := ?_)
  refine z_getM hk in_J14 1 0 q361 q363 dJ14_linkLast_50 rfl rfl (kk := ?_)
  refine z_iconst (z := ((1 : Nat) : Int)) hk dJ14_linkLast_53 (kk := ?_)
  refine z_iadd (z := ((mc + 1 : Nat) : Int)) hk dJ14_linkLast_54 (Int.natCast_add _ _).symm (kk := ?_)
  refine z_putM hk in_J14 tyJ14 tyJ14_ok nmJ14 1 0 ([(q_2, zO 7 [.ref ((kG κ).2.2.1 (128 + v)), .null, .ref (A k)]), (ls, zO 6 [.int (iZ ((mc + 1 : Nat) : Int)), .int (iZ ((k + 2 : Nat) : Int)), .ref (A 0), .ref q_2])] ++ nds (k + 1) c_4) q361 q363 dJ14_linkLast_55 rfl (kk := ?_)
  refine z_sub (zSub.app (zSub.ix [1, 0] (ws' := [(ls, zO 6 [.int (iZ ((mc + 1 : Nat) : Int)), .int (iZ ((k + 2 : Nat) : Int)), .ref (A 0), .ref q_2]), (q_2, zO 7 [.ref ((kG κ).2.2.1 (128 + v)), .null, .ref (A k)])]) rfl)) ?_
  have hf9 : fstO (k + 1 + 1) (va_up A (k + 1) q_2) = some (A 0) := by show some _ = _; unfold va_up; rw [if_neg (by omega)]
  have hl9 : lstO (k + 1 + 1) (va_up A (k + 1) q_2) = some q_2 := by show some _ = _; unfold va_up; rw [if_pos rfl]
  refine z_sub (ws' := [(ls, zO 6 [.int (iZ ((mc + 1 : Nat) : Int)), .int (iZ ((k + 1 + 1 : Nat) : Int)), va_rf (fstO (k + 1 + 1) (va_up A (k + 1) q_2)), va_rf (lstO (k + 1 + 1) (va_up A (k + 1) q_2))])] ++ nds (k + 1 + 1) (ndC (kG κ) (k + 1 + 1) (va_up A (k + 1) q_2) (va_up X (k + 1) v))) ((zSub.mid (X := [(ls, zO 6 [.int (iZ ((mc + 1 : Nat) : Int)), .int (iZ ((k + 2 : Nat) : Int)), .ref (A 0), .ref q_2])]) (Y := [(q_2, zO 7 [.ref ((kG κ).2.2.1 (128 + v)), .null, .ref (A k)])]) (T := nds (k + 1) c_4)).trans (zSub.eq (by rw [hc_4, List.append_assoc, hf9, hl9, ← nd_add]; rfl))) ?_
  exact z_vret hk hR_ q_2 dJ14_linkLast_58 rfl rfl (by trivial) (zSub.app (zSub.ix [0] rfl))

theorem ct_J14_linkLast (l_ : Launch) (G : zG) (ls : Nat) (mc : Nat) (n : Nat) (A : Nat → Nat) (X : Nat → Nat) (v : Nat) :
    Ct l_ G yJ14_linkLast cJ14_linkLast 4 none 3 1 3 [.ref ls, .ref (G.2.2.1 (128 + v))] ([(ls, zO 6 [.int (iZ ((mc : Nat) : Int)), .int (iZ ((n : Nat) : Int)), va_rf (fstO n A), va_rf (lstO n A)])] ++ nds n (ndC G n A X))
      (fun u : Nat => none) (fun u : Nat => True) (fun u : Nat => [(ls, zO 6 [.int (iZ ((mc + 1 : Nat) : Int)), .int (iZ ((n + 1 : Nat) : Int)), va_rf (fstO (n + 1) (va_up A n u)), va_rf (lstO (n + 1) (va_up A n u))])] ++ nds (n + 1) (ndC G (n + 1) (va_up A n u) (va_up X n v))) := by
  cases n with
  | zero => exact ct_J14_linkLast_0 l_ G ls mc v A X
  | succ k => exact ct_J14_linkLast_s l_ G ls mc k v A X

set_option maxHeartbeats 600000 in
theorem ct_J14_addLast (l_ : Launch) (G : zG) (ls : Nat) (mc : Nat) (n : Nat) (A : Nat → Nat) (X : Nat → Nat) (v : Nat) :
    Ct l_ G yJ14_addLast cJ14_addLast 2 none 4 1 3 [.ref ls, .ref (G.2.2.1 (128 + v))] ([(ls, zO 6 [.int (iZ ((mc : Nat) : Int)), .int (iZ ((n : Nat) : Int)), va_rf (fstO n A), va_rf (lstO n A)])] ++ nds n (ndC G n A X))
      (fun u : Nat => none) (fun u : Nat => True) (fun u : Nat => [(ls, zO 6 [.int (iZ ((mc + 1 : Nat) : Int)), .int (iZ ((n + 1 : Nat) : Int)), va_rf (fstO (n + 1) (va_up A n u)), va_rf (lstO (n + 1) (va_up A n u))])] ++ nds (n + 1) (ndC G (n + 1) (va_up A n u) (va_up X n v))) := by
  refine Ct.of (by decide) (Nat.le_of_ble_eq_true rfl) ?_
  intro κ hl_ hG_ hk hR_
  subst hl_
  subst hG_
  show Z κ 0 [(0, .ref ls), (1, .ref ((kG κ).2.2.1 (128 + v)))] [] ([(ls, zO 6 [.int (iZ ((mc : Nat) : Int)), .int (iZ ((n : Nat) : Int)), va_rf (fstO n A), va_rf (lstO n A)])] ++ nds n (ndC (kG κ) n A X)) 0 0
  refine z_aload_n hk dJ14_addLast_0 0 rfl (kk := ?_)
  refine z_aload_n hk dJ14_addLast_1 1 rfl (kk := ?_)
  refine z_callV hk [.ref ((kG κ).2.2.1 (128 + v))] 1 [] (ct_J14_linkLast (kL κ) (kG κ) ls mc n A X v ) q397 q398 q399 q74 q400 ((zSub.app (zSub.ix [0] (ws' := [(ls, zO 6 [.int (iZ ((mc : Nat) : Int)), .int (iZ ((n : Nat) : Int)), va_rf (fstO n A), va_rf (lstO n A)])] ++ []) rfl)).trans zSub.mid) 0 6 rfl dJ14_addLast_2 rfl (kk := fun u_1 hu2 => ?_)
  obtain ⟨q_2, rfl⟩ : ∃ z_, z_ = u_1 := ⟨_, rfl⟩
  refine z_sub zSub.mid ?_
  show Z κ 5 [(0, .ref ls), (1, .ref ((kG κ).2.2.1 (128 + v)))] [] ([(ls, zO 6 [.int (iZ ((mc + 1 : Nat) : Int)), .int (iZ ((n + 1 : Nat) : Int)), va_rf (fstO (n + 1) (va_up A n q_2)), va_rf (lstO (n + 1) (va_up A n q_2))])] ++ nds (n + 1) (ndC (kG κ) (n + 1) (va_up A n q_2) (va_up X n v))) 1 3
  exact z_vret hk hR_ q_2 dJ14_addLast_5 rfl rfl (by trivial) (zSub.app (zSub.ix [0] rfl))
