/-! a deque's ring of 17 -/
def cq (h s : Nat) (S : Nat → Nat) : Nat → Option Nat := fun j => if (j + 17 - h) % 17 < s then some (S ((j + 17 - h) % 17)) else none
theorem cq_at {h s k : Nat} {S : Nat → Nat} (hh : h < 17) (hk : k < s) (hs : s ≤ 16) : cq h s S ((h + k) % 17) = some (S k) := by
  unfold cq
  have e : ((h + k) % 17 + 17 - h) % 17 = k := by omega
  rw [e, if_pos hk]
theorem cq_add {h s x j : Nat} {S : Nat → Nat} (hh : h < 17) (hs : s < 16) (hj : j < 17) : va_up (cq h s S) ((h + s) % 17) (some x) j = cq h (s + 1) (va_up S s x) j := by
  unfold va_up cq
  by_cases e : j = (h + s) % 17
  · have e2 : (j + 17 - h) % 17 = s := by omega
    rw [if_pos e, e2, if_pos (by omega)]; simp
  · have e2 : (j + 17 - h) % 17 ≠ s := by omega
    rw [if_neg e]
    by_cases e3 : (j + 17 - h) % 17 < s
    · rw [if_pos e3, if_pos (by omega)]; simp [e2]
    · rw [if_neg e3, if_neg (by omega)]
theorem cq_pop {h s j : Nat} {S : Nat → Nat} (hh : h < 17) (hs : s ≤ 16) (h1 : 1 ≤ s) (hj : j < 17) : va_up (cq h s S) h none j = cq ((h + 1) % 17) (s - 1) (fun k => S (k + 1)) j := by
  unfold va_up cq
  by_cases e : j = h
  · rw [if_pos e, if_neg (by omega)]
  · rw [if_neg e]
    by_cases e3 : (j + 17 - h) % 17 < s
    · rw [if_pos e3, if_pos (by omega)]; show _ = some (S ((j + 17 - (h + 1) % 17) % 17 + 1)); rw [show (j + 17 - (h + 1) % 17) % 17 + 1 = (j + 17 - h) % 17 from by omega]
    · rw [if_neg e3, if_neg (by omega)]
theorem cq_popl {h s j : Nat} {S : Nat → Nat} (hh : h < 17) (hs : s ≤ 16) (h1 : 1 ≤ s) (hj : j < 17) : va_up (cq h s S) ((h + (s - 1)) % 17) none j = cq h (s - 1) S j := by
  unfold va_up cq
  by_cases e : j = (h + (s - 1)) % 17
  · rw [if_pos e, if_neg (by omega)]
  · rw [if_neg e]
    by_cases e3 : (j + 17 - h) % 17 < s
    · rw [if_pos e3, if_pos (by omega)]
    · rw [if_neg e3, if_neg (by omega)]
theorem cq_none {h s j : Nat} {S : Nat → Nat} (hh : h < 17) (hs : s ≤ 16) (hj : j < 17) (h0 : cq h s S j ≠ none) : (h ≤ (h + s) % 17 → h ≤ j ∧ j < (h + s) % 17) ∧ ((h + s) % 17 < h → h ≤ j ∨ j < (h + s) % 17) := by
  unfold cq at h0
  by_cases e3 : (j + 17 - h) % 17 < s
  · omega
  · rw [if_neg e3] at h0; exact absurd rfl h0
theorem cq_0 (S : Nat → Nat) (j : Nat) : cq 0 0 S j = none := by unfold cq; rw [if_neg (by omega)]
/-! contracts, part jd -/
set_option maxRecDepth 100000
set_option maxHeartbeats 600000 in
theorem ct_J2_inc (l_ : Launch) (G : zG) (i : Nat) (hi : i < 17) :
    Ct l_ G yJ2_inc cJ2_inc 2 (some .int) 1 0 0 [.int (iZ ((i : Nat) : Int)), .int (iZ ((17 : Nat) : Int))] ([])
      (fun _u : Unit => some (.int (iZ ((((i + 1) % 17) : Nat) : Int)))) (fun _u : Unit => True) (fun _u : Unit => []) := by
  refine Ct.of (by decide) (Nat.le_of_ble_eq_true rfl) ?_
  intro κ hl_ hG_ hk hR_
  subst hl_
  subst hG_
  show Z κ 0 [(0, .int (iZ ((i : Nat) : Int))), (1, .int (iZ ((17 : Nat) : Int)))] [] ([]) 0 0
  refine z_iinc hk (z' := ((i + 1 : Nat) : Int)) [(0, .int (iZ ((i + 1 : Nat) : Int))), (1, .int (iZ ((17 : Nat) : Int)))] dJ2_inc_0 0 rfl (kk := ?_)
  refine z_iload_n hk dJ2_inc_3 0 rfl (kk := ?_)
  refine z_iload_n hk dJ2_inc_4 1 rfl (kk := ?_)
  refine z_icmp_lt hk 10 dJ2_inc_5 (kt := fun h5 => ?_) (kf := fun h5 => ?_) 
  · skip
    refine z_iload_n hk dJ2_inc_10 0 rfl (kk := ?_)
    exact z_iret hk hR_ () dJ2_inc_11 rfl (by congr 3; omega) (by trivial) (zSub.ix [] rfl)
  · skip
    refine z_iconst (z := ((0 : Nat) : Int)) hk dJ2_inc_8 (kk := ?_)
    refine z_istore_n hk [(0, .int (iZ ((0 : Nat) : Int))), (1, .int (iZ ((17 : Nat) : Int)))] dJ2_inc_9 (kk := ?_)
    refine z_iload_n hk dJ2_inc_10 0 rfl (kk := ?_)
    exact z_iret hk hR_ () dJ2_inc_11 rfl (by congr 3; omega) (by trivial) (zSub.ix [] rfl)

set_option maxHeartbeats 600000 in
theorem ct_J2_dec (l_ : Launch) (G : zG) (i : Nat) (hi : i < 17) :
    Ct l_ G yJ2_dec cJ2_dec 2 (some .int) 1 0 0 [.int (iZ ((i : Nat) : Int)), .int (iZ ((17 : Nat) : Int))] ([])
      (fun _u : Unit => some (.int (iZ ((((i + 16) % 17) : Nat) : Int)))) (fun _u : Unit => True) (fun _u : Unit => []) := by
  refine Ct.of (by decide) (Nat.le_of_ble_eq_true rfl) ?_
  intro κ hl_ hG_ hk hR_
  subst hl_
  subst hG_
  show Z κ 0 [(0, .int (iZ ((i : Nat) : Int))), (1, .int (iZ ((17 : Nat) : Int)))] [] ([]) 0 0
  refine z_iinc hk (z' := ((i : Nat) : Int) - 1) [(0, .int (iZ (((i : Nat) : Int) - 1))), (1, .int (iZ ((17 : Nat) : Int)))] dJ2_dec_0 0 rfl (kk := ?_)
  refine z_iload_n hk dJ2_dec_3 0 rfl (kk := ?_)
  refine z_if_ge hk 11 dJ2_dec_4 (kt := fun h4 => ?_) (kf := fun h4 => ?_) 
  · skip
    refine z_iload_n hk dJ2_dec_11 0 rfl (kk := ?_)
    refine z_topN ((i + 16) % 17) (by omega) ?_
    exact z_iret hk hR_ () dJ2_dec_12 rfl rfl (by trivial) (zSub.ix [] rfl)
  · skip
    refine z_iload_n hk dJ2_dec_7 1 rfl (kk := ?_)
    refine z_iconst (z := ((1 : Nat) : Int)) hk dJ2_dec_8 (kk := ?_)
    refine z_isub (z := ((17 : Nat) : Int) - ((1 : Nat) : Int)) hk dJ2_dec_9 (kk := ?_)
    refine z_istore_n hk [(0, .int (iZ (((17 : Nat) : Int) - ((1 : Nat) : Int)))), (1, .int (iZ ((17 : Nat) : Int)))] dJ2_dec_10 (kk := ?_)
    refine z_iload_n hk dJ2_dec_11 0 rfl (kk := ?_)
    refine z_topN ((i + 16) % 17) (by omega) ?_
    exact z_iret hk hR_ () dJ2_dec_12 rfl rfl (by trivial) (zSub.ix [] rfl)

set_option maxHeartbeats 600000 in
theorem ct_J2_sub (l_ : Launch) (G : zG) (i : Nat) (j : Nat) (hi : i < 17) (hj : j < 17) :
    Ct l_ G yJ2_sub cJ2_sub 3 (some .int) 1 0 0 [.int (iZ ((i : Nat) : Int)), .int (iZ ((j : Nat) : Int)), .int (iZ ((17 : Nat) : Int))] ([])
      (fun _u : Unit => some (.int (iZ ((((i + 17 - j) % 17) : Nat) : Int)))) (fun _u : Unit => True) (fun _u : Unit => []) := by
  refine Ct.of (by decide) (Nat.le_of_ble_eq_true rfl) ?_
  intro κ hl_ hG_ hk hR_
  subst hl_
  subst hG_
  show Z κ 0 [(0, .int (iZ ((i : Nat) : Int))), (1, .int (iZ ((j : Nat) : Int))), (2, .int (iZ ((17 : Nat) : Int)))] [] ([]) 0 0
  refine z_iload_n hk dJ2_sub_0 0 rfl (kk := ?_)
  refine z_iload_n hk dJ2_sub_1 1 rfl (kk := ?_)
  refine z_isub (z := ((i : Nat) : Int) - ((j : Nat) : Int)) hk dJ2_sub_2 (kk := ?_)
  refine z_dup hk dJ2_sub_3 (kk := ?_)
  refine z_istore_n hk [(0, .int (iZ (((i : Nat) : Int) - ((j : Nat) : Int)))), (1, .int (iZ ((j : Nat) : Int))), (2, .int (iZ ((17 : Nat) : Int)))] dJ2_sub_4 (kk := ?_)
  refine z_if_ge hk 12 dJ2_sub_5 (kt := fun h5 => ?_) (kf := fun h5 => ?_) 
  · skip
    refine z_iload_n hk dJ2_sub_12 0 rfl (kk := ?_)
    refine z_topN ((i + 17 - j) % 17) (by omega) ?_
    exact z_iret hk hR_ () dJ2_sub_13 rfl rfl (by trivial) (zSub.ix [] rfl)
  · skip
    refine z_iload_n hk dJ2_sub_8 0 rfl (kk := ?_)
    refine z_iload_n hk dJ2_sub_9 2 rfl (kk := ?_)
    refine z_iadd (z := ((i : Nat) : Int) - ((j : Nat) : Int) + ((17 : Nat) : Int)) hk dJ2_sub_10 (kk := ?_)
    refine z_istore_n hk [(0, .int (iZ (((i : Nat) : Int) - ((j : Nat) : Int) + ((17 : Nat) : Int)))), (1, .int (iZ ((j : Nat) : Int))), (2, .int (iZ ((17 : Nat) : Int)))] dJ2_sub_11 (kk := ?_)
    refine z_iload_n hk dJ2_sub_12 0 rfl (kk := ?_)
    refine z_topN ((i + 17 - j) % 17) (by omega) ?_
    exact z_iret hk hR_ () dJ2_sub_13 rfl rfl (by trivial) (zSub.ix [] rfl)

set_option maxHeartbeats 600000 in
theorem ct_J2_elementAt (l_ : Launch) (G : zG) (el : Nat) (f : Nat → Option Nat) (i : Nat) (x : Nat) (hi : i < 17) (hf : f i = some x) :
    Ct l_ G yJ2_elementAt cJ2_elementAt 2 (some (.object "java/lang/Object")) 1 0 0 [.ref el, .int (iZ ((i : Nat) : Int))] ([(el, zL G 17 f)])
      (fun _u : Unit => some (.ref x)) (fun _u : Unit => True) (fun _u : Unit => [(el, zL G 17 f)]) := by
  refine Ct.of (by decide) (Nat.le_of_ble_eq_true rfl) ?_
  intro κ hl_ hG_ hk hR_
  subst hl_
  subst hG_
  show Z κ 0 [(0, .ref el), (1, .int (iZ ((i : Nat) : Int)))] [] ([(el, zL (kG κ) 17 f)]) 0 0
  refine z_aload_n hk dJ2_elementAt_0 0 rfl (kk := ?_)
  refine z_iload_n hk dJ2_elementAt_1 1 rfl (kk := ?_)
  refine z_aald (i := i) hk 0 dJ2_elementAt_2 rfl (kk := ?_) 
  refine z_stk (st' := [.ref x]) (by rw [hf]; rfl) ?_
  exact z_aret hk hR_ () dJ2_elementAt_3 rfl (Or.inl ⟨_, rfl⟩) rfl (by trivial) (zSub.ix [0] rfl)

set_option maxHeartbeats 600000 in
theorem ct_J2_nonNullElementAt (l_ : Launch) (G : zG) (el : Nat) (f : Nat → Option Nat) (i : Nat) (x : Nat) (hi : i < 17) (hf : f i = some x) :
    Ct l_ G yJ2_nonNullElementAt cJ2_nonNullElementAt 3 (some (.object "java/lang/Object")) 1 0 0 [.ref el, .int (iZ ((i : Nat) : Int))] ([(el, zL G 17 f)])
      (fun _u : Unit => some (.ref x)) (fun _u : Unit => True) (fun _u : Unit => [(el, zL G 17 f)]) := by
  refine Ct.of (by decide) (Nat.le_of_ble_eq_true rfl) ?_
  intro κ hl_ hG_ hk hR_
  subst hl_
  subst hG_
  show Z κ 0 [(0, .ref el), (1, .int (iZ ((i : Nat) : Int)))] [] ([(el, zL (kG κ) 17 f)]) 0 0
  refine z_aload_n hk dJ2_nonNullElementAt_0 0 rfl (kk := ?_)
  refine z_iload_n hk dJ2_nonNullElementAt_1 1 rfl (kk := ?_)
  refine z_aald (i := i) hk 0 dJ2_nonNullElementAt_2 rfl (kk := ?_) 
  refine z_stk (st' := [.ref x]) (by rw [hf]; rfl) ?_
  refine z_astore_n hk [(2, .ref x), (0, .ref el), (1, .int (iZ ((i : Nat) : Int)))] dJ2_nonNullElementAt_3 (kk := ?_)
  refine z_aload_n hk dJ2_nonNullElementAt_4 0 rfl (kk := ?_)
  refine z_ifnonnull hk 16 dJ2_nonNullElementAt_5 (kk := ?_)
  refine z_aload_n hk dJ2_nonNullElementAt_16 0 rfl (kk := ?_)
  exact z_aret hk hR_ () dJ2_nonNullElementAt_17 rfl (Or.inl ⟨_, rfl⟩) rfl (by trivial) (zSub.ix [0] rfl)

set_option maxHeartbeats 600000 in
theorem ct_J2_init (l_ : Launch) (G : zG) (dq : Nat) :
    Ct l_ G yJ2_init cJ2_init 1 none 3 1 17 [.ref dq] ([(dq, zO 4 [.null, .int (iZ ((0 : Nat) : Int)), .int (iZ ((0 : Nat) : Int))])])
      (fun u : Nat => none) (fun u : Nat => True) (fun u : Nat => [(dq, zO 4 [.ref u, .int (iZ ((0 : Nat) : Int)), .int (iZ ((0 : Nat) : Int))]), (u, zL G 17 (fun _ => none))]) := by
  refine Ct.of (by decide) (Nat.le_of_ble_eq_true rfl) ?_
  intro κ hl_ hG_ hk hR_
  subst hl_
  subst hG_
  show Z κ 0 [(0, .ref dq)] [] ([(dq, zO 4 [.null, .int (iZ ((0 : Nat) : Int)), .int (iZ ((0 : Nat) : Int))])]) 0 0
  refine z_aload_n hk dJ2_init_0 0 rfl (kk := ?_)
  refine z_callI hk [] 0 [(dq, zO 4 [.null, .int (iZ ((0 : Nat) : Int)), .int (iZ ((0 : Nat) : Int))])] (ct_J1_init (kL κ) (kG κ) dq ) q140 q141 q59 q142 (zSub.ix [0] rfl) dJ2_init_1 rfl (kk := fun _ _ => ?_)
  show Z κ 4 [(0, .ref dq)] [] ([(dq, zO 4 [.null, .int (iZ ((0 : Nat) : Int)), .int (iZ ((0 : Nat) : Int))])]) 0 0
  refine z_aload_n hk dJ2_init_4 0 rfl (kk := ?_)
  refine z_bipush (z := ((17 : Nat) : Int)) hk dJ2_init_5 (kk := ?_)
  refine z_newq (n := 17) hk dJ2_init_7 q144 (kk := fun q_2 => ?_)
  show Z κ 10 [(0, .ref dq)] [.ref q_2, .ref dq] ([(dq, zO 4 [.null, .int (iZ ((0 : Nat) : Int)), .int (iZ ((0 : Nat) : Int))]), (q_2, zL (kG κ) 17 (fun _ => none))]) 1 17
  refine z_put hk in_J2 tyJ2 tyJ2_ok nmJ2 0 0 ([(dq, zO 4 [.ref q_2, .int (iZ ((0 : Nat) : Int)), .int (iZ ((0 : Nat) : Int))]), (q_2, zL (kG κ) 17 (fun _ => none))]) q146 dJ2_init_10 rfl (kk := ?_)
  exact z_vret hk hR_ q_2 dJ2_init_13 rfl rfl (by trivial) (zSub.ix [0, 1] rfl)

set_option maxHeartbeats 600000 in
theorem ct_J2_addLast (l_ : Launch) (G : zG) (dq : Nat) (el : Nat) (h : Nat) (s : Nat) (S : Nat → Nat) (x : Nat) (n : Nat) (t : Nat → Nat) (hh : h < 17) (hs : s < 16) :
    Ct l_ G yJ2_addLast cJ2_addLast 3 none 2 0 0 [.ref dq, .ref x] ([(dq, zO 4 [.ref el, .int (iZ ((h : Nat) : Int)), .int (iZ ((((h + s) % 17) : Nat) : Int))]), (el, zL G 17 (cq h s S)), (x, zI G n t)])
      (fun _u : Unit => none) (fun _u : Unit => True) (fun _u : Unit => [(dq, zO 4 [.ref el, .int (iZ ((h : Nat) : Int)), .int (iZ ((((h + (s + 1)) % 17) : Nat) : Int))]), (el, zL G 17 (cq h (s + 1) (va_up S s x))), (x, zI G n t)]) := by
  refine Ct.of (by decide) (Nat.le_of_ble_eq_true rfl) ?_
  intro κ hl_ hG_ hk hR_
  subst hl_
  subst hG_
  show Z κ 0 [(0, .ref dq), (1, .ref x)] [] ([(dq, zO 4 [.ref el, .int (iZ ((h : Nat) : Int)), .int (iZ ((((h + s) % 17) : Nat) : Int))]), (el, zL (kG κ) 17 (cq h s S)), (x, zI (kG κ) n t)]) 0 0
  refine z_aload_n hk dJ2_addLast_0 1 rfl (kk := ?_)
  refine z_ifnonnull hk 12 dJ2_addLast_1 (kk := ?_)
  refine z_aload_n hk dJ2_addLast_12 0 rfl (kk := ?_)
  refine z_get hk in_J2 0 0 q146 dJ2_addLast_13 rfl rfl (kk := ?_)
  refine z_astore_n hk [(2, .ref el), (0, .ref dq), (1, .ref x)] dJ2_addLast_16 (kk := ?_)
  refine z_aload_n hk dJ2_addLast_17 0 rfl (kk := ?_)
  refine z_aload_n hk dJ2_addLast_18 1 rfl (kk := ?_)
  refine z_get hk in_J2 0 2 q150 dJ2_addLast_19 rfl rfl (kk := ?_)
  refine z_aload_n hk dJ2_addLast_22 2 rfl (kk := ?_)
  refine z_aastI (i := ((h + s) % 17)) hk 1 2 [(dq, zO 4 [.ref el, .int (iZ ((h : Nat) : Int)), .int (iZ ((((h + s) % 17) : Nat) : Int))]), (el, zL (kG κ) 17 (va_up (cq h s S) ((h + s) % 17) (some x))), (x, zI (kG κ) n t)] q1551 dJ2_addLast_23 rfl rfl (kk := ?_) 
  refine z_arrL (g := (cq h (s + 1) (va_up S s x))) (ws' := ([(dq, zO 4 [.ref el, .int (iZ ((h : Nat) : Int)), .int (iZ ((((h + s) % 17) : Nat) : Int))]), (el, zL (kG κ) 17 (cq h (s + 1) (va_up S s x))), (x, zI (kG κ) n t)])) 1 rfl (fun j_ hj_ => by exact cq_add hh hs hj_) rfl ?_
  refine z_aload_n hk dJ2_addLast_24 1 rfl (kk := ?_)
  refine z_get hk in_J2 0 1 q149 dJ2_addLast_25 rfl rfl (kk := ?_)
  refine z_aload_n hk dJ2_addLast_28 1 rfl (kk := ?_)
  refine z_aload_n hk dJ2_addLast_29 1 rfl (kk := ?_)
  refine z_get hk in_J2 0 2 q150 dJ2_addLast_30 rfl rfl (kk := ?_)
  refine z_aload_n hk dJ2_addLast_33 0 rfl (kk := ?_)
  refine z_alen (n := 17) hk 1 4 dJ2_addLast_34 rfl (kk := ?_)
  refine z_callS hk [.int (iZ ((((h + s) % 17) : Nat) : Int)), .int (iZ ((17 : Nat) : Int))] 2 [(dq, zO 4 [.ref el, .int (iZ ((h : Nat) : Int)), .int (iZ ((((h + s) % 17) : Nat) : Int))]), (el, zL (kG κ) 17 (cq h (s + 1) (va_up S s x))), (x, zI (kG κ) n t)] (ct_J2_inc (kL κ) (kG κ) ((h + s) % 17) (by first | assumption | omega)) q938 q852 q60 q853 (zSub.ix [0, 1, 2] rfl) dJ2_addLast_35 rfl (kk := fun _ _ => ?_)
  show Z κ 38 [(2, .ref el), (0, .ref dq), (1, .ref x)] [.int (iZ ((((((h + s) % 17) + 1) % 17) : Nat) : Int)), .ref dq, .int (iZ ((h : Nat) : Int))] ([(dq, zO 4 [.ref el, .int (iZ ((h : Nat) : Int)), .int (iZ ((((h + s) % 17) : Nat) : Int))]), (el, zL (kG κ) 17 (cq h (s + 1) (va_up S s x))), (x, zI (kG κ) n t)]) 0 0
  refine z_topN ((h + (s + 1)) % 17) (by omega) ?_
  refine z_dup_x1 hk dJ2_addLast_38 (kk := ?_)
  refine z_put hk in_J2 tyJ2 tyJ2_ok nmJ2 0 2 ([(dq, zO 4 [.ref el, .int (iZ ((h : Nat) : Int)), .int (iZ ((((h + (s + 1)) % 17) : Nat) : Int))]), (el, zL (kG κ) 17 (cq h (s + 1) (va_up S s x))), (x, zI (kG κ) n t)]) q150 dJ2_addLast_39 rfl (kk := ?_)
  refine z_icmp_ne hk 50 dJ2_addLast_42 (kt := fun h42 => ?_) (kf := fun h42 => ?_) 
  · skip
    exact z_vret hk hR_ () dJ2_addLast_50 rfl rfl (by trivial) (zSub.ix [0, 1, 2] rfl)
  · skip
    exfalso; omega

set_option maxHeartbeats 600000 in
theorem ct_J2_pollFirst (l_ : Launch) (G : zG) (dq : Nat) (el : Nat) (h : Nat) (s : Nat) (S : Nat → Nat) (hh : h < 17) (hs : s ≤ 16) (h1 : 1 ≤ s) :
    Ct l_ G yJ2_pollFirst cJ2_pollFirst 4 (some (.object "java/lang/Object")) 2 0 0 [.ref dq] ([(dq, zO 4 [.ref el, .int (iZ ((h : Nat) : Int)), .int (iZ ((((h + s) % 17) : Nat) : Int))]), (el, zL G 17 (cq h s S))])
      (fun _u : Unit => some (.ref (S 0))) (fun _u : Unit => True) (fun _u : Unit => [(dq, zO 4 [.ref el, .int (iZ ((((h + 1) % 17) : Nat) : Int)), .int (iZ ((((h + s) % 17) : Nat) : Int))]), (el, zL G 17 (cq ((h + 1) % 17) (s - 1) (fun k => S (k + 1))))]) := by
  refine Ct.of (by decide) (Nat.le_of_ble_eq_true rfl) ?_
  intro κ hl_ hG_ hk hR_
  subst hl_
  subst hG_
  show Z κ 0 [(0, .ref dq)] [] ([(dq, zO 4 [.ref el, .int (iZ ((h : Nat) : Int)), .int (iZ ((((h + s) % 17) : Nat) : Int))]), (el, zL (kG κ) 17 (cq h s S))]) 0 0
  refine z_aload_n hk dJ2_pollFirst_0 0 rfl (kk := ?_)
  refine z_get hk in_J2 0 0 q146 dJ2_pollFirst_1 rfl rfl (kk := ?_)
  refine z_dup hk dJ2_pollFirst_4 (kk := ?_)
  refine z_astore_n hk [(1, .ref el), (0, .ref dq)] dJ2_pollFirst_5 (kk := ?_)
  refine z_aload_n hk dJ2_pollFirst_6 1 rfl (kk := ?_)
  refine z_get hk in_J2 0 1 q149 dJ2_pollFirst_7 rfl rfl (kk := ?_)
  refine z_dup hk dJ2_pollFirst_10 (kk := ?_)
  refine z_istore_n hk [(2, .int (iZ ((h : Nat) : Int))), (1, .ref el), (0, .ref dq)] dJ2_pollFirst_11 (kk := ?_)
  refine z_callS hk [.ref el, .int (iZ ((h : Nat) : Int))] 2 [(dq, zO 4 [.ref el, .int (iZ ((h : Nat) : Int)), .int (iZ ((((h + s) % 17) : Nat) : Int))])] (ct_J2_elementAt (kL κ) (kG κ) el (cq h s S) h (S 0) (by first | assumption | omega) (by have := cq_at (S := S) hh h1 hs; rw [show (h + 0) % 17 = h from by omega] at this; exact this)) q1035 q1036 q60 q1037 (zSub.ix [1, 0] rfl) dJ2_pollFirst_12 rfl (kk := fun _ _ => ?_)
  show Z κ 15 [(2, .int (iZ ((h : Nat) : Int))), (1, .ref el), (0, .ref dq)] [.ref (S 0)] ([(el, zL (kG κ) 17 (cq h s S)), (dq, zO 4 [.ref el, .int (iZ ((h : Nat) : Int)), .int (iZ ((((h + s) % 17) : Nat) : Int))])]) 0 0
  refine z_astore_n hk [(3, .ref (S 0)), (2, .int (iZ ((h : Nat) : Int))), (1, .ref el), (0, .ref dq)] dJ2_pollFirst_15 (kk := ?_)
  refine z_aload_n hk dJ2_pollFirst_16 0 rfl (kk := ?_)
  refine z_ifnull hk dJ2_pollFirst_17 (kk := ?_)
  refine z_aload_n hk dJ2_pollFirst_20 2 rfl (kk := ?_)
  refine z_iload_n hk dJ2_pollFirst_21 1 rfl (kk := ?_)
  refine z_null hk dJ2_pollFirst_22 (kk := ?_)
  refine z_aastN (i := h) hk 0 ([(el, zL (kG κ) 17 (va_up (cq h s S) h none)), (dq, zO 4 [.ref el, .int (iZ ((h : Nat) : Int)), .int (iZ ((((h + s) % 17) : Nat) : Int))])]) dJ2_pollFirst_23 rfl (kk := ?_) 
  refine z_arrL (g := (cq ((h + 1) % 17) (s - 1) (fun k => S (k + 1)))) (ws' := ([(el, zL (kG κ) 17 (cq ((h + 1) % 17) (s - 1) (fun k => S (k + 1)))), (dq, zO 4 [.ref el, .int (iZ ((h : Nat) : Int)), .int (iZ ((((h + s) % 17) : Nat) : Int))])])) 0 rfl (fun j_ hj_ => by exact cq_pop hh hs h1 hj_) rfl ?_
  refine z_aload_n hk dJ2_pollFirst_24 3 rfl (kk := ?_)
  refine z_iload_n hk dJ2_pollFirst_25 1 rfl (kk := ?_)
  refine z_aload_n hk dJ2_pollFirst_26 2 rfl (kk := ?_)
  refine z_alen (n := 17) hk 0 4 dJ2_pollFirst_27 rfl (kk := ?_)
  refine z_callS hk [.int (iZ ((h : Nat) : Int)), .int (iZ ((17 : Nat) : Int))] 2 [(el, zL (kG κ) 17 (cq ((h + 1) % 17) (s - 1) (fun k => S (k + 1)))), (dq, zO 4 [.ref el, .int (iZ ((h : Nat) : Int)), .int (iZ ((((h + s) % 17) : Nat) : Int))])] (ct_J2_inc (kL κ) (kG κ) h (by first | assumption | omega)) q938 q852 q60 q853 (zSub.ix [0, 1] rfl) dJ2_pollFirst_28 rfl (kk := fun _ _ => ?_)
  show Z κ 31 [(3, .ref (S 0)), (2, .int (iZ ((h : Nat) : Int))), (1, .ref el), (0, .ref dq)] [.int (iZ ((((h + 1) % 17) : Nat) : Int)), .ref dq] ([(el, zL (kG κ) 17 (cq ((h + 1) % 17) (s - 1) (fun k => S (k + 1)))), (dq, zO 4 [.ref el, .int (iZ ((h : Nat) : Int)), .int (iZ ((((h + s) % 17) : Nat) : Int))])]) 0 0
  refine z_put hk in_J2 tyJ2 tyJ2_ok nmJ2 1 1 ([(el, zL (kG κ) 17 (cq ((h + 1) % 17) (s - 1) (fun k => S (k + 1)))), (dq, zO 4 [.ref el, .int (iZ ((((h + 1) % 17) : Nat) : Int)), .int (iZ ((((h + s) % 17) : Nat) : Int))])]) q149 dJ2_pollFirst_31 rfl (kk := ?_)
  refine z_aload_n hk dJ2_pollFirst_34 0 rfl (kk := ?_)
  exact z_aret hk hR_ () dJ2_pollFirst_35 rfl (Or.inl ⟨_, rfl⟩) rfl (by trivial) (zSub.ix [1, 0] rfl)

set_option maxHeartbeats 600000 in
theorem ct_J2_removeFirst (l_ : Launch) (G : zG) (dq : Nat) (el : Nat) (h : Nat) (s : Nat) (S : Nat → Nat) (hh : h < 17) (hs : s ≤ 16) (h1 : 1 ≤ s) :
    Ct l_ G yJ2_removeFirst cJ2_removeFirst 2 (some (.object "java/lang/Object")) 3 0 0 [.ref dq] ([(dq, zO 4 [.ref el, .int (iZ ((h : Nat) : Int)), .int (iZ ((((h + s) % 17) : Nat) : Int))]), (el, zL G 17 (cq h s S))])
      (fun _u : Unit => some (.ref (S 0))) (fun _u : Unit => True) (fun _u : Unit => [(dq, zO 4 [.ref el, .int (iZ ((((h + 1) % 17) : Nat) : Int)), .int (iZ ((((h + s) % 17) : Nat) : Int))]), (el, zL G 17 (cq ((h + 1) % 17) (s - 1) (fun k => S (k + 1))))]) := by
  refine Ct.of (by decide) (Nat.le_of_ble_eq_true rfl) ?_
  intro κ hl_ hG_ hk hR_
  subst hl_
  subst hG_
  show Z κ 0 [(0, .ref dq)] [] ([(dq, zO 4 [.ref el, .int (iZ ((h : Nat) : Int)), .int (iZ ((((h + s) % 17) : Nat) : Int))]), (el, zL (kG κ) 17 (cq h s S))]) 0 0
  refine z_aload_n hk dJ2_removeFirst_0 0 rfl (kk := ?_)
  refine z_callV hk [] 0 [] (ct_J2_pollFirst (kL κ) (kG κ) dq el h s S (by first | assumption | omega) (by first | assumption | omega) (by first | assumption | omega)) q1031 q1032 q1033 q60 q1034 (zSub.ix [0, 1] rfl) 0 4 rfl dJ2_removeFirst_1 rfl (kk := fun _ _ => ?_)
  show Z κ 4 [(0, .ref dq)] [.ref (S 0)] ([(dq, zO 4 [.ref el, .int (iZ ((((h + 1) % 17) : Nat) : Int)), .int (iZ ((((h + s) % 17) : Nat) : Int))]), (el, zL (kG κ) 17 (cq ((h + 1) % 17) (s - 1) (fun k => S (k + 1))))]) 0 0
  refine z_astore_n hk [(1, .ref (S 0)), (0, .ref dq)] dJ2_removeFirst_4 (kk := ?_)
  refine z_aload_n hk dJ2_removeFirst_5 0 rfl (kk := ?_)
  refine z_ifnonnull hk 17 dJ2_removeFirst_6 (kk := ?_)
  refine z_aload_n hk dJ2_removeFirst_17 0 rfl (kk := ?_)
  exact z_aret hk hR_ () dJ2_removeFirst_18 rfl (Or.inl ⟨_, rfl⟩) rfl (by trivial) (zSub.ix [0, 1] rfl)

set_option maxHeartbeats 600000 in
theorem ct_J2_pollLast (l_ : Launch) (G : zG) (dq : Nat) (el : Nat) (h : Nat) (s : Nat) (S : Nat → Nat) (hh : h < 17) (hs : s ≤ 16) (h1 : 1 ≤ s) :
    Ct l_ G yJ2_pollLast cJ2_pollLast 4 (some (.object "java/lang/Object")) 2 0 0 [.ref dq] ([(dq, zO 4 [.ref el, .int (iZ ((h : Nat) : Int)), .int (iZ ((((h + s) % 17) : Nat) : Int))]), (el, zL G 17 (cq h s S))])
      (fun _u : Unit => some (.ref (S (s - 1)))) (fun _u : Unit => True) (fun _u : Unit => [(dq, zO 4 [.ref el, .int (iZ ((h : Nat) : Int)), .int (iZ ((((h + (s - 1)) % 17) : Nat) : Int))]), (el, zL G 17 (cq h (s - 1) S))]) := by
  refine Ct.of (by decide) (Nat.le_of_ble_eq_true rfl) ?_
  intro κ hl_ hG_ hk hR_
  subst hl_
  subst hG_
  show Z κ 0 [(0, .ref dq)] [] ([(dq, zO 4 [.ref el, .int (iZ ((h : Nat) : Int)), .int (iZ ((((h + s) % 17) : Nat) : Int))]), (el, zL (kG κ) 17 (cq h s S))]) 0 0
  refine z_aload_n hk dJ2_pollLast_0 0 rfl (kk := ?_)
  refine z_get hk in_J2 0 0 q146 dJ2_pollLast_1 rfl rfl (kk := ?_)
  refine z_dup hk dJ2_pollLast_4 (kk := ?_)
  refine z_astore_n hk [(1, .ref el), (0, .ref dq)] dJ2_pollLast_5 (kk := ?_)
  refine z_aload_n hk dJ2_pollLast_6 1 rfl (kk := ?_)
  refine z_get hk in_J2 0 2 q150 dJ2_pollLast_7 rfl rfl (kk := ?_)
  refine z_aload_n hk dJ2_pollLast_10 0 rfl (kk := ?_)
  refine z_alen (n := 17) hk 1 4 dJ2_pollLast_11 rfl (kk := ?_)
  refine z_callS hk [.int (iZ ((((h + s) % 17) : Nat) : Int)), .int (iZ ((17 : Nat) : Int))] 2 [(dq, zO 4 [.ref el, .int (iZ ((h : Nat) : Int)), .int (iZ ((((h + s) % 17) : Nat) : Int))]), (el, zL (kG κ) 17 (cq h s S))] (ct_J2_dec (kL κ) (kG κ) ((h + s) % 17) (by first | assumption | omega)) q939 q940 q60 q941 (zSub.ix [0, 1] rfl) dJ2_pollLast_12 rfl (kk := fun _ _ => ?_)
  show Z κ 15 [(1, .ref el), (0, .ref dq)] [.int (iZ ((((((h + s) % 17) + 16) % 17) : Nat) : Int)), .ref el] ([(dq, zO 4 [.ref el, .int (iZ ((h : Nat) : Int)), .int (iZ ((((h + s) % 17) : Nat) : Int))]), (el, zL (kG κ) 17 (cq h s S))]) 0 0
  refine z_topN ((h + (s - 1)) % 17) (by omega) ?_
  refine z_dup hk dJ2_pollLast_15 (kk := ?_)
  refine z_istore_n hk [(2, .int (iZ ((((h + (s - 1)) % 17) : Nat) : Int))), (1, .ref el), (0, .ref dq)] dJ2_pollLast_16 (kk := ?_)
  refine z_callS hk [.ref el, .int (iZ ((((h + (s - 1)) % 17) : Nat) : Int))] 2 [(dq, zO 4 [.ref el, .int (iZ ((h : Nat) : Int)), .int (iZ ((((h + s) % 17) : Nat) : Int))])] (ct_J2_elementAt (kL κ) (kG κ) el (cq h s S) ((h + (s - 1)) % 17) (S (s - 1)) (by first | assumption | omega) (cq_at hh (show s - 1 < s by omega) hs)) q1035 q1036 q60 q1037 (zSub.ix [1, 0] rfl) dJ2_pollLast_17 rfl (kk := fun _ _ => ?_)
  show Z κ 20 [(2, .int (iZ ((((h + (s - 1)) % 17) : Nat) : Int))), (1, .ref el), (0, .ref dq)] [.ref (S (s - 1))] ([(el, zL (kG κ) 17 (cq h s S)), (dq, zO 4 [.ref el, .int (iZ ((h : Nat) : Int)), .int (iZ ((((h + s) % 17) : Nat) : Int))])]) 0 0
  refine z_astore_n hk [(3, .ref (S (s - 1))), (2, .int (iZ ((((h + (s - 1)) % 17) : Nat) : Int))), (1, .ref el), (0, .ref dq)] dJ2_pollLast_20 (kk := ?_)
  refine z_aload_n hk dJ2_pollLast_21 0 rfl (kk := ?_)
  refine z_ifnull hk dJ2_pollLast_22 (kk := ?_)
  refine z_aload_n hk dJ2_pollLast_25 2 rfl (kk := ?_)
  refine z_aload_n hk dJ2_pollLast_26 3 rfl (kk := ?_)
  refine z_iload_n hk dJ2_pollLast_27 1 rfl (kk := ?_)
  refine z_dup_x1 hk dJ2_pollLast_28 (kk := ?_)
  refine z_put hk in_J2 tyJ2 tyJ2_ok nmJ2 1 2 ([(el, zL (kG κ) 17 (cq h s S)), (dq, zO 4 [.ref el, .int (iZ ((h : Nat) : Int)), .int (iZ ((((h + (s - 1)) % 17) : Nat) : Int))])]) q150 dJ2_pollLast_29 rfl (kk := ?_)
  refine z_null hk dJ2_pollLast_32 (kk := ?_)
  refine z_aastN (i := ((h + (s - 1)) % 17)) hk 0 ([(el, zL (kG κ) 17 (va_up (cq h s S) ((h + (s - 1)) % 17) none)), (dq, zO 4 [.ref el, .int (iZ ((h : Nat) : Int)), .int (iZ ((((h + (s - 1)) % 17) : Nat) : Int))])]) dJ2_pollLast_33 rfl (kk := ?_) 
  refine z_arrL (g := (cq h (s - 1) S)) (ws' := ([(el, zL (kG κ) 17 (cq h (s - 1) S)), (dq, zO 4 [.ref el, .int (iZ ((h : Nat) : Int)), .int (iZ ((((h + (s - 1)) % 17) : Nat) : Int))])])) 0 rfl (fun j_ hj_ => by exact cq_popl hh hs h1 hj_) rfl ?_
  refine z_aload_n hk dJ2_pollLast_34 0 rfl (kk := ?_)
  exact z_aret hk hR_ () dJ2_pollLast_35 rfl (Or.inl ⟨_, rfl⟩) rfl (by trivial) (zSub.ix [1, 0] rfl)

set_option maxHeartbeats 600000 in
theorem ct_J2_removeLast (l_ : Launch) (G : zG) (dq : Nat) (el : Nat) (h : Nat) (s : Nat) (S : Nat → Nat) (hh : h < 17) (hs : s ≤ 16) (h1 : 1 ≤ s) :
    Ct l_ G yJ2_removeLast cJ2_removeLast 2 (some (.object "java/lang/Object")) 3 0 0 [.ref dq] ([(dq, zO 4 [.ref el, .int (iZ ((h : Nat) : Int)), .int (iZ ((((h + s) % 17) : Nat) : Int))]), (el, zL G 17 (cq h s S))])
      (fun _u : Unit => some (.ref (S (s - 1)))) (fun _u : Unit => True) (fun _u : Unit => [(dq, zO 4 [.ref el, .int (iZ ((h : Nat) : Int)), .int (iZ ((((h + (s - 1)) % 17) : Nat) : Int))]), (el, zL G 17 (cq h (s - 1) S))]) := by
  refine Ct.of (by decide) (Nat.le_of_ble_eq_true rfl) ?_
  intro κ hl_ hG_ hk hR_
  subst hl_
  subst hG_
  show Z κ 0 [(0, .ref dq)] [] ([(dq, zO 4 [.ref el, .int (iZ ((h : Nat) : Int)), .int (iZ ((((h + s) % 17) : Nat) : Int))]), (el, zL (kG κ) 17 (cq h s S))]) 0 0
  refine z_aload_n hk dJ2_removeLast_0 0 rfl (kk := ?_)
  refine z_callV hk [] 0 [] (ct_J2_pollLast (kL κ) (kG κ) dq el h s S (by first | assumption | omega) (by first | assumption | omega) (by first | assumption | omega)) q1077 q1078 q1079 q60 q1080 (zSub.ix [0, 1] rfl) 0 4 rfl dJ2_removeLast_1 rfl (kk := fun _ _ => ?_)
  show Z κ 4 [(0, .ref dq)] [.ref (S (s - 1))] ([(dq, zO 4 [.ref el, .int (iZ ((h : Nat) : Int)), .int (iZ ((((h + (s - 1)) % 17) : Nat) : Int))]), (el, zL (kG κ) 17 (cq h (s - 1) S))]) 0 0
  refine z_astore_n hk [(1, .ref (S (s - 1))), (0, .ref dq)] dJ2_removeLast_4 (kk := ?_)
  refine z_aload_n hk dJ2_removeLast_5 0 rfl (kk := ?_)
  refine z_ifnonnull hk 17 dJ2_removeLast_6 (kk := ?_)
  refine z_aload_n hk dJ2_removeLast_17 0 rfl (kk := ?_)
  exact z_aret hk hR_ () dJ2_removeLast_18 rfl (Or.inl ⟨_, rfl⟩) rfl (by trivial) (zSub.ix [0, 1] rfl)

set_option maxHeartbeats 600000 in
theorem ct_J2_isEmpty (l_ : Launch) (G : zG) (dq : Nat) (el : Nat) (h : Nat) (s : Nat) (S : Nat → Nat) (hh : h < 17) (hs : s ≤ 16) :
    Ct l_ G yJ2_isEmpty cJ2_isEmpty 1 (some .boolean) 1 0 0 [.ref dq] ([(dq, zO 4 [.ref el, .int (iZ ((h : Nat) : Int)), .int (iZ ((((h + s) % 17) : Nat) : Int))])])
      (fun u : Nat => some (.int (iZ ((u : Nat) : Int)))) (fun u : Nat => (s = 0 ∧ u = 1) ∨ (1 ≤ s ∧ u = 0)) (fun u : Nat => [(dq, zO 4 [.ref el, .int (iZ ((h : Nat) : Int)), .int (iZ ((((h + s) % 17) : Nat) : Int))])]) := by
  refine Ct.of (by decide) (Nat.le_of_ble_eq_true rfl) ?_
  intro κ hl_ hG_ hk hR_
  subst hl_
  subst hG_
  show Z κ 0 [(0, .ref dq)] [] ([(dq, zO 4 [.ref el, .int (iZ ((h : Nat) : Int)), .int (iZ ((((h + s) % 17) : Nat) : Int))])]) 0 0
  refine z_aload_n hk dJ2_isEmpty_0 0 rfl (kk := ?_)
  refine z_get hk in_J2 0 1 q149 dJ2_isEmpty_1 rfl rfl (kk := ?_)
  refine z_aload_n hk dJ2_isEmpty_4 0 rfl (kk := ?_)
  refine z_get hk in_J2 0 2 q150 dJ2_isEmpty_5 rfl rfl (kk := ?_)
  refine z_icmp_ne hk 15 dJ2_isEmpty_8 (kt := fun h8 => ?_) (kf := fun h8 => ?_) 
  · skip
    refine z_iconst (z := ((0 : Nat) : Int)) hk dJ2_isEmpty_15 (kk := ?_)
    exact z_zret hk hR_ 0 (by omega) dJ2_isEmpty_16 rfl rfl (by first | assumption | omega) (zSub.ix [0] rfl)
  · skip
    refine z_iconst (z := ((1 : Nat) : Int)) hk dJ2_isEmpty_11 (kk := ?_)
    refine z_goto hk 16 dJ2_isEmpty_12 (kk := ?_)
    exact z_zret hk hR_ 1 (by omega) dJ2_isEmpty_16 rfl rfl (by first | assumption | omega) (zSub.ix [0] rfl)

set_option maxHeartbeats 600000 in
theorem ct_J2_size (l_ : Launch) (G : zG) (dq : Nat) (el : Nat) (h : Nat) (s : Nat) (S : Nat → Nat) (hh : h < 17) (hs : s ≤ 16) :
    Ct l_ G yJ2_size cJ2_size 1 (some .int) 2 0 0 [.ref dq] ([(dq, zO 4 [.ref el, .int (iZ ((h : Nat) : Int)), .int (iZ ((((h + s) % 17) : Nat) : Int))]), (el, zL G 17 (cq h s S))])
      (fun _u : Unit => some (.int (iZ ((s : Nat) : Int)))) (fun _u : Unit => True) (fun _u : Unit => [(dq, zO 4 [.ref el, .int (iZ ((h : Nat) : Int)), .int (iZ ((((h + s) % 17) : Nat) : Int))]), (el, zL G 17 (cq h s S))]) := by
  refine Ct.of (by decide) (Nat.le_of_ble_eq_true rfl) ?_
  intro κ hl_ hG_ hk hR_
  subst hl_
  subst hG_
  show Z κ 0 [(0, .ref dq)] [] ([(dq, zO 4 [.ref el, .int (iZ ((h : Nat) : Int)), .int (iZ ((((h + s) % 17) : Nat) : Int))]), (el, zL (kG κ) 17 (cq h s S))]) 0 0
  refine z_aload_n hk dJ2_size_0 0 rfl (kk := ?_)
  refine z_get hk in_J2 0 2 q150 dJ2_size_1 rfl rfl (kk := ?_)
  refine z_aload_n hk dJ2_size_4 0 rfl (kk := ?_)
  refine z_get hk in_J2 0 1 q149 dJ2_size_5 rfl rfl (kk := ?_)
  refine z_aload_n hk dJ2_size_8 0 rfl (kk := ?_)
  refine z_get hk in_J2 0 0 q146 dJ2_size_9 rfl rfl (kk := ?_)
  refine z_alen (n := 17) hk 1 4 dJ2_size_12 rfl (kk := ?_)
  refine z_callS hk [.int (iZ ((((h + s) % 17) : Nat) : Int)), .int (iZ ((h : Nat) : Int)), .int (iZ ((17 : Nat) : Int))] 3 [(dq, zO 4 [.ref el, .int (iZ ((h : Nat) : Int)), .int (iZ ((((h + s) % 17) : Nat) : Int))]), (el, zL (kG κ) 17 (cq h s S))] (ct_J2_sub (kL κ) (kG κ) ((h + s) % 17) h (by first | assumption | omega) (by first | assumption | omega)) q934 q935 q60 q936 (zSub.ix [0, 1] rfl) dJ2_size_13 rfl (kk := fun _ _ => ?_)
  show Z κ 16 [(0, .ref dq)] [.int (iZ ((((((h + s) % 17) + 17 - h) % 17) : Nat) : Int))] ([(dq, zO 4 [.ref el, .int (iZ ((h : Nat) : Int)), .int (iZ ((((h + s) % 17) : Nat) : Int))]), (el, zL (kG κ) 17 (cq h s S))]) 0 0
  refine z_topN (s) (by omega) ?_
  exact z_iret hk hR_ () dJ2_size_16 rfl rfl (by trivial) (zSub.ix [0, 1] rfl)

set_option maxHeartbeats 600000 in
theorem ct_J2_circularClear (l_ : Launch) (G : zG) (el : Nat) (f0 : Nat → Option Nat) (h : Nat) (tl : Nat) (hh : h < 17) (ht : tl < 17) (hf : ∀ j, j < 17 → f0 j ≠ none → (h ≤ tl → h ≤ j ∧ j < tl) ∧ (tl < h → h ≤ j ∨ j < tl)) :
    Ct l_ G yJ2_circularClear cJ2_circularClear 4 none 1 0 0 [.ref el, .int (iZ ((h : Nat) : Int)), .int (iZ ((tl : Nat) : Int))] ([(el, zL G 17 f0)])
      (fun _u : Unit => none) (fun _u : Unit => True) (fun _u : Unit => [(el, zL G 17 (fun _ => none))]) := by
  refine Ct.of (by decide) (Nat.le_of_ble_eq_true rfl) ?_
  intro κ hl_ hG_ hk hR_
  subst hl_
  subst hG_
  show Z κ 0 [(0, .ref el), (1, .int (iZ ((h : Nat) : Int))), (2, .int (iZ ((tl : Nat) : Int)))] [] ([(el, zL (kG κ) 17 f0)]) 0 0
  refine z_iload_n hk dJ2_circularClear_0 1 rfl (kk := ?_)
  refine z_iload_n hk dJ2_circularClear_1 2 rfl (kk := ?_)
  refine z_icmp_gt hk 9 dJ2_circularClear_2 (kt := fun h2 => ?_) (kf := fun h2 => ?_) 
  · skip
    refine z_aload_n hk dJ2_circularClear_9 0 rfl (kk := ?_)
    refine z_alen (n := 17) hk 0 4 dJ2_circularClear_10 rfl (kk := ?_)
    refine z_istore_n hk [(3, .int (iZ ((17 : Nat) : Int))), (0, .ref el), (1, .int (iZ ((h : Nat) : Int))), (2, .int (iZ ((tl : Nat) : Int)))] dJ2_circularClear_11 (kk := ?_)
    have L12 : ∀ (f_ : Nat) (i : Nat) (to : Nat) (ph : Nat) (f : Nat → Option Nat), ((ph = 0 ∧ to = tl) ∨ (ph = 1 ∧ to = 17)) → (i ≤ to) → (∀ j, j < 17 → f j ≠ none → (i ≤ j ∧ j < to) ∨ (ph = 1 ∧ j < tl)) → ph * 20 + (to - i) < f_ → Z κ 12 [(3, .int (iZ ((to : Nat) : Int))), (0, .ref el), (1, .int (iZ ((i : Nat) : Int))), (2, .int (iZ ((tl : Nat) : Int)))] [] ([(el, zL (kG κ) 17 f)]) 0 0 := by
      intro f_
      induction f_ with
      | zero => intro i to ph f hph hi hf2 hm_; exact absurd hm_ (Nat.not_lt_zero _)
      | succ f_ ih12 =>
        intro i to ph f hph hi hf2 hm_
        refine z_iload_n hk dJ2_circularClear_12 2 rfl (kk := ?_)
        refine z_iload_n hk dJ2_circularClear_13 0 rfl (kk := ?_)
        refine z_icmp_ge hk 27 dJ2_circularClear_14 (kt := fun h14 => ?_) (kf := fun h14 => ?_) 
        · skip
          refine z_iload_n hk dJ2_circularClear_27 0 rfl (kk := ?_)
          refine z_iload_n hk dJ2_circularClear_28 3 rfl (kk := ?_)
          refine z_icmp_ne hk 35 dJ2_circularClear_29 (kt := fun h29 => ?_) (kf := fun h29 => ?_) 
          · skip
            refine z_iconst (z := ((0 : Nat) : Int)) hk dJ2_circularClear_35 (kk := ?_)
            refine z_istore_n hk [(1, .int (iZ ((0 : Nat) : Int))), (3, .int (iZ ((to : Nat) : Int))), (0, .ref el), (2, .int (iZ ((tl : Nat) : Int)))] dJ2_circularClear_36 (kk := ?_)
            refine z_iload_n hk dJ2_circularClear_37 3 rfl (kk := ?_)
            refine z_istore_n hk [(3, .int (iZ ((tl : Nat) : Int))), (1, .int (iZ ((0 : Nat) : Int))), (0, .ref el), (2, .int (iZ ((tl : Nat) : Int)))] dJ2_circularClear_38 (kk := ?_)
            refine z_goto hk 12 dJ2_circularClear_39 (kk := ?_)
            refine z_lvs [0, 2, 1, 3] (lv' := [(3, .int (iZ ((tl : Nat) : Int))), (0, .ref el), (1, .int (iZ ((0 : Nat) : Int))), (2, .int (iZ ((tl : Nat) : Int)))]) (kk := ?_)
            exact ih12  0 tl 0 f (by first | assumption | omega) (by first | assumption | omega) (by intro j hj h0; have := hf2 j hj h0; omega) (by omega)
          · skip
            refine z_goto hk 42 dJ2_circularClear_32 (kk := ?_)
            refine z_arrL (g := (fun _ => none)) (ws' := ([(el, zL (kG κ) 17 (fun _ => none))])) 0 rfl (fun j_ hj_ => by have h0 := hf2 j_ hj_; by_cases e : f j_ = none; exact e; (have := h0 e; omega)) rfl ?_
            exact z_vret hk hR_ () dJ2_circularClear_42 rfl rfl (by trivial) (zSub.ix [0] rfl)
        · skip
          refine z_aload_n hk dJ2_circularClear_17 1 rfl (kk := ?_)
          refine z_iload_n hk dJ2_circularClear_18 2 rfl (kk := ?_)
          refine z_null hk dJ2_circularClear_19 (kk := ?_)
          refine z_aastN (i := i) hk 0 ([(el, zL (kG κ) 17 (va_up f i none))]) dJ2_circularClear_20 rfl (kk := ?_) 
          refine z_iinc hk (z' := ((i + 1 : Nat) : Int)) [(1, .int (iZ ((i + 1 : Nat) : Int))), (3, .int (iZ ((to : Nat) : Int))), (0, .ref el), (2, .int (iZ ((tl : Nat) : Int)))] dJ2_circularClear_21 2 rfl (kk := ?_)
          refine z_goto hk 12 dJ2_circularClear_24 (kk := ?_)
          refine z_lvs [1, 2, 0, 3] (lv' := [(3, .int (iZ ((to : Nat) : Int))), (0, .ref el), (1, .int (iZ ((i + 1 : Nat) : Int))), (2, .int (iZ ((tl : Nat) : Int)))]) (kk := ?_)
          exact ih12  (i + 1) to ph (va_up f i none) (by first | assumption | omega) (by first | assumption | omega) (by intro j hj h0; unfold va_up at h0; by_cases e : j = i; (rw [if_pos e] at h0; exact absurd rfl h0); (rw [if_neg e] at h0; have := hf2 j hj h0; omega)) (by omega)
    exact L12 (1 * 20 + (17 - h) + 1) h 17 1 f0 (by first | assumption | omega) (by first | assumption | omega) (by intro j hj h0; have := hf j hj h0; omega) (Nat.lt_succ_self _)
  · skip
    refine z_iload_n hk dJ2_circularClear_5 2 rfl (kk := ?_)
    refine z_goto hk 11 dJ2_circularClear_6 (kk := ?_)
    refine z_istore_n hk [(3, .int (iZ ((tl : Nat) : Int))), (0, .ref el), (1, .int (iZ ((h : Nat) : Int))), (2, .int (iZ ((tl : Nat) : Int)))] dJ2_circularClear_11 (kk := ?_)
    have L12 : ∀ (f_ : Nat) (i : Nat) (to : Nat) (ph : Nat) (f : Nat → Option Nat), ((ph = 0 ∧ to = tl) ∨ (ph = 1 ∧ to = 17)) → (i ≤ to) → (∀ j, j < 17 → f j ≠ none → (i ≤ j ∧ j < to) ∨ (ph = 1 ∧ j < tl)) → ph * 20 + (to - i) < f_ → Z κ 12 [(3, .int (iZ ((to : Nat) : Int))), (0, .ref el), (1, .int (iZ ((i : Nat) : Int))), (2, .int (iZ ((tl : Nat) : Int)))] [] ([(el, zL (kG κ) 17 f)]) 0 0 := by
      intro f_
      induction f_ with
      | zero => intro i to ph f hph hi hf2 hm_; exact absurd hm_ (Nat.not_lt_zero _)
      | succ f_ ih12 =>
        intro i to ph f hph hi hf2 hm_
        refine z_iload_n hk dJ2_circularClear_12 2 rfl (kk := ?_)
        refine z_iload_n hk dJ2_circularClear_13 0 rfl (kk := ?_)
        refine z_icmp_ge hk 27 dJ2_circularClear_14 (kt := fun h14 => ?_) (kf := fun h14 => ?_) 
        · skip
          refine z_iload_n hk dJ2_circularClear_27 0 rfl (kk := ?_)
          refine z_iload_n hk dJ2_circularClear_28 3 rfl (kk := ?_)
          refine z_icmp_ne hk 35 dJ2_circularClear_29 (kt := fun h29 => ?_) (kf := fun h29 => ?_) 
          · skip
            refine z_iconst (z := ((0 : Nat) : Int)) hk dJ2_circularClear_35 (kk := ?_)
            refine z_istore_n hk [(1, .int (iZ ((0 : Nat) : Int))), (3, .int (iZ ((to : Nat) : Int))), (0, .ref el), (2, .int (iZ ((tl : Nat) : Int)))] dJ2_circularClear_36 (kk := ?_)
            refine z_iload_n hk dJ2_circularClear_37 3 rfl (kk := ?_)
            refine z_istore_n hk [(3, .int (iZ ((tl : Nat) : Int))), (1, .int (iZ ((0 : Nat) : Int))), (0, .ref el), (2, .int (iZ ((tl : Nat) : Int)))] dJ2_circularClear_38 (kk := ?_)
            refine z_goto hk 12 dJ2_circularClear_39 (kk := ?_)
            refine z_lvs [0, 2, 1, 3] (lv' := [(3, .int (iZ ((tl : Nat) : Int))), (0, .ref el), (1, .int (iZ ((0 : Nat) : Int))), (2, .int (iZ ((tl : Nat) : Int)))]) (kk := ?_)
            exact ih12  0 tl 0 f (by first | assumption | omega) (by first | assumption | omega) (by intro j hj h0; have := hf2 j hj h0; omega) (by omega)
          · skip
            refine z_goto hk 42 dJ2_circularClear_32 (kk := ?_)
            refine z_arrL (g := (fun _ => none)) (ws' := ([(el, zL (kG κ) 17 (fun _ => none))])) 0 rfl (fun j_ hj_ => by have h0 := hf2 j_ hj_; by_cases e : f j_ = none; exact e; (have := h0 e; omega)) rfl ?_
            exact z_vret hk hR_ () dJ2_circularClear_42 rfl rfl (by trivial) (zSub.ix [0] rfl)
        · skip
          refine z_aload_n hk dJ2_circularClear_17 1 rfl (kk := ?_)
          refine z_iload_n hk dJ2_circularClear_18 2 rfl (kk := ?_)
          refine z_null hk dJ2_circularClear_19 (kk := ?_)
          refine z_aastN (i := i) hk 0 ([(el, zL (kG κ) 17 (va_up f i none))]) dJ2_circularClear_20 rfl (kk := ?_) 
          refine z_iinc hk (z' := ((i + 1 : Nat) : Int)) [(1, .int (iZ ((i + 1 : Nat) : Int))), (3, .int (iZ ((to : Nat) : Int))), (0, .ref el), (2, .int (iZ ((tl : Nat) : Int)))] dJ2_circularClear_21 2 rfl (kk := ?_)
          refine z_goto hk 12 dJ2_circularClear_24 (kk := ?_)
          refine z_lvs [1, 2, 0, 3] (lv' := [(3, .int (iZ ((to : Nat) : Int))), (0, .ref el), (1, .int (iZ ((i + 1 : Nat) : Int))), (2, .int (iZ ((tl : Nat) : Int)))]) (kk := ?_)
          exact ih12  (i + 1) to ph (va_up f i none) (by first | assumption | omega) (by first | assumption | omega) (by intro j hj h0; unfold va_up at h0; by_cases e : j = i; (rw [if_pos e] at h0; exact absurd rfl h0); (rw [if_neg e] at h0; have := hf2 j hj h0; omega)) (by omega)
    exact L12 (0 * 20 + (tl - h) + 1) h tl 0 f0 (by first | assumption | omega) (by first | assumption | omega) (by intro j hj h0; have := hf j hj h0; omega) (Nat.lt_succ_self _)

set_option maxHeartbeats 600000 in
theorem ct_J2_clear (l_ : Launch) (G : zG) (dq : Nat) (el : Nat) (h : Nat) (s : Nat) (S : Nat → Nat) (hh : h < 17) (hs : s ≤ 16) :
    Ct l_ G yJ2_clear cJ2_clear 1 none 2 0 0 [.ref dq] ([(dq, zO 4 [.ref el, .int (iZ ((h : Nat) : Int)), .int (iZ ((((h + s) % 17) : Nat) : Int))]), (el, zL G 17 (cq h s S))])
      (fun _u : Unit => none) (fun _u : Unit => True) (fun _u : Unit => [(dq, zO 4 [.ref el, .int (iZ ((0 : Nat) : Int)), .int (iZ ((0 : Nat) : Int))]), (el, zL G 17 (fun _ => none))]) := by
  refine Ct.of (by decide) (Nat.le_of_ble_eq_true rfl) ?_
  intro κ hl_ hG_ hk hR_
  subst hl_
  subst hG_
  show Z κ 0 [(0, .ref dq)] [] ([(dq, zO 4 [.ref el, .int (iZ ((h : Nat) : Int)), .int (iZ ((((h + s) % 17) : Nat) : Int))]), (el, zL (kG κ) 17 (cq h s S))]) 0 0
  refine z_aload_n hk dJ2_clear_0 0 rfl (kk := ?_)
  refine z_get hk in_J2 0 0 q146 dJ2_clear_1 rfl rfl (kk := ?_)
  refine z_aload_n hk dJ2_clear_4 0 rfl (kk := ?_)
  refine z_get hk in_J2 0 1 q149 dJ2_clear_5 rfl rfl (kk := ?_)
  refine z_aload_n hk dJ2_clear_8 0 rfl (kk := ?_)
  refine z_get hk in_J2 0 2 q150 dJ2_clear_9 rfl rfl (kk := ?_)
  refine z_callS hk [.ref el, .int (iZ ((h : Nat) : Int)), .int (iZ ((((h + s) % 17) : Nat) : Int))] 3 [(dq, zO 4 [.ref el, .int (iZ ((h : Nat) : Int)), .int (iZ ((((h + s) % 17) : Nat) : Int))])] (ct_J2_circularClear (kL κ) (kG κ) el (cq h s S) h ((h + s) % 17) (by first | assumption | omega) (by first | assumption | omega) (fun j hj h0 => cq_none hh hs hj h0)) q1231 q1232 q60 q1233 (zSub.ix [1, 0] rfl) dJ2_clear_12 rfl (kk := fun _ _ => ?_)
  show Z κ 15 [(0, .ref dq)] [] ([(el, zL (kG κ) 17 (fun _ => none)), (dq, zO 4 [.ref el, .int (iZ ((h : Nat) : Int)), .int (iZ ((((h + s) % 17) : Nat) : Int))])]) 0 0
  refine z_aload_n hk dJ2_clear_15 0 rfl (kk := ?_)
  refine z_aload_n hk dJ2_clear_16 0 rfl (kk := ?_)
  refine z_iconst (z := ((0 : Nat) : Int)) hk dJ2_clear_17 (kk := ?_)
  refine z_dup_x1 hk dJ2_clear_18 (kk := ?_)
  refine z_put hk in_J2 tyJ2 tyJ2_ok nmJ2 1 2 ([(el, zL (kG κ) 17 (fun _ => none)), (dq, zO 4 [.ref el, .int (iZ ((h : Nat) : Int)), .int (iZ ((0 : Nat) : Int))])]) q150 dJ2_clear_19 rfl (kk := ?_)
  refine z_put hk in_J2 tyJ2 tyJ2_ok nmJ2 1 1 ([(el, zL (kG κ) 17 (fun _ => none)), (dq, zO 4 [.ref el, .int (iZ ((0 : Nat) : Int)), .int (iZ ((0 : Nat) : Int))])]) q149 dJ2_clear_22 rfl (kk := ?_)
  exact z_vret hk hR_ () dJ2_clear_25 rfl rfl (by trivial) (zSub.ix [1, 0] rfl)

set_option maxHeartbeats 600000 in
theorem ct_J32_init (l_ : Launch) (G : zG) (it : Nat) (dq : Nat) (el : Nat) (h : Nat) (s : Nat) (S : Nat → Nat) (hh : h < 17) (hs : s ≤ 16) :
    Ct l_ G yJ32_init cJ32_init 2 none 3 0 0 [.ref it, .ref dq] ([(it, zO 9 [.int (iZ ((0 : Nat) : Int)), .int (iZ ((0 : Nat) : Int)), .int (iZ ((0 : Nat) : Int)), .null]), (dq, zO 4 [.ref el, .int (iZ ((h : Nat) : Int)), .int (iZ ((((h + s) % 17) : Nat) : Int))]), (el, zL G 17 (cq h s S))])
      (fun _u : Unit => none) (fun _u : Unit => True) (fun _u : Unit => [(it, zO 9 [.int (iZ ((h : Nat) : Int)), .int (iZ ((s : Nat) : Int)), .int (iZ (-1)), .ref dq]), (dq, zO 4 [.ref el, .int (iZ ((h : Nat) : Int)), .int (iZ ((((h + s) % 17) : Nat) : Int))]), (el, zL G 17 (cq h s S))]) := by
  refine Ct.of (by decide) (Nat.le_of_ble_eq_true rfl) ?_
  intro κ hl_ hG_ hk hR_
  subst hl_
  subst hG_
  show Z κ 0 [(0, .ref it), (1, .ref dq)] [] ([(it, zO 9 [.int (iZ ((0 : Nat) : Int)), .int (iZ ((0 : Nat) : Int)), .int (iZ ((0 : Nat) : Int)), .null]), (dq, zO 4 [.ref el, .int (iZ ((h : Nat) : Int)), .int (iZ ((((h + s) % 17) : Nat) : Int))]), (el, zL (kG κ) 17 (cq h s S))]) 0 0
  refine z_aload_n hk dJ32_init_0 0 rfl (kk := ?_)
  refine z_aload_n hk dJ32_init_1 1 rfl (kk := ?_)
  refine z_putF hk in_J32 tyJ32 tyJ32_ok nmJ32 0 3 ([(it, zO 9 [.int (iZ ((0 : Nat) : Int)), .int (iZ ((0 : Nat) : Int)), .int (iZ ((0 : Nat) : Int)), .ref dq]), (dq, zO 4 [.ref el, .int (iZ ((h : Nat) : Int)), .int (iZ ((((h + s) % 17) : Nat) : Int))]), (el, zL (kG κ) 17 (cq h s S))]) q1248 dJ32_init_2 rfl (kk := ?_)
  refine z_aload_n hk dJ32_init_5 0 rfl (kk := ?_)
  refine z_objInit hk q1243 q102 q103 dJ32_init_6 (kk := ?_)
  refine z_aload_n hk dJ32_init_9 0 rfl (kk := ?_)
  refine z_aload_n hk dJ32_init_10 0 rfl (kk := ?_)
  refine z_get hk in_J32 0 3 q1248 dJ32_init_11 rfl rfl (kk := ?_)
  refine z_callV hk [] 0 [(it, zO 9 [.int (iZ ((0 : Nat) : Int)), .int (iZ ((0 : Nat) : Int)), .int (iZ ((0 : Nat) : Int)), .ref dq])] (ct_J2_size (kL κ) (kG κ) dq el h s S (by first | assumption | omega) (by first | assumption | omega)) q1244 q960 q1524 q60 q961 (zSub.ix [1, 2, 0] rfl) 0 4 rfl dJ32_init_14 rfl (kk := fun _ _ => ?_)
  show Z κ 17 [(0, .ref it), (1, .ref dq)] [.int (iZ ((s : Nat) : Int)), .ref it] ([(dq, zO 4 [.ref el, .int (iZ ((h : Nat) : Int)), .int (iZ ((((h + s) % 17) : Nat) : Int))]), (el, zL (kG κ) 17 (cq h s S)), (it, zO 9 [.int (iZ ((0 : Nat) : Int)), .int (iZ ((0 : Nat) : Int)), .int (iZ ((0 : Nat) : Int)), .ref dq])]) 0 0
  refine z_put hk in_J32 tyJ32 tyJ32_ok nmJ32 2 1 ([(dq, zO 4 [.ref el, .int (iZ ((h : Nat) : Int)), .int (iZ ((((h + s) % 17) : Nat) : Int))]), (el, zL (kG κ) 17 (cq h s S)), (it, zO 9 [.int (iZ ((0 : Nat) : Int)), .int (iZ ((s : Nat) : Int)), .int (iZ ((0 : Nat) : Int)), .ref dq])]) q1246 dJ32_init_17 rfl (kk := ?_)
  refine z_aload_n hk dJ32_init_20 0 rfl (kk := ?_)
  refine z_iconst (z := -1) hk dJ32_init_21 (kk := ?_)
  refine z_put hk in_J32 tyJ32 tyJ32_ok nmJ32 2 2 ([(dq, zO 4 [.ref el, .int (iZ ((h : Nat) : Int)), .int (iZ ((((h + s) % 17) : Nat) : Int))]), (el, zL (kG κ) 17 (cq h s S)), (it, zO 9 [.int (iZ ((0 : Nat) : Int)), .int (iZ ((s : Nat) : Int)), .int (iZ (-1)), .ref dq])]) q1247 dJ32_init_22 rfl (kk := ?_)
  refine z_aload_n hk dJ32_init_25 0 rfl (kk := ?_)
  refine z_aload_n hk dJ32_init_26 1 rfl (kk := ?_)
  refine z_get hk in_J2 0 1 q148 dJ32_init_27 rfl rfl (kk := ?_)
  refine z_put hk in_J32 tyJ32 tyJ32_ok nmJ32 2 0 ([(dq, zO 4 [.ref el, .int (iZ ((h : Nat) : Int)), .int (iZ ((((h + s) % 17) : Nat) : Int))]), (el, zL (kG κ) 17 (cq h s S)), (it, zO 9 [.int (iZ ((h : Nat) : Int)), .int (iZ ((s : Nat) : Int)), .int (iZ (-1)), .ref dq])]) q1245 dJ32_init_30 rfl (kk := ?_)
  exact z_vret hk hR_ () dJ32_init_33 rfl rfl (by trivial) (zSub.ix [2, 0, 1] rfl)

set_option maxHeartbeats 600000 in
theorem ct_J2_iterator (l_ : Launch) (G : zG) (dq : Nat) (el : Nat) (h : Nat) (s : Nat) (S : Nat → Nat) (hh : h < 17) (hs : s ≤ 16) :
    Ct l_ G yJ2_iterator cJ2_iterator 1 (some (.object "java/util/Iterator")) 4 1 4 [.ref dq] ([(dq, zO 4 [.ref el, .int (iZ ((h : Nat) : Int)), .int (iZ ((((h + s) % 17) : Nat) : Int))]), (el, zL G 17 (cq h s S))])
      (fun u : Nat => some (.ref u)) (fun u : Nat => True) (fun u : Nat => [(u, zO 9 [.int (iZ ((h : Nat) : Int)), .int (iZ ((s : Nat) : Int)), .int (iZ (-1)), .ref dq]), (dq, zO 4 [.ref el, .int (iZ ((h : Nat) : Int)), .int (iZ ((((h + s) % 17) : Nat) : Int))]), (el, zL G 17 (cq h s S))]) := by
  refine Ct.of (by decide) (Nat.le_of_ble_eq_true rfl) ?_
  intro κ hl_ hG_ hk hR_
  subst hl_
  subst hG_
  show Z κ 0 [(0, .ref dq)] [] ([(dq, zO 4 [.ref el, .int (iZ ((h : Nat) : Int)), .int (iZ ((((h + s) % 17) : Nat) : Int))]), (el, zL (kG κ) 17 (cq h s S))]) 0 0
  refine z_new (ci := 9) hk in_J32 tyJ32 tyJ32_ok [.int (iZ ((0 : Nat) : Int)), .int (iZ ((0 : Nat) : Int)), .int (iZ ((0 : Nat) : Int)), .null] q1238 q1239 q95 dJ2_iterator_0 (fun j hj => by have hj2 : j = 0 ∨ j = 1 ∨ j = 2 ∨ j = 3 := (by omega); rcases hj2 with rfl | rfl | rfl | rfl <;> rfl) (kk := fun q_1 => ?_)
  show Z κ 3 [(0, .ref dq)] [.ref q_1] ([(dq, zO 4 [.ref el, .int (iZ ((h : Nat) : Int)), .int (iZ ((((h + s) % 17) : Nat) : Int))]), (el, zL (kG κ) 17 (cq h s S)), (q_1, zO 9 [.int (iZ ((0 : Nat) : Int)), .int (iZ ((0 : Nat) : Int)), .int (iZ ((0 : Nat) : Int)), .null])]) 1 4
  refine z_dup hk dJ2_iterator_3 (kk := ?_)
  refine z_aload_n hk dJ2_iterator_4 0 rfl (kk := ?_)
  refine z_callI hk [.ref dq] 1 [] (ct_J32_init (kL κ) (kG κ) q_1 dq el h s S (by first | assumption | omega) (by first | assumption | omega)) q1240 q1241 q95 q1242 (zSub.ix [2, 0, 1] rfl) dJ2_iterator_5 rfl (kk := fun _ _ => ?_)
  show Z κ 8 [(0, .ref dq)] [.ref q_1] ([(q_1, zO 9 [.int (iZ ((h : Nat) : Int)), .int (iZ ((s : Nat) : Int)), .int (iZ (-1)), .ref dq]), (dq, zO 4 [.ref el, .int (iZ ((h : Nat) : Int)), .int (iZ ((((h + s) % 17) : Nat) : Int))]), (el, zL (kG κ) 17 (cq h s S))]) 1 4
  exact z_aret hk hR_ q_1 dJ2_iterator_8 rfl (Or.inl ⟨_, rfl⟩) rfl (by trivial) (zSub.ix [0, 1, 2] rfl)

set_option maxHeartbeats 600000 in
theorem ct_J32_hasNext (l_ : Launch) (G : zG) (it : Nat) (c0 : Nat) (rem : Nat) (lr : Int) (dq : Nat) (hr : rem ≤ 100) :
    Ct l_ G yJ32_hasNext cJ32_hasNext 1 (some .boolean) 1 0 0 [.ref it] ([(it, zO 9 [.int (iZ ((c0 : Nat) : Int)), .int (iZ ((rem : Nat) : Int)), .int (iZ (lr)), .ref dq])])
      (fun u : Nat => some (.int (iZ ((u : Nat) : Int)))) (fun u : Nat => (1 ≤ rem ∧ u = 1) ∨ (rem = 0 ∧ u = 0)) (fun u : Nat => [(it, zO 9 [.int (iZ ((c0 : Nat) : Int)), .int (iZ ((rem : Nat) : Int)), .int (iZ (lr)), .ref dq])]) := by
  refine Ct.of (by decide) (Nat.le_of_ble_eq_true rfl) ?_
  intro κ hl_ hG_ hk hR_
  subst hl_
  subst hG_
  show Z κ 0 [(0, .ref it)] [] ([(it, zO 9 [.int (iZ ((c0 : Nat) : Int)), .int (iZ ((rem : Nat) : Int)), .int (iZ (lr)), .ref dq])]) 0 0
  refine z_aload_n hk dJ32_hasNext_0 0 rfl (kk := ?_)
  refine z_get hk in_J32 0 1 q1246 dJ32_hasNext_1 rfl rfl (kk := ?_)
  refine z_if_le hk 11 dJ32_hasNext_4 (kt := fun h4 => ?_) (kf := fun h4 => ?_) 
  · skip
    refine z_iconst (z := ((0 : Nat) : Int)) hk dJ32_hasNext_11 (kk := ?_)
    exact z_zret hk hR_ 0 (by omega) dJ32_hasNext_12 rfl rfl (by first | assumption | omega) (zSub.ix [0] rfl)
  · skip
    refine z_iconst (z := ((1 : Nat) : Int)) hk dJ32_hasNext_7 (kk := ?_)
    refine z_goto hk 12 dJ32_hasNext_8 (kk := ?_)
    exact z_zret hk hR_ 1 (by omega) dJ32_hasNext_12 rfl rfl (by first | assumption | omega) (zSub.ix [0] rfl)

set_option maxHeartbeats 600000 in
theorem ct_J32_next (l_ : Launch) (G : zG) (it : Nat) (k : Nat) (lr : Int) (dq : Nat) (el : Nat) (h : Nat) (s : Nat) (S : Nat → Nat) (hh : h < 17) (hs : s ≤ 16) (hk : k < s) :
    Ct l_ G yJ32_next cJ32_next 3 (some (.object "java/lang/Object")) 2 0 0 [.ref it] ([(it, zO 9 [.int (iZ ((((h + k) % 17) : Nat) : Int)), .int (iZ (((s - k) : Nat) : Int)), .int (iZ (lr)), .ref dq]), (dq, zO 4 [.ref el, .int (iZ ((h : Nat) : Int)), .int (iZ ((((h + s) % 17) : Nat) : Int))]), (el, zL G 17 (cq h s S))])
      (fun _u : Unit => some (.ref (S k))) (fun _u : Unit => True) (fun _u : Unit => [(it, zO 9 [.int (iZ ((((h + (k + 1)) % 17) : Nat) : Int)), .int (iZ (((s - (k + 1)) : Nat) : Int)), .int (iZ ((((h + k) % 17) : Nat) : Int)), .ref dq]), (dq, zO 4 [.ref el, .int (iZ ((h : Nat) : Int)), .int (iZ ((((h + s) % 17) : Nat) : Int))]), (el, zL G 17 (cq h s S))]) := by
  refine Ct.of (by decide) (Nat.le_of_ble_eq_true rfl) ?_
  intro κ hl_ hG_ hk hR_
  subst hl_
  subst hG_
  show Z κ 0 [(0, .ref it)] [] ([(it, zO 9 [.int (iZ ((((h + k) % 17) : Nat) : Int)), .int (iZ (((s - k) : Nat) : Int)), .int (iZ (lr)), .ref dq]), (dq, zO 4 [.ref el, .int (iZ ((h : Nat) : Int)), .int (iZ ((((h + s) % 17) : Nat) : Int))]), (el, zL (kG κ) 17 (cq h s S))]) 0 0
  have hk9 : k < s := by omega
  refine z_aload_n hk dJ32_next_0 0 rfl (kk := ?_)
  refine z_get hk in_J32 0 1 q1246 dJ32_next_1 rfl rfl (kk := ?_)
  refine z_if_gt hk 15 dJ32_next_4 (kt := fun h4 => ?_) (kf := fun h4 => ?_) 
  · skip
    refine z_aload_n hk dJ32_next_15 0 rfl (kk := ?_)
    refine z_get hk in_J32 0 3 q1248 dJ32_next_16 rfl rfl (kk := ?_)
    refine z_get hk in_J2 1 0 q147 dJ32_next_19 rfl rfl (kk := ?_)
    refine z_astore_n hk [(1, .ref el), (0, .ref it)] dJ32_next_22 (kk := ?_)
    refine z_aload_n hk dJ32_next_23 0 rfl (kk := ?_)
    refine z_aload_n hk dJ32_next_24 1 rfl (kk := ?_)
    refine z_get hk in_J32 0 0 q1245 dJ32_next_25 rfl rfl (kk := ?_)
    refine z_callS hk [.ref el, .int (iZ ((((h + k) % 17) : Nat) : Int))] 2 [(it, zO 9 [.int (iZ ((((h + k) % 17) : Nat) : Int)), .int (iZ (((s - k) : Nat) : Int)), .int (iZ (lr)), .ref dq]), (dq, zO 4 [.ref el, .int (iZ ((h : Nat) : Int)), .int (iZ ((((h + s) % 17) : Nat) : Int))])] (ct_J2_nonNullElementAt (kL κ) (kG κ) el (cq h s S) ((h + k) % 17) (S k) (by first | assumption | omega) (cq_at hh hk9 hs)) q848 q849 q60 q850 (zSub.ix [2, 0, 1] rfl) dJ32_next_28 rfl (kk := fun _ _ => ?_)
    show Z κ 31 [(1, .ref el), (0, .ref it)] [.ref (S k)] ([(el, zL (kG κ) 17 (cq h s S)), (it, zO 9 [.int (iZ ((((h + k) % 17) : Nat) : Int)), .int (iZ (((s - k) : Nat) : Int)), .int (iZ (lr)), .ref dq]), (dq, zO 4 [.ref el, .int (iZ ((h : Nat) : Int)), .int (iZ ((((h + s) % 17) : Nat) : Int))])]) 0 0
    refine z_astore_n hk [(2, .ref (S k)), (1, .ref el), (0, .ref it)] dJ32_next_31 (kk := ?_)
    refine z_aload_n hk dJ32_next_32 2 rfl (kk := ?_)
    refine z_aload_n hk dJ32_next_33 2 rfl (kk := ?_)
    refine z_aload_n hk dJ32_next_34 2 rfl (kk := ?_)
    refine z_get hk in_J32 1 0 q1245 dJ32_next_35 rfl rfl (kk := ?_)
    refine z_dup_x1 hk dJ32_next_38 (kk := ?_)
    refine z_put hk in_J32 tyJ32 tyJ32_ok nmJ32 1 2 ([(el, zL (kG κ) 17 (cq h s S)), (it, zO 9 [.int (iZ ((((h + k) % 17) : Nat) : Int)), .int (iZ (((s - k) : Nat) : Int)), .int (iZ ((((h + k) % 17) : Nat) : Int)), .ref dq]), (dq, zO 4 [.ref el, .int (iZ ((h : Nat) : Int)), .int (iZ ((((h + s) % 17) : Nat) : Int))])]) q1247 dJ32_next_39 rfl (kk := ?_)
    refine z_aload_n hk dJ32_next_42 1 rfl (kk := ?_)
    refine z_alen (n := 17) hk 0 4 dJ32_next_43 rfl (kk := ?_)
    refine z_callS hk [.int (iZ ((((h + k) % 17) : Nat) : Int)), .int (iZ ((17 : Nat) : Int))] 2 [(el, zL (kG κ) 17 (cq h s S)), (it, zO 9 [.int (iZ ((((h + k) % 17) : Nat) : Int)), .int (iZ (((s - k) : Nat) : Int)), .int (iZ ((((h + k) % 17) : Nat) : Int)), .ref dq]), (dq, zO 4 [.ref el, .int (iZ ((h : Nat) : Int)), .int (iZ ((((h + s) % 17) : Nat) : Int))])] (ct_J2_inc (kL κ) (kG κ) ((h + k) % 17) (by first | assumption | omega)) q851 q852 q60 q853 (zSub.ix [0, 1, 2] rfl) dJ32_next_44 rfl (kk := fun _ _ => ?_)
    show Z κ 47 [(2, .ref (S k)), (1, .ref el), (0, .ref it)] [.int (iZ ((((((h + k) % 17) + 1) % 17) : Nat) : Int)), .ref it] ([(el, zL (kG κ) 17 (cq h s S)), (it, zO 9 [.int (iZ ((((h + k) % 17) : Nat) : Int)), .int (iZ (((s - k) : Nat) : Int)), .int (iZ ((((h + k) % 17) : Nat) : Int)), .ref dq]), (dq, zO 4 [.ref el, .int (iZ ((h : Nat) : Int)), .int (iZ ((((h + s) % 17) : Nat) : Int))])]) 0 0
    refine z_topN ((h + (k + 1)) % 17) (by omega) ?_
    refine z_put hk in_J32 tyJ32 tyJ32_ok nmJ32 1 0 ([(el, zL (kG κ) 17 (cq h s S)), (it, zO 9 [.int (iZ ((((h + (k + 1)) % 17) : Nat) : Int)), .int (iZ (((s - k) : Nat) : Int)), .int (iZ ((((h + k) % 17) : Nat) : Int)), .ref dq]), (dq, zO 4 [.ref el, .int (iZ ((h : Nat) : Int)), .int (iZ ((((h + s) % 17) : Nat) : Int))])]) q1245 dJ32_next_47 rfl (kk := ?_)
    refine z_aload_n hk dJ32_next_50 2 rfl (kk := ?_)
    refine z_dup hk dJ32_next_51 (kk := ?_)
    refine z_get hk in_J32 1 1 q1246 dJ32_next_52 rfl rfl (kk := ?_)
    refine z_iconst (z := ((1 : Nat) : Int)) hk dJ32_next_55 (kk := ?_)
    refine z_isub (z := (((s - k) : Nat) : Int) - ((1 : Nat) : Int)) hk dJ32_next_56 (kk := ?_)
    refine z_topN (s - (k + 1)) (by omega) ?_
    refine z_put hk in_J32 tyJ32 tyJ32_ok nmJ32 1 1 ([(el, zL (kG κ) 17 (cq h s S)), (it, zO 9 [.int (iZ ((((h + (k + 1)) % 17) : Nat) : Int)), .int (iZ (((s - (k + 1)) : Nat) : Int)), .int (iZ ((((h + k) % 17) : Nat) : Int)), .ref dq]), (dq, zO 4 [.ref el, .int (iZ ((h : Nat) : Int)), .int (iZ ((((h + s) % 17) : Nat) : Int))])]) q1246 dJ32_next_57 rfl (kk := ?_)
    refine z_aload_n hk dJ32_next_60 0 rfl (kk := ?_)
    exact z_aret hk hR_ () dJ32_next_61 rfl (Or.inl ⟨_, rfl⟩) rfl (by trivial) (zSub.ix [1, 2, 0] rfl)
  · skip
    exfalso; omega
