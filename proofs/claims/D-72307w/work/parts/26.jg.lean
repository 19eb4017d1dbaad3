/-! contracts, part jg -/
set_option maxRecDepth 100000
set_option maxHeartbeats 600000 in
theorem ct_J18_checkForComodification (l_ : Launch) (G : zG) (it : Nat) (lr : Option Nat) (p : Nat) (nx : Option Nat) (ls : Nat) (mc : Nat) (n : Nat) (A : Nat → Nat) (X : Nat → Nat) (hmc : mc ≤ 1000) :
    Ct l_ G yJ18_checkForComodification cJ18_checkForComodification 1 none 1 0 0 [.ref it] ([(it, zO 8 [va_rf lr, va_rf nx, .int (iZ ((p : Nat) : Int)), .int (iZ ((mc : Nat) : Int)), .ref ls]), (ls, zO 6 [.int (iZ ((mc : Nat) : Int)), .int (iZ ((n : Nat) : Int)), va_rf (fstO n A), va_rf (lstO n A)])])
      (fun _u : Unit => none) (fun _u : Unit => True) (fun _u : Unit => [(it, zO 8 [va_rf lr, va_rf nx, .int (iZ ((p : Nat) : Int)), .int (iZ ((mc : Nat) : Int)), .ref ls]), (ls, zO 6 [.int (iZ ((mc : Nat) : Int)), .int (iZ ((n : Nat) : Int)), va_rf (fstO n A), va_rf (lstO n A)])]) := by
  refine Ct.of (by decide) (Nat.le_of_ble_eq_true rfl) ?_
  intro κ hl_ hG_ hk hR_
  subst hl_
  subst hG_
  show Z κ 0 [(0, .ref it)] [] ([(it, zO 8 [va_rf lr, va_rf nx, .int (iZ ((p : Nat) : Int)), .int (iZ ((mc : Nat) : Int)), .ref ls]), (ls, zO 6 [.int (iZ ((mc : Nat) : Int)), .int (iZ ((n : Nat) : Int)), va_rf (fstO n A), va_rf (lstO n A)])]) 0 0
  refine z_aload_n hk dJ18_checkForComodification_0 0 rfl (kk := ?_)
  refine z_get hk in_J18 0 4 q462 dJ18_checkForComodification_1 rfl rfl (kk := ?_)
  refine z_getM hk in_J14 1 0 q361 q360 dJ18_checkForComodification_4 rfl rfl (kk := ?_)
  refine z_aload_n hk dJ18_checkForComodification_7 0 rfl (kk := ?_)
  refine z_get hk in_J18 0 3 q461 dJ18_checkForComodification_8 rfl rfl (kk := ?_)
  refine z_icmp_eq hk 22 dJ18_checkForComodification_11 (kt := fun h11 => ?_) (kf := fun h11 => ?_) 
  · skip
    exact z_vret hk hR_ () dJ18_checkForComodification_22 rfl rfl (by trivial) (zSub.ix [0, 1] rfl)
  · skip
    exfalso; omega

set_option maxHeartbeats 600000 in
theorem ct_J18_hasNext (l_ : Launch) (G : zG) (it : Nat) (lr : Option Nat) (p : Nat) (nx : Option Nat) (emc : Nat) (ls : Nat) (mc : Nat) (n : Nat) (A : Nat → Nat) (X : Nat → Nat) (hn : n ≤ 1000) (hp : p ≤ 1000) :
    Ct l_ G yJ18_hasNext cJ18_hasNext 1 (some .boolean) 1 0 0 [.ref it] ([(it, zO 8 [va_rf lr, va_rf nx, .int (iZ ((p : Nat) : Int)), .int (iZ ((emc : Nat) : Int)), .ref ls]), (ls, zO 6 [.int (iZ ((mc : Nat) : Int)), .int (iZ ((n : Nat) : Int)), va_rf (fstO n A), va_rf (lstO n A)])])
      (fun u : Nat => some (.int (iZ ((u : Nat) : Int)))) (fun u : Nat => (p < n ∧ u = 1) ∨ (n ≤ p ∧ u = 0)) (fun u : Nat => [(it, zO 8 [va_rf lr, va_rf nx, .int (iZ ((p : Nat) : Int)), .int (iZ ((emc : Nat) : Int)), .ref ls]), (ls, zO 6 [.int (iZ ((mc : Nat) : Int)), .int (iZ ((n : Nat) : Int)), va_rf (fstO n A), va_rf (lstO n A)])]) := by
  refine Ct.of (by decide) (Nat.le_of_ble_eq_true rfl) ?_
  intro κ hl_ hG_ hk hR_
  subst hl_
  subst hG_
  show Z κ 0 [(0, .ref it)] [] ([(it, zO 8 [va_rf lr, va_rf nx, .int (iZ ((p : Nat) : Int)), .int (iZ ((emc : Nat) : Int)), .ref ls]), (ls, zO 6 [.int (iZ ((mc : Nat) : Int)), .int (iZ ((n : Nat) : Int)), va_rf (fstO n A), va_rf (lstO n A)])]) 0 0
  refine z_aload_n hk dJ18_hasNext_0 0 rfl (kk := ?_)
  refine z_get hk in_J18 0 2 q460 dJ18_hasNext_1 rfl rfl (kk := ?_)
  refine z_aload_n hk dJ18_hasNext_4 0 rfl (kk := ?_)
  refine z_get hk in_J18 0 4 q462 dJ18_hasNext_5 rfl rfl (kk := ?_)
  refine z_get hk in_J14 1 1 q356 dJ18_hasNext_8 rfl rfl (kk := ?_)
  refine z_icmp_ge hk 18 dJ18_hasNext_11 (kt := fun h11 => ?_) (kf := fun h11 => ?_) 
  · skip
    refine z_iconst (z := ((0 : Nat) : Int)) hk dJ18_hasNext_18 (kk := ?_)
    exact z_zret hk hR_ 0 (by omega) dJ18_hasNext_19 rfl rfl (by first | assumption | omega) (zSub.ix [0, 1] rfl)
  · skip
    refine z_iconst (z := ((1 : Nat) : Int)) hk dJ18_hasNext_14 (kk := ?_)
    refine z_goto hk 19 dJ18_hasNext_15 (kk := ?_)
    exact z_zret hk hR_ 1 (by omega) dJ18_hasNext_19 rfl rfl (by first | assumption | omega) (zSub.ix [0, 1] rfl)

set_option maxHeartbeats 600000 in
theorem ct_J18_next (l_ : Launch) (G : zG) (it : Nat) (lr : Option Nat) (p : Nat) (ls : Nat) (mc : Nat) (n : Nat) (A : Nat → Nat) (X : Nat → Nat) (hn : n ≤ 1000) (hmc : mc ≤ 1000) (hp : p < n) :
    Ct l_ G yJ18_next cJ18_next 1 (some (.object "java/lang/Object")) 2 0 0 [.ref it] ([(it, zO 8 [va_rf lr, va_rf (nxO n A p), .int (iZ ((p : Nat) : Int)), .int (iZ ((mc : Nat) : Int)), .ref ls]), (ls, zO 6 [.int (iZ ((mc : Nat) : Int)), .int (iZ ((n : Nat) : Int)), va_rf (fstO n A), va_rf (lstO n A)])] ++ nds n (ndC G n A X))
      (fun _u : Unit => some (.ref (G.2.2.1 (128 + X p)))) (fun _u : Unit => True) (fun _u : Unit => [(it, zO 8 [.ref (A p), va_rf (nxO n A (p + 1)), .int (iZ ((p + 1 : Nat) : Int)), .int (iZ ((mc : Nat) : Int)), .ref ls]), (ls, zO 6 [.int (iZ ((mc : Nat) : Int)), .int (iZ ((n : Nat) : Int)), va_rf (fstO n A), va_rf (lstO n A)])] ++ nds n (ndC G n A X)) := by
  refine Ct.of (by decide) (Nat.le_of_ble_eq_true rfl) ?_
  intro κ hl_ hG_ hk hR_
  subst hl_
  subst hG_
  show Z κ 0 [(0, .ref it)] [] ([(it, zO 8 [va_rf lr, va_rf (nxO n A p), .int (iZ ((p : Nat) : Int)), .int (iZ ((mc : Nat) : Int)), .ref ls]), (ls, zO 6 [.int (iZ ((mc : Nat) : Int)), .int (iZ ((n : Nat) : Int)), va_rf (fstO n A), va_rf (lstO n A)])] ++ nds n (ndC (kG κ) n A X)) 0 0
  refine z_aload_n hk dJ18_next_0 0 rfl (kk := ?_)
  refine z_callV hk [] 0 ([] ++ nds n (ndC (kG κ) n A X)) (ct_J18_checkForComodification (kL κ) (kG κ) it lr p (nxO n A p) ls mc n A X (by first | assumption | omega)) q859 q860 q861 q80 q862 (zSub.app (E' := [(it, zO 8 [va_rf lr, va_rf (nxO n A p), .int (iZ ((p : Nat) : Int)), .int (iZ ((mc : Nat) : Int)), .ref ls]), (ls, zO 6 [.int (iZ ((mc : Nat) : Int)), .int (iZ ((n : Nat) : Int)), va_rf (fstO n A), va_rf (lstO n A)])]) (T := nds n (ndC (kG κ) n A X)) (zSub.ix [0, 1] rfl)) 0 8 rfl dJ18_next_1 rfl (kk := fun _ _ => ?_)
  show Z κ 4 [(0, .ref it)] [] ([(it, zO 8 [va_rf lr, va_rf (nxO n A p), .int (iZ ((p : Nat) : Int)), .int (iZ ((mc : Nat) : Int)), .ref ls]), (ls, zO 6 [.int (iZ ((mc : Nat) : Int)), .int (iZ ((n : Nat) : Int)), va_rf (fstO n A), va_rf (lstO n A)])] ++ nds n (ndC (kG κ) n A X)) 0 0
  refine z_aload_n hk dJ18_next_4 0 rfl (kk := ?_)
  refine z_callV hk [] 0 ([] ++ nds n (ndC (kG κ) n A X)) (ct_J18_hasNext (kL κ) (kG κ) it lr p (nxO n A p) mc ls mc n A X (by first | assumption | omega) (by first | assumption | omega)) q863 q500 q1519 q80 q502 (zSub.app (E' := [(it, zO 8 [va_rf lr, va_rf (nxO n A p), .int (iZ ((p : Nat) : Int)), .int (iZ ((mc : Nat) : Int)), .ref ls]), (ls, zO 6 [.int (iZ ((mc : Nat) : Int)), .int (iZ ((n : Nat) : Int)), va_rf (fstO n A), va_rf (lstO n A)])]) (T := nds n (ndC (kG κ) n A X)) (zSub.ix [0, 1] rfl)) 0 8 rfl dJ18_next_5 rfl (kk := fun u_2 hu5 => ?_)
  obtain ⟨r_3, rfl⟩ : ∃ z_, z_ = u_2 := ⟨_, rfl⟩
  have hu5 : (p < n ∧ r_3 = 1) ∨ (n ≤ p ∧ r_3 = 0) := hu5
  show Z κ 8 [(0, .ref it)] [.int (iZ ((r_3 : Nat) : Int))] ([(it, zO 8 [va_rf lr, va_rf (nxO n A p), .int (iZ ((p : Nat) : Int)), .int (iZ ((mc : Nat) : Int)), .ref ls]), (ls, zO 6 [.int (iZ ((mc : Nat) : Int)), .int (iZ ((n : Nat) : Int)), va_rf (fstO n A), va_rf (lstO n A)])] ++ nds n (ndC (kG κ) n A X)) 0 0
  refine z_if_ne hk 19 dJ18_next_8 (kt := fun h8 => ?_) (kf := fun h8 => ?_) 
  · skip
    have e_4 : (ndC (kG κ) n A X) p = (A p, zO 7 [.ref ((kG κ).2.2.1 (128 + X p)), va_rf (if p + 1 < n then some (A (p + 1)) else none), va_rf (if 0 < p then some (A (p - 1)) else none)]) := ndC_at rfl rfl
    refine z_aload_n hk dJ18_next_19 0 rfl (kk := ?_)
    refine z_aload_n hk dJ18_next_20 0 rfl (kk := ?_)
    refine z_get hk in_J18 0 1 q459 dJ18_next_21 rfl rfl (kk := ?_)
    refine z_stk (st' := [.ref (A p), .ref it]) (by rw [nxO_p hp]; rfl) ?_
    refine z_put hk in_J18 tyJ18 tyJ18_ok nmJ18 0 0 ([(it, zO 8 [.ref (A p), va_rf (nxO n A p), .int (iZ ((p : Nat) : Int)), .int (iZ ((mc : Nat) : Int)), .ref ls]), (ls, zO 6 [.int (iZ ((mc : Nat) : Int)), .int (iZ ((n : Nat) : Int)), va_rf (fstO n A), va_rf (lstO n A)])] ++ nds n (ndC (kG κ) n A X)) q458 dJ18_next_24 rfl (kk := ?_)
    refine z_aload_n hk dJ18_next_27 0 rfl (kk := ?_)
    refine z_aload_n hk dJ18_next_28 0 rfl (kk := ?_)
    refine z_get hk in_J18 0 1 q459 dJ18_next_29 rfl rfl (kk := ?_)
    refine z_stk (st' := [.ref (A p), .ref it]) (by rw [nxO_p hp]; rfl) ?_
    refine z_get hk in_J16 (2 + p) 1 q411 dJ18_next_32 (ndx_get (E := [(it, zO 8 [.ref (A p), va_rf (nxO n A p), .int (iZ ((p : Nat) : Int)), .int (iZ ((mc : Nat) : Int)), .ref ls]), (ls, zO 6 [.int (iZ ((mc : Nat) : Int)), .int (iZ ((n : Nat) : Int)), va_rf (fstO n A), va_rf (lstO n A)])]) rfl (by omega) e_4) rfl (kk := ?_)
    refine z_put hk in_J18 tyJ18 tyJ18_ok nmJ18 0 1 ([(it, zO 8 [.ref (A p), va_rf (if p + 1 < n then some (A (p + 1)) else none), .int (iZ ((p : Nat) : Int)), .int (iZ ((mc : Nat) : Int)), .ref ls]), (ls, zO 6 [.int (iZ ((mc : Nat) : Int)), .int (iZ ((n : Nat) : Int)), va_rf (fstO n A), va_rf (lstO n A)])] ++ nds n (ndC (kG κ) n A X)) q459 dJ18_next_35 rfl (kk := ?_) (hn := zz_nq _) (hfit := zz_fq _)
    refine z_aload_n hk dJ18_next_38 0 rfl (kk := ?_)
    refine z_dup hk dJ18_next_39 (kk := ?_)
    refine z_get hk in_J18 0 2 q460 dJ18_next_40 rfl rfl (kk := ?_)
    refine z_iconst (z := ((1 : Nat) : Int)) hk dJ18_next_43 (kk := ?_)
    refine z_iadd (z := ((p + 1 : Nat) : Int)) hk dJ18_next_44 (Int.natCast_add _ _).symm (kk := ?_)
    refine z_put hk in_J18 tyJ18 tyJ18_ok nmJ18 0 2 ([(it, zO 8 [.ref (A p), va_rf (if p + 1 < n then some (A (p + 1)) else none), .int (iZ ((p + 1 : Nat) : Int)), .int (iZ ((mc : Nat) : Int)), .ref ls]), (ls, zO 6 [.int (iZ ((mc : Nat) : Int)), .int (iZ ((n : Nat) : Int)), va_rf (fstO n A), va_rf (lstO n A)])] ++ nds n (ndC (kG κ) n A X)) q460 dJ18_next_45 rfl (kk := ?_)
    refine z_aload_n hk dJ18_next_48 0 rfl (kk := ?_)
    refine z_get hk in_J18 0 0 q458 dJ18_next_49 rfl rfl (kk := ?_)
    refine z_get hk in_J16 (2 + p) 0 q408 dJ18_next_52 (ndx_get (E := [(it, zO 8 [.ref (A p), va_rf (if p + 1 < n then some (A (p + 1)) else none), .int (iZ ((p + 1 : Nat) : Int)), .int (iZ ((mc : Nat) : Int)), .ref ls]), (ls, zO 6 [.int (iZ ((mc : Nat) : Int)), .int (iZ ((n : Nat) : Int)), va_rf (fstO n A), va_rf (lstO n A)])]) rfl (by omega) e_4) rfl (kk := ?_)
    exact z_aret hk hR_ () dJ18_next_55 rfl (Or.inl ⟨_, rfl⟩) rfl (by trivial) (zSub.app (zSub.ix [0, 1] rfl))
  · skip
    exfalso; omega

set_option maxHeartbeats 600000 in
theorem ct_J18_remove (l_ : Launch) (G : zG) (it : Nat) (p : Nat) (ls : Nat) (mc : Nat) (n : Nat) (A : Nat → Nat) (X : Nat → Nat) (hn : n ≤ 1000) (hmc : mc ≤ 1000) (hp : p < n) :
    Ct l_ G yJ18_remove cJ18_remove 2 none 2 0 0 [.ref it] ([(it, zO 8 [.ref (A p), va_rf (nxO n A (p + 1)), .int (iZ ((p + 1 : Nat) : Int)), .int (iZ ((mc : Nat) : Int)), .ref ls]), (ls, zO 6 [.int (iZ ((mc : Nat) : Int)), .int (iZ ((n : Nat) : Int)), va_rf (fstO n A), va_rf (lstO n A)])] ++ nds n (ndC G n A X))
      (fun _u : Unit => none) (fun _u : Unit => True) (fun _u : Unit => [(it, zO 8 [.null, va_rf (nxO (n - 1) (skp A p) p), .int (iZ ((p : Nat) : Int)), .int (iZ ((mc + 1 : Nat) : Int)), .ref ls]), (ls, zO 6 [.int (iZ ((mc + 1 : Nat) : Int)), .int (iZ ((n - 1 : Nat) : Int)), va_rf (fstO (n - 1) (skp A p)), va_rf (lstO (n - 1) (skp A p))])] ++ nds (n - 1) (ndC G (n - 1) (skp A p) (skp X p))) := by
  refine Ct.of (by decide) (Nat.le_of_ble_eq_true rfl) ?_
  intro κ hl_ hG_ hk hR_
  subst hl_
  subst hG_
  show Z κ 0 [(0, .ref it)] [] ([(it, zO 8 [.ref (A p), va_rf (nxO n A (p + 1)), .int (iZ ((p + 1 : Nat) : Int)), .int (iZ ((mc : Nat) : Int)), .ref ls]), (ls, zO 6 [.int (iZ ((mc : Nat) : Int)), .int (iZ ((n : Nat) : Int)), va_rf (fstO n A), va_rf (lstO n A)])] ++ nds n (ndC (kG κ) n A X)) 0 0
  refine z_aload_n hk dJ18_remove_0 0 rfl (kk := ?_)
  refine z_callV hk [] 0 ([] ++ nds n (ndC (kG κ) n A X)) (ct_J18_checkForComodification (kL κ) (kG κ) it (some (A p)) (p + 1) (nxO n A (p + 1)) ls mc n A X (by first | assumption | omega)) q859 q860 q861 q80 q862 (zSub.app (E' := [(it, zO 8 [.ref (A p), va_rf (nxO n A (p + 1)), .int (iZ ((p + 1 : Nat) : Int)), .int (iZ ((mc : Nat) : Int)), .ref ls]), (ls, zO 6 [.int (iZ ((mc : Nat) : Int)), .int (iZ ((n : Nat) : Int)), va_rf (fstO n A), va_rf (lstO n A)])]) (T := nds n (ndC (kG κ) n A X)) (zSub.ix [0, 1] rfl)) 0 8 rfl dJ18_remove_1 rfl (kk := fun _ _ => ?_)
  show Z κ 4 [(0, .ref it)] [] ([(it, zO 8 [.ref (A p), va_rf (nxO n A (p + 1)), .int (iZ (((p + 1) : Nat) : Int)), .int (iZ ((mc : Nat) : Int)), .ref ls]), (ls, zO 6 [.int (iZ ((mc : Nat) : Int)), .int (iZ ((n : Nat) : Int)), va_rf (fstO n A), va_rf (lstO n A)])] ++ nds n (ndC (kG κ) n A X)) 0 0
  refine z_aload_n hk dJ18_remove_4 0 rfl (kk := ?_)
  refine z_get hk in_J18 0 0 q458 dJ18_remove_5 rfl rfl (kk := ?_)
  refine z_ifnonnull hk 19 dJ18_remove_8 (kk := ?_)
  have e_2 : (ndC (kG κ) n A X) p = (A p, zO 7 [.ref ((kG κ).2.2.1 (128 + X p)), va_rf (if p + 1 < n then some (A (p + 1)) else none), va_rf (if 0 < p then some (A (p - 1)) else none)]) := ndC_at rfl rfl
  have key : (nxO n A (p + 1) ≠ some (A p)) ∨ (p + 1 < n) := by
    by_cases e : p + 1 < n
    · exact Or.inr e
    · left; unfold nxO; rw [if_neg e]; intro q; cases q
  suffices hgo : nxO n A (p + 1) ≠ some (A p) → Z κ 19 [(0, .ref it)] [] ([(it, zO 8 [.ref (A p), va_rf (nxO n A (p + 1)), .int (iZ (((p + 1) : Nat) : Int)), .int (iZ ((mc : Nat) : Int)), .ref ls]), (ls, zO 6 [.int (iZ ((mc : Nat) : Int)), .int (iZ ((n : Nat) : Int)), va_rf (fstO n A), va_rf (lstO n A)])] ++ nds n (ndC (kG κ) n A X)) 0 0 by
    rcases key with key | key
    · exact hgo key
    · refine z_ne (i := 2 + p) (j := 2 + (p + 1)) (ndx_get (E := [(it, zO 8 [.ref (A p), va_rf (nxO n A (p + 1)), .int (iZ (((p + 1) : Nat) : Int)), .int (iZ ((mc : Nat) : Int)), .ref ls]), (ls, zO 6 [.int (iZ ((mc : Nat) : Int)), .int (iZ ((n : Nat) : Int)), va_rf (fstO n A), va_rf (lstO n A)])]) rfl hp rfl) (ndx_get (E := [(it, zO 8 [.ref (A p), va_rf (nxO n A (p + 1)), .int (iZ (((p + 1) : Nat) : Int)), .int (iZ ((mc : Nat) : Int)), .ref ls]), (ls, zO 6 [.int (iZ ((mc : Nat) : Int)), .int (iZ ((n : Nat) : Int)), va_rf (fstO n A), va_rf (lstO n A)])]) rfl key rfl) (by omega) (fun hne => hgo (fun q => ?_))
      rw [nxO_p key] at q; exact hne (Option.some.inj q).symm
  intro hnx
  refine z_aload_n hk dJ18_remove_19 0 rfl (kk := ?_)
  refine z_get hk in_J18 0 0 q458 dJ18_remove_20 rfl rfl (kk := ?_)
  refine z_get hk in_J16 (2 + p) 1 q411 dJ18_remove_23 (ndx_get (E := [(it, zO 8 [.ref (A p), va_rf (nxO n A (p + 1)), .int (iZ (((p + 1) : Nat) : Int)), .int (iZ ((mc : Nat) : Int)), .ref ls]), (ls, zO 6 [.int (iZ ((mc : Nat) : Int)), .int (iZ ((n : Nat) : Int)), va_rf (fstO n A), va_rf (lstO n A)])]) rfl (by omega) e_2) rfl (kk := ?_)
  refine z_astoreQ_n hk [(1, va_rf (if p + 1 < n then some (A (p + 1)) else none)), (0, .ref it)] dJ18_remove_26 (kk := ?_)
  refine z_aload_n hk dJ18_remove_27 1 rfl (kk := ?_)
  refine z_get hk in_J18 0 4 q462 dJ18_remove_28 rfl rfl (kk := ?_)
  refine z_aload_n hk dJ18_remove_31 1 rfl (kk := ?_)
  refine z_get hk in_J18 0 0 q458 dJ18_remove_32 rfl rfl (kk := ?_)
  refine z_callV hk [.ref (A p)] 1 [(it, zO 8 [.ref (A p), va_rf (nxO n A (p + 1)), .int (iZ (((p + 1) : Nat) : Int)), .int (iZ ((mc : Nat) : Int)), .ref ls])] (ct_J14_unlink (kL κ) (kG κ) ls mc n A X p (by first | assumption | omega) (by first | assumption | omega) (by first | assumption | omega)) q952 q906 q907 q74 q908 ((zSub.app (zSub.ix [1, 0] (ws' := [(ls, zO 6 [.int (iZ ((mc : Nat) : Int)), .int (iZ ((n : Nat) : Int)), va_rf (fstO n A), va_rf (lstO n A)])] ++ [(it, zO 8 [.ref (A p), va_rf (nxO n A (p + 1)), .int (iZ (((p + 1) : Nat) : Int)), .int (iZ ((mc : Nat) : Int)), .ref ls])]) rfl)).trans zSub.mid) 0 6 rfl dJ18_remove_35 rfl (kk := fun _ _ => ?_)
  refine z_sub zSub.mid ?_
  show Z κ 38 [(1, va_rf (if p + 1 < n then some (A (p + 1)) else none)), (0, .ref it)] [.ref ((kG κ).2.2.1 (128 + X p))] ([(ls, zO 6 [.int (iZ ((mc + 1 : Nat) : Int)), .int (iZ ((n - 1 : Nat) : Int)), va_rf (fstO (n - 1) (skp A p)), va_rf (lstO (n - 1) (skp A p))]), (it, zO 8 [.ref (A p), va_rf (nxO n A (p + 1)), .int (iZ (((p + 1) : Nat) : Int)), .int (iZ ((mc : Nat) : Int)), .ref ls])] ++ nds (n - 1) (ndC (kG κ) (n - 1) (skp A p) (skp X p))) 0 0
  refine z_pop hk dJ18_remove_38 (kk := ?_)
  refine z_aload_n hk dJ18_remove_39 1 rfl (kk := ?_)
  refine z_get hk in_J18 1 1 q459 dJ18_remove_40 rfl rfl (kk := ?_)
  refine z_aload_n hk dJ18_remove_43 1 rfl (kk := ?_)
  refine z_get hk in_J18 1 0 q458 dJ18_remove_44 rfl rfl (kk := ?_)
  refine z_stk (st' := va_rf (some (A p)) :: va_rf (nxO n A (p + 1)) :: []) (by rfl) ?_
  refine z_acmp_ne hk 58 dJ18_remove_47 (kt := fun h47 => ?_) (kf := fun h47 => ?_) 
  · skip
    refine z_aload_n hk dJ18_remove_58 1 rfl (kk := ?_)
    refine z_dup hk dJ18_remove_59 (kk := ?_)
    refine z_get hk in_J18 1 2 q460 dJ18_remove_60 rfl rfl (kk := ?_)
    refine z_iconst (z := ((1 : Nat) : Int)) hk dJ18_remove_63 (kk := ?_)
    refine z_isub (z := ((p : Nat) : Int)) hk dJ18_remove_64 (by omega) (kk := ?_)
    refine z_put hk in_J18 tyJ18 tyJ18_ok nmJ18 1 2 ([(ls, zO 6 [.int (iZ ((mc + 1 : Nat) : Int)), .int (iZ ((n - 1 : Nat) : Int)), va_rf (fstO (n - 1) (skp A p)), va_rf (lstO (n - 1) (skp A p))]), (it, zO 8 [.ref (A p), va_rf (nxO n A (p + 1)), .int (iZ ((p : Nat) : Int)), .int (iZ ((mc : Nat) : Int)), .ref ls])] ++ nds (n - 1) (ndC (kG κ) (n - 1) (skp A p) (skp X p))) q460 dJ18_remove_65 rfl (kk := ?_)
    refine z_aload_n hk dJ18_remove_68 1 rfl (kk := ?_)
    refine z_null hk dJ18_remove_69 (kk := ?_)
    refine z_put hk in_J18 tyJ18 tyJ18_ok nmJ18 1 0 ([(ls, zO 6 [.int (iZ ((mc + 1 : Nat) : Int)), .int (iZ ((n - 1 : Nat) : Int)), va_rf (fstO (n - 1) (skp A p)), va_rf (lstO (n - 1) (skp A p))]), (it, zO 8 [.null, va_rf (nxO n A (p + 1)), .int (iZ ((p : Nat) : Int)), .int (iZ ((mc : Nat) : Int)), .ref ls])] ++ nds (n - 1) (ndC (kG κ) (n - 1) (skp A p) (skp X p))) q458 dJ18_remove_70 rfl (kk := ?_)
    refine z_aload_n hk dJ18_remove_73 1 rfl (kk := ?_)
    refine z_dup hk dJ18_remove_74 (kk := ?_)
    refine z_get hk in_J18 1 3 q461 dJ18_remove_75 rfl rfl (kk := ?_)
    refine z_iconst (z := ((1 : Nat) : Int)) hk dJ18_remove_78 (kk := ?_)
    refine z_iadd (z := ((mc + 1 : Nat) : Int)) hk dJ18_remove_79 (Int.natCast_add _ _).symm (kk := ?_)
    refine z_put hk in_J18 tyJ18 tyJ18_ok nmJ18 1 3 ([(ls, zO 6 [.int (iZ ((mc + 1 : Nat) : Int)), .int (iZ ((n - 1 : Nat) : Int)), va_rf (fstO (n - 1) (skp A p)), va_rf (lstO (n - 1) (skp A p))]), (it, zO 8 [.null, va_rf (nxO n A (p + 1)), .int (iZ ((p : Nat) : Int)), .int (iZ ((mc + 1 : Nat) : Int)), .ref ls])] ++ nds (n - 1) (ndC (kG κ) (n - 1) (skp A p) (skp X p))) q461 dJ18_remove_80 rfl (kk := ?_)
    have g5 := nxO_skp (A := A) hp
    refine z_ws (ws' := [(ls, zO 6 [.int (iZ ((mc + 1 : Nat) : Int)), .int (iZ ((n - 1 : Nat) : Int)), va_rf (fstO (n - 1) (skp A p)), va_rf (lstO (n - 1) (skp A p))]), (it, zO 8 [.null, va_rf (nxO (n - 1) (skp A p) p), .int (iZ ((p : Nat) : Int)), .int (iZ ((mc + 1 : Nat) : Int)), .ref ls])] ++ nds (n - 1) (ndC (kG κ) (n - 1) (skp A p) (skp X p))) (by rw [← g5]) ?_
    exact z_vret hk hR_ () dJ18_remove_83 rfl rfl (by trivial) (zSub.app (zSub.ix [1, 0] rfl))
  · skip
    exact absurd h47 hnx

set_option maxHeartbeats 600000 in
theorem ct_J14_remove_2 (l_ : Launch) (G : zG) (ls : Nat) (mc : Nat) (n : Nat) (A : Nat → Nat) (X : Nat → Nat) (i : Nat) (v : Nat) (hi : i < n) (hn : n ≤ 1000) (hmc : mc ≤ 1000) (hv : v < 16) (hX : ∀ q, q < n → X q < 16) (hiv : X i = v) (hff : ∀ q, q < i → X q ≠ v) :
    Ct l_ G yJ14_remove_2 cJ14_remove_2 3 (some .boolean) 3 0 0 [.ref ls, .ref (G.2.2.1 (128 + v))] ([(ls, zO 6 [.int (iZ ((mc : Nat) : Int)), .int (iZ ((n : Nat) : Int)), va_rf (fstO n A), va_rf (lstO n A)])] ++ nds n (ndC G n A X))
      (fun _u : Unit => some (.int (iZ ((1 : Nat) : Int)))) (fun _u : Unit => True) (fun _u : Unit => [(ls, zO 6 [.int (iZ ((mc + 1 : Nat) : Int)), .int (iZ ((n - 1 : Nat) : Int)), va_rf (fstO (n - 1) (skp A i)), va_rf (lstO (n - 1) (skp A i))])] ++ nds (n - 1) (ndC G (n - 1) (skp A i) (skp X i))) := by
  refine Ct.of (by decide) (Nat.le_of_ble_eq_true rfl) ?_
  intro κ hl_ hG_ hk hR_
  subst hl_
  subst hG_
  show Z κ 0 [(0, .ref ls), (1, .ref ((kG κ).2.2.1 (128 + v)))] [] ([(ls, zO 6 [.int (iZ ((mc : Nat) : Int)), .int (iZ ((n : Nat) : Int)), va_rf (fstO n A), va_rf (lstO n A)])] ++ nds n (ndC (kG κ) n A X)) 0 0
  refine z_aload_n hk dJ14_remove_2_0 1 rfl (kk := ?_)
  refine z_ifnonnull hk 39 dJ14_remove_2_1 (kk := ?_)
  refine z_aload_n hk dJ14_remove_2_39 0 rfl (kk := ?_)
  refine z_get hk in_J14 0 2 q357 dJ14_remove_2_40 rfl rfl (kk := ?_)
  refine z_stk (st' := [.ref (A 0)]) (by rw [fstO_p (by omega)]; rfl) ?_
  refine z_astore_n hk [(2, .ref (A 0)), (0, .ref ls), (1, .ref ((kG κ).2.2.1 (128 + v)))] dJ14_remove_2_43 (kk := ?_)
  have L44 : ∀ (f_ : Nat) (j : Nat), (j ≤ i) → i - j < f_ → Z κ 44 [(2, .ref (A j)), (0, .ref ls), (1, .ref ((kG κ).2.2.1 (128 + v)))] [] ([(ls, zO 6 [.int (iZ ((mc : Nat) : Int)), .int (iZ ((n : Nat) : Int)), va_rf (fstO n A), va_rf (lstO n A)])] ++ nds n (ndC (kG κ) n A X)) 0 0 := by
    intro f_
    induction f_ with
    | zero => intro j hj hm_; exact absurd hm_ (Nat.not_lt_zero _)
    | succ f_ ih44 =>
      intro j hj hm_
      have hXj := hX j (by omega)
      refine z_aload_n hk dJ14_remove_2_44 0 rfl (kk := ?_)
      refine z_ifnull hk dJ14_remove_2_45 (kk := ?_)
      have e_1 : (ndC (kG κ) n A X) j = (A j, zO 7 [.ref ((kG κ).2.2.1 (128 + X j)), va_rf (if j + 1 < n then some (A (j + 1)) else none), va_rf (if 0 < j then some (A (j - 1)) else none)]) := ndC_at rfl rfl
      refine z_aload_n hk dJ14_remove_2_48 2 rfl (kk := ?_)
      refine z_aload_n hk dJ14_remove_2_49 0 rfl (kk := ?_)
      refine z_get hk in_J16 (1 + j) 0 q409 dJ14_remove_2_50 (ndx_get (E := [(ls, zO 6 [.int (iZ ((mc : Nat) : Int)), .int (iZ ((n : Nat) : Int)), va_rf (fstO n A), va_rf (lstO n A)])]) rfl (by omega) e_1) rfl (kk := ?_)
      refine z_callUi (v := v) hk [.ref ((kG κ).2.2.1 (128 + X j))] 1 ([(ls, zO 6 [.int (iZ ((mc : Nat) : Int)), .int (iZ ((n : Nat) : Int)), va_rf (fstO n A), va_rf (lstO n A)])] ++ nds n (ndC (kG κ) n A X)) ⟨"java/lang/Object", "equals", "(Ljava/lang/Object;)Z"⟩ "java/lang/Object" (ct_J15_equals (kL κ) (kG κ) v (X j) (by first | assumption | omega) (by first | assumption | omega)) q1122 q1124 q1121 q1129 q1130 q75 q1131 (zSub.app (E' := [(ls, zO 6 [.int (iZ ((mc : Nat) : Int)), .int (iZ ((n : Nat) : Int)), va_rf (fstO n A), va_rf (lstO n A)])]) (T := nds n (ndC (kG κ) n A X)) (zSub.ix [0] rfl)) (by omega) dJ14_remove_2_53 rfl (kk := fun u_2 hu53 => ?_)
      obtain ⟨r_3, rfl⟩ : ∃ z_, z_ = u_2 := ⟨_, rfl⟩
      have hu53 : (v = (X j) ∧ r_3 = 1) ∨ (v ≠ (X j) ∧ r_3 = 0) := hu53
      show Z κ 56 [(2, .ref (A j)), (0, .ref ls), (1, .ref ((kG κ).2.2.1 (128 + v)))] [.int (iZ ((r_3 : Nat) : Int))] ([(ls, zO 6 [.int (iZ ((mc : Nat) : Int)), .int (iZ ((n : Nat) : Int)), va_rf (fstO n A), va_rf (lstO n A)])] ++ nds n (ndC (kG κ) n A X)) 0 0
      refine z_if_eq hk 67 dJ14_remove_2_56 (kt := fun h56 => ?_) (kf := fun h56 => ?_) 
      · skip
        have hlt : j < i := by
          rcases Nat.lt_or_ge j i with q | q
          · exact q
          · have : j = i := by omega
            subst this; omega
        have e_4 : (ndC (kG κ) n A X) j = (A j, zO 7 [.ref ((kG κ).2.2.1 (128 + X j)), .ref (A (j + 1)), va_rf (if 0 < j then some (A (j - 1)) else none)]) := ndC_at (if_pos (by omega)) rfl
        refine z_aload_n hk dJ14_remove_2_67 0 rfl (kk := ?_)
        refine z_get hk in_J16 (1 + j) 1 q412 dJ14_remove_2_68 (ndx_get (E := [(ls, zO 6 [.int (iZ ((mc : Nat) : Int)), .int (iZ ((n : Nat) : Int)), va_rf (fstO n A), va_rf (lstO n A)])]) rfl (by omega) e_4) rfl (kk := ?_)
        refine z_astore_n hk [(2, .ref (A (j + 1))), (0, .ref ls), (1, .ref ((kG κ).2.2.1 (128 + v)))] dJ14_remove_2_71 (kk := ?_)
        refine z_goto hk 44 dJ14_remove_2_72 (kk := ?_)
        exact ih44  (j + 1) (by first | assumption | omega) (by omega)
      · skip
        have hji : j = i := by
          rcases Nat.lt_or_ge j i with q | q
          · exact absurd (by omega) (hff j q)
          · omega
        refine z_to (lv' := [(2, .ref (A i)), (0, .ref ls), (1, .ref ((kG κ).2.2.1 (128 + v)))]) rfl (by rw [hji]) rfl rfl ?_
        refine z_aload_n hk dJ14_remove_2_59 1 rfl (kk := ?_)
        refine z_aload_n hk dJ14_remove_2_60 0 rfl (kk := ?_)
        refine z_callV hk [.ref (A i)] 1 [] (ct_J14_unlink (kL κ) (kG κ) ls mc n A X i (by first | assumption | omega) (by first | assumption | omega) (by first | assumption | omega)) q905 q906 q907 q74 q908 ((zSub.app (zSub.ix [0] (ws' := [(ls, zO 6 [.int (iZ ((mc : Nat) : Int)), .int (iZ ((n : Nat) : Int)), va_rf (fstO n A), va_rf (lstO n A)])] ++ []) rfl)).trans zSub.mid) 0 6 rfl dJ14_remove_2_61 rfl (kk := fun _ _ => ?_)
        refine z_sub zSub.mid ?_
        show Z κ 64 [(2, .ref (A i)), (0, .ref ls), (1, .ref ((kG κ).2.2.1 (128 + v)))] [.ref ((kG κ).2.2.1 (128 + X i))] ([(ls, zO 6 [.int (iZ ((mc + 1 : Nat) : Int)), .int (iZ ((n - 1 : Nat) : Int)), va_rf (fstO (n - 1) (skp A i)), va_rf (lstO (n - 1) (skp A i))])] ++ nds (n - 1) (ndC (kG κ) (n - 1) (skp A i) (skp X i))) 0 0
        refine z_pop hk dJ14_remove_2_64 (kk := ?_)
        refine z_iconst (z := ((1 : Nat) : Int)) hk dJ14_remove_2_65 (kk := ?_)
        exact z_zret hk hR_ () (by omega) dJ14_remove_2_66 rfl rfl (by trivial) (zSub.app (zSub.ix [0] rfl))
  exact L44 (i - 0 + 1) 0 (by first | assumption | omega) (Nat.lt_succ_self _)

set_option maxHeartbeats 600000 in
theorem ct_J14_removeFirstOccurrence (l_ : Launch) (G : zG) (ls : Nat) (mc : Nat) (n : Nat) (A : Nat → Nat) (X : Nat → Nat) (i : Nat) (v : Nat) (hi : i < n) (hn : n ≤ 1000) (hmc : mc ≤ 1000) (hv : v < 16) (hX : ∀ q, q < n → X q < 16) (hiv : X i = v) (hff : ∀ q, q < i → X q ≠ v) :
    Ct l_ G yJ14_removeFirstOccurrence cJ14_removeFirstOccurrence 2 (some .boolean) 4 0 0 [.ref ls, .ref (G.2.2.1 (128 + v))] ([(ls, zO 6 [.int (iZ ((mc : Nat) : Int)), .int (iZ ((n : Nat) : Int)), va_rf (fstO n A), va_rf (lstO n A)])] ++ nds n (ndC G n A X))
      (fun _u : Unit => some (.int (iZ ((1 : Nat) : Int)))) (fun _u : Unit => True) (fun _u : Unit => [(ls, zO 6 [.int (iZ ((mc + 1 : Nat) : Int)), .int (iZ ((n - 1 : Nat) : Int)), va_rf (fstO (n - 1) (skp A i)), va_rf (lstO (n - 1) (skp A i))])] ++ nds (n - 1) (ndC G (n - 1) (skp A i) (skp X i))) := by
  refine Ct.of (by decide) (Nat.le_of_ble_eq_true rfl) ?_
  intro κ hl_ hG_ hk hR_
  subst hl_
  subst hG_
  show Z κ 0 [(0, .ref ls), (1, .ref ((kG κ).2.2.1 (128 + v)))] [] ([(ls, zO 6 [.int (iZ ((mc : Nat) : Int)), .int (iZ ((n : Nat) : Int)), va_rf (fstO n A), va_rf (lstO n A)])] ++ nds n (ndC (kG κ) n A X)) 0 0
  refine z_aload_n hk dJ14_removeFirstOccurrence_0 0 rfl (kk := ?_)
  refine z_aload_n hk dJ14_removeFirstOccurrence_1 1 rfl (kk := ?_)
  refine z_callV hk [.ref ((kG κ).2.2.1 (128 + v))] 1 [] (ct_J14_remove_2 (kL κ) (kG κ) ls mc n A X i v (by first | assumption | omega) (by first | assumption | omega) (by first | assumption | omega) (by first | assumption | omega) (by first | assumption | omega) (by first | assumption | omega) (by first | assumption | omega)) q1117 q1118 q1119 q74 q1120 ((zSub.app (zSub.ix [0] (ws' := [(ls, zO 6 [.int (iZ ((mc : Nat) : Int)), .int (iZ ((n : Nat) : Int)), va_rf (fstO n A), va_rf (lstO n A)])] ++ []) rfl)).trans zSub.mid) 0 6 rfl dJ14_removeFirstOccurrence_2 rfl (kk := fun _ _ => ?_)
  refine z_sub zSub.mid ?_
  show Z κ 5 [(0, .ref ls), (1, .ref ((kG κ).2.2.1 (128 + v)))] [.int (iZ ((1 : Nat) : Int))] ([(ls, zO 6 [.int (iZ ((mc + 1 : Nat) : Int)), .int (iZ ((n - 1 : Nat) : Int)), va_rf (fstO (n - 1) (skp A i)), va_rf (lstO (n - 1) (skp A i))])] ++ nds (n - 1) (ndC (kG κ) (n - 1) (skp A i) (skp X i))) 0 0
  exact z_zret hk hR_ () (by omega) dJ14_removeFirstOccurrence_5 rfl rfl (by trivial) (zSub.app (zSub.ix [0] rfl))
