/-! contracts, part jf -/
set_option maxRecDepth 100000
set_option maxHeartbeats 600000 in
theorem ct_J14_unlink (l_ : Launch) (G : zG) (ls : Nat) (mc : Nat) (n : Nat) (A : Nat → Nat) (X : Nat → Nat) (i : Nat) (hi : i < n) (hn : n ≤ 1000) (hmc : mc ≤ 1000) :
    Ct l_ G yJ14_unlink cJ14_unlink 5 (some (.object "java/lang/Object")) 1 0 0 [.ref ls, .ref (A i)] ([(ls, zO 6 [.int (iZ ((mc : Nat) : Int)), .int (iZ ((n : Nat) : Int)), va_rf (fstO n A), va_rf (lstO n A)])] ++ nds n (ndC G n A X))
      (fun _u : Unit => some (.ref (G.2.2.1 (128 + X i)))) (fun _u : Unit => True) (fun _u : Unit => [(ls, zO 6 [.int (iZ ((mc + 1 : Nat) : Int)), .int (iZ ((n - 1 : Nat) : Int)), va_rf (fstO (n - 1) (skp A i)), va_rf (lstO (n - 1) (skp A i))])] ++ nds (n - 1) (ndC G (n - 1) (skp A i) (skp X i))) := by
  refine Ct.of (by decide) (Nat.le_of_ble_eq_true rfl) ?_
  intro κ hl_ hG_ hk hR_
  subst hl_
  subst hG_
  show Z κ 0 [(0, .ref ls), (1, .ref (A i))] [] ([(ls, zO 6 [.int (iZ ((mc : Nat) : Int)), .int (iZ ((n : Nat) : Int)), va_rf (fstO n A), va_rf (lstO n A)])] ++ nds n (ndC (kG κ) n A X)) 0 0
  by_cases hp_ : 0 < i <;> by_cases hn_ : i + 1 < n
  · skip
    have e_1 : (ndC (kG κ) n A X) i = (A i, zO 7 [.ref ((kG κ).2.2.1 (128 + X i)), .ref (A (i + 1)), .ref (A (i - 1))]) := ndC_at (if_pos (by omega)) (if_pos (by omega))
    have e_2 : (ndC (kG κ) n A X) (i - 1) = (A (i - 1), zO 7 [.ref ((kG κ).2.2.1 (128 + X (i - 1))), .ref (A (i - 1 + 1)), va_rf (if 0 < i - 1 then some (A (i - 1 - 1)) else none)]) := ndC_at (if_pos (by omega)) rfl
    have e_3 : (ndC (kG κ) n A X) (i - 1) = (A (i - 1), zO 7 [.ref ((kG κ).2.2.1 (128 + X (i - 1))), .ref (A i), va_rf (if 0 < i - 1 then some (A (i - 1 - 1)) else none)]) := by rw [e_2, show i - 1 + 1 = i from by omega]
    have e_4 : (ndC (kG κ) n A X) (i + 1) = (A (i + 1), zO 7 [.ref ((kG κ).2.2.1 (128 + X (i + 1))), va_rf (if i + 1 + 1 < n then some (A (i + 1 + 1)) else none), .ref (A (i + 1 - 1))]) := ndC_at rfl (if_pos (by omega))
    have e_5 : (ndC (kG κ) n A X) (i + 1) = (A (i + 1), zO 7 [.ref ((kG κ).2.2.1 (128 + X (i + 1))), va_rf (if i + 1 + 1 < n then some (A (i + 1 + 1)) else none), .ref (A i)]) := e_4
    refine z_aload_n hk dJ14_unlink_0 1 rfl (kk := ?_)
    refine z_get hk in_J16 (1 + i) 0 q409 dJ14_unlink_1 (ndx_get (E := [(ls, zO 6 [.int (iZ ((mc : Nat) : Int)), .int (iZ ((n : Nat) : Int)), va_rf (fstO n A), va_rf (lstO n A)])]) rfl (by omega) e_1) rfl (kk := ?_)
    refine z_astore_n hk [(2, .ref ((kG κ).2.2.1 (128 + X i))), (0, .ref ls), (1, .ref (A i))] dJ14_unlink_4 (kk := ?_)
    refine z_aload_n hk dJ14_unlink_5 2 rfl (kk := ?_)
    refine z_get hk in_J16 (1 + i) 1 q412 dJ14_unlink_6 (ndx_get (E := [(ls, zO 6 [.int (iZ ((mc : Nat) : Int)), .int (iZ ((n : Nat) : Int)), va_rf (fstO n A), va_rf (lstO n A)])]) rfl (by omega) e_1) rfl (kk := ?_)
    refine z_astore_n hk [(3, .ref (A (i + 1))), (2, .ref ((kG κ).2.2.1 (128 + X i))), (0, .ref ls), (1, .ref (A i))] dJ14_unlink_9 (kk := ?_)
    refine z_aload_n hk dJ14_unlink_10 3 rfl (kk := ?_)
    refine z_get hk in_J16 (1 + i) 2 q414 dJ14_unlink_11 (ndx_get (E := [(ls, zO 6 [.int (iZ ((mc : Nat) : Int)), .int (iZ ((n : Nat) : Int)), va_rf (fstO n A), va_rf (lstO n A)])]) rfl (by omega) e_1) rfl (kk := ?_)
    refine z_astore hk [(4, .ref (A (i - 1))), (3, .ref (A (i + 1))), (2, .ref ((kG κ).2.2.1 (128 + X i))), (0, .ref ls), (1, .ref (A i))] dJ14_unlink_14 (kk := ?_)
    refine z_aload hk dJ14_unlink_16 0 rfl (kk := ?_)
    refine z_ifnonnull hk 29 dJ14_unlink_18 (kk := ?_)
    refine z_aload hk dJ14_unlink_29 0 rfl (kk := ?_)
    refine z_aload_n hk dJ14_unlink_31 1 rfl (kk := ?_)
    refine z_put hk in_J16 tyJ16 tyJ16_ok nmJ16 (1 + (i - 1)) 1 ([(ls, zO 6 [.int (iZ ((mc : Nat) : Int)), .int (iZ ((n : Nat) : Int)), va_rf (fstO n A), va_rf (lstO n A)])] ++ nds n (ups (ndC (kG κ) n A X) (i - 1) (A (i - 1), zO 7 [.ref ((kG κ).2.2.1 (128 + X (i - 1))), .ref (A (i + 1)), va_rf (if 0 < i - 1 then some (A (i - 1 - 1)) else none)]))) q412 dJ14_unlink_32 (ndx_get (E := [(ls, zO 6 [.int (iZ ((mc : Nat) : Int)), .int (iZ ((n : Nat) : Int)), va_rf (fstO n A), va_rf (lstO n A)])]) rfl (by omega) e_3) (hw := ndx_set rfl) (kk := ?_)
    obtain ⟨c_6, hc_6⟩ : ∃ z_, z_ = ups (ndC (kG κ) n A X) (i - 1) (A (i - 1), zO 7 [.ref ((kG κ).2.2.1 (128 + X (i - 1))), .ref (A (i + 1)), va_rf (if 0 < i - 1 then some (A (i - 1 - 1)) else none)]) := ⟨_, rfl⟩
    rw [← hc_6]
    have nc_6 : ∀ j_, j_ ≠ i - 1 → c_6 j_ = (ndC (kG κ) n A X) j_ := fun j_ hj_ => by rw [hc_6]; exact ups_ne hj_ rfl
    have e_7 : c_6 i = (A i, zO 7 [.ref ((kG κ).2.2.1 (128 + X i)), .ref (A (i + 1)), .ref (A (i - 1))]) := by rw [hc_6]; exact ups_ne (by omega) e_1
    have e_8 : c_6 (i - 1) = (A (i - 1), zO 7 [.ref ((kG κ).2.2.1 (128 + X (i - 1))), .ref (A (i + 1)), va_rf (if 0 < i - 1 then some (A (i - 1 - 1)) else none)]) := by rw [hc_6]; exact ups_eq
    have e_9 : c_6 (i + 1) = (A (i + 1), zO 7 [.ref ((kG κ).2.2.1 (128 + X (i + 1))), va_rf (if i + 1 + 1 < n then some (A (i + 1 + 1)) else none), .ref (A i)]) := by rw [hc_6]; exact ups_ne (by omega) e_5
    refine z_aload_n hk dJ14_unlink_35 4 rfl (kk := ?_)
    refine z_null hk dJ14_unlink_36 (kk := ?_)
    refine z_put hk in_J16 tyJ16 tyJ16_ok nmJ16 (1 + i) 2 ([(ls, zO 6 [.int (iZ ((mc : Nat) : Int)), .int (iZ ((n : Nat) : Int)), va_rf (fstO n A), va_rf (lstO n A)])] ++ nds n (ups c_6 i (A i, zO 7 [.ref ((kG κ).2.2.1 (128 + X i)), .ref (A (i + 1)), .null]))) q414 dJ14_unlink_37 (ndx_get (E := [(ls, zO 6 [.int (iZ ((mc : Nat) : Int)), .int (iZ ((n : Nat) : Int)), va_rf (fstO n A), va_rf (lstO n A)])]) rfl (by omega) e_7) (hw := ndx_set rfl) (kk := ?_)
    obtain ⟨c_10, hc_10⟩ : ∃ z_, z_ = ups c_6 i (A i, zO 7 [.ref ((kG κ).2.2.1 (128 + X i)), .ref (A (i + 1)), .null]) := ⟨_, rfl⟩
    rw [← hc_10]
    have nc_10 : ∀ j_, j_ ≠ i → c_10 j_ = c_6 j_ := fun j_ hj_ => by rw [hc_10]; exact ups_ne hj_ rfl
    have e_11 : c_10 i = (A i, zO 7 [.ref ((kG κ).2.2.1 (128 + X i)), .ref (A (i + 1)), .null]) := by rw [hc_10]; exact ups_eq
    have e_12 : c_10 (i - 1) = (A (i - 1), zO 7 [.ref ((kG κ).2.2.1 (128 + X (i - 1))), .ref (A (i + 1)), va_rf (if 0 < i - 1 then some (A (i - 1 - 1)) else none)]) := by rw [hc_10]; exact ups_ne (by omega) e_8
    have e_13 : c_10 (i + 1) = (A (i + 1), zO 7 [.ref ((kG κ).2.2.1 (128 + X (i + 1))), va_rf (if i + 1 + 1 < n then some (A (i + 1 + 1)) else none), .ref (A i)]) := by rw [hc_10]; exact ups_ne (by omega) e_9
    refine z_aload_n hk dJ14_unlink_40 1 rfl (kk := ?_)
    refine z_ifnonnull hk 53 dJ14_unlink_41 (kk := ?_)
    refine z_aload_n hk dJ14_unlink_53 1 rfl (kk := ?_)
    refine z_aload hk dJ14_unlink_54 0 rfl (kk := ?_)
    refine z_put hk in_J16 tyJ16 tyJ16_ok nmJ16 (1 + (i + 1)) 2 ([(ls, zO 6 [.int (iZ ((mc : Nat) : Int)), .int (iZ ((n : Nat) : Int)), va_rf (fstO n A), va_rf (lstO n A)])] ++ nds n (ups c_10 (i + 1) (A (i + 1), zO 7 [.ref ((kG κ).2.2.1 (128 + X (i + 1))), va_rf (if i + 1 + 1 < n then some (A (i + 1 + 1)) else none), .ref (A (i - 1))]))) q414 dJ14_unlink_56 (ndx_get (E := [(ls, zO 6 [.int (iZ ((mc : Nat) : Int)), .int (iZ ((n : Nat) : Int)), va_rf (fstO n A), va_rf (lstO n A)])]) rfl (by omega) e_13) (hw := ndx_set rfl) (kk := ?_)
    obtain ⟨c_14, hc_14⟩ : ∃ z_, z_ = ups c_10 (i + 1) (A (i + 1), zO 7 [.ref ((kG κ).2.2.1 (128 + X (i + 1))), va_rf (if i + 1 + 1 < n then some (A (i + 1 + 1)) else none), .ref (A (i - 1))]) := ⟨_, rfl⟩
    rw [← hc_14]
    have nc_14 : ∀ j_, j_ ≠ i + 1 → c_14 j_ = c_10 j_ := fun j_ hj_ => by rw [hc_14]; exact ups_ne hj_ rfl
    have e_15 : c_14 i = (A i, zO 7 [.ref ((kG κ).2.2.1 (128 + X i)), .ref (A (i + 1)), .null]) := by rw [hc_14]; exact ups_ne (by omega) e_11
    have e_16 : c_14 (i - 1) = (A (i - 1), zO 7 [.ref ((kG κ).2.2.1 (128 + X (i - 1))), .ref (A (i + 1)), va_rf (if 0 < i - 1 then some (A (i - 1 - 1)) else none)]) := by rw [hc_14]; exact ups_ne (by omega) e_12
    have e_17 : c_14 (i + 1) = (A (i + 1), zO 7 [.ref ((kG κ).2.2.1 (128 + X (i + 1))), va_rf (if i + 1 + 1 < n then some (A (i + 1 + 1)) else none), .ref (A (i - 1))]) := by rw [hc_14]; exact ups_eq
    refine z_aload_n hk dJ14_unlink_59 4 rfl (kk := ?_)
    refine z_null hk dJ14_unlink_60 (kk := ?_)
    refine z_put hk in_J16 tyJ16 tyJ16_ok nmJ16 (1 + i) 1 ([(ls, zO 6 [.int (iZ ((mc : Nat) : Int)), .int (iZ ((n : Nat) : Int)), va_rf (fstO n A), va_rf (lstO n A)])] ++ nds n (ups c_14 i (A i, zO 7 [.ref ((kG κ).2.2.1 (128 + X i)), .null, .null]))) q412 dJ14_unlink_61 (ndx_get (E := [(ls, zO 6 [.int (iZ ((mc : Nat) : Int)), .int (iZ ((n : Nat) : Int)), va_rf (fstO n A), va_rf (lstO n A)])]) rfl (by omega) e_15) (hw := ndx_set rfl) (kk := ?_)
    obtain ⟨c_18, hc_18⟩ : ∃ z_, z_ = ups c_14 i (A i, zO 7 [.ref ((kG κ).2.2.1 (128 + X i)), .null, .null]) := ⟨_, rfl⟩
    rw [← hc_18]
    have nc_18 : ∀ j_, j_ ≠ i → c_18 j_ = c_14 j_ := fun j_ hj_ => by rw [hc_18]; exact ups_ne hj_ rfl
    have e_19 : c_18 i = (A i, zO 7 [.ref ((kG κ).2.2.1 (128 + X i)), .null, .null]) := by rw [hc_18]; exact ups_eq
    have e_20 : c_18 (i - 1) = (A (i - 1), zO 7 [.ref ((kG κ).2.2.1 (128 + X (i - 1))), .ref (A (i + 1)), va_rf (if 0 < i - 1 then some (A (i - 1 - 1)) else none)]) := by rw [hc_18]; exact ups_ne (by omega) e_16
    have e_21 : c_18 (i + 1) = (A (i + 1), zO 7 [.ref ((kG κ).2.2.1 (128 + X (i + 1))), va_rf (if i + 1 + 1 < n then some (A (i + 1 + 1)) else none), .ref (A (i - 1))]) := by rw [hc_18]; exact ups_ne (by omega) e_17
    refine z_aload_n hk dJ14_unlink_64 4 rfl (kk := ?_)
    refine z_null hk dJ14_unlink_65 (kk := ?_)
    refine z_put hk in_J16 tyJ16 tyJ16_ok nmJ16 (1 + i) 0 ([(ls, zO 6 [.int (iZ ((mc : Nat) : Int)), .int (iZ ((n : Nat) : Int)), va_rf (fstO n A), va_rf (lstO n A)])] ++ nds n (ups c_18 i (A i, zO 7 [.null, .null, .null]))) q409 dJ14_unlink_66 (ndx_get (E := [(ls, zO 6 [.int (iZ ((mc : Nat) : Int)), .int (iZ ((n : Nat) : Int)), va_rf (fstO n A), va_rf (lstO n A)])]) rfl (by omega) e_19) (hw := ndx_set rfl) (kk := ?_)
    obtain ⟨c_22, hc_22⟩ : ∃ z_, z_ = ups c_18 i (A i, zO 7 [.null, .null, .null]) := ⟨_, rfl⟩
    rw [← hc_22]
    have nc_22 : ∀ j_, j_ ≠ i → c_22 j_ = c_18 j_ := fun j_ hj_ => by rw [hc_22]; exact ups_ne hj_ rfl
    have e_23 : c_22 i = (A i, zO 7 [.null, .null, .null]) := by rw [hc_22]; exact ups_eq
    have e_24 : c_22 (i - 1) = (A (i - 1), zO 7 [.ref ((kG κ).2.2.1 (128 + X (i - 1))), .ref (A (i + 1)), va_rf (if 0 < i - 1 then some (A (i - 1 - 1)) else none)]) := by rw [hc_22]; exact ups_ne (by omega) e_20
    have e_25 : c_22 (i + 1) = (A (i + 1), zO 7 [.ref ((kG κ).2.2.1 (128 + X (i + 1))), va_rf (if i + 1 + 1 < n then some (A (i + 1 + 1)) else none), .ref (A (i - 1))]) := by rw [hc_22]; exact ups_ne (by omega) e_21
    refine z_aload_n hk dJ14_unlink_69 3 rfl (kk := ?_)
    refine z_dup hk dJ14_unlink_70 (kk := ?_)
    refine z_get hk in_J14 0 1 q355 dJ14_unlink_71 rfl rfl (kk := ?_)
    refine z_iconst (z := ((1 : Nat) : Int)) hk dJ14_unlink_74 (kk := ?_)
    refine z_isub (z := (((n - 1) : Nat) : Int)) hk dJ14_unlink_75 (by omega) (kk := ?_)
    refine z_put hk in_J14 tyJ14 tyJ14_ok nmJ14 0 1 ([(ls, zO 6 [.int (iZ ((mc : Nat) : Int)), .int (iZ (((n - 1) : Nat) : Int)), va_rf (fstO n A), va_rf (lstO n A)])] ++ nds n c_22) q355 dJ14_unlink_76 rfl (kk := ?_)
    refine z_aload_n hk dJ14_unlink_79 3 rfl (kk := ?_)
    refine z_dup hk dJ14_unlink_80 (kk := ?_)
    refine z_getM hk in_J14 0 0 q361 q363 dJ14_unlink_81 rfl rfl (kk := ?_)
    refine z_iconst (z := ((1 : Nat) : Int)) hk dJ14_unlink_84 (kk := ?_)
    refine z_iadd (z := ((mc + 1 : Nat) : Int)) hk dJ14_unlink_85 (Int.natCast_add _ _).symm (kk := ?_)
    refine z_putM hk in_J14 tyJ14 tyJ14_ok nmJ14 0 0 ([(ls, zO 6 [.int (iZ ((mc + 1 : Nat) : Int)), .int (iZ (((n - 1) : Nat) : Int)), va_rf (fstO n A), va_rf (lstO n A)])] ++ nds n c_22) q361 q363 dJ14_unlink_86 rfl (kk := ?_)
    refine z_aload_n hk dJ14_unlink_89 2 rfl (kk := ?_)
    have g0 : ∀ j_, j_ < n → j_ + 1 ≠ i → j_ ≠ i → j_ ≠ i + 1 → c_22 j_ = ndC (kG κ) n A X j_ := fun j_ _ _ _ _ => by rw [nc_22 j_ (by omega), nc_18 j_ (by omega), nc_14 j_ (by omega), nc_10 j_ (by omega), nc_6 j_ (by omega)]
    have g1 : 0 < i → c_22 (i - 1) = _ := fun _ => (by rw [e_24, if_pos (show i + 1 < n by omega)]; rfl : c_22 (i - 1) = (A (i - 1), zO 7 [.ref ((kG κ).2.2.1 (128 + X (i - 1))), va_rf (if i + 1 < n then some (A (i + 1)) else none), va_rf (if 0 < i - 1 then some (A (i - 1 - 1)) else none)]))
    have g2 : i + 1 < n → c_22 (i + 1) = _ := fun _ => (by rw [e_25, if_pos (show 0 < i by omega)]; rfl : c_22 (i + 1) = (A (i + 1), zO 7 [.ref ((kG κ).2.2.1 (128 + X (i + 1))), va_rf (if i + 1 + 1 < n then some (A (i + 1 + 1)) else none), va_rf (if 0 < i then some (A (i - 1)) else none)]))
    have g3 : (va_rf (fstO n A) : Value) = va_rf (fstO (n - 1) (skp A i)) := by rw [skp_fst (by omega) (by omega), if_neg (by omega), fstO_p (by omega)]
    have g4 : (va_rf (lstO n A) : Value) = va_rf (lstO (n - 1) (skp A i)) := by rw [skp_lst (by omega) (by omega), if_neg (by omega), lstO_p (by omega)]
    refine z_sub (ws' := [(ls, zO 6 [.int (iZ ((mc + 1 : Nat) : Int)), .int (iZ ((n - 1 : Nat) : Int)), va_rf (fstO (n - 1) (skp A i)), va_rf (lstO (n - 1) (skp A i))])] ++ nds (n - 1) (ndC (kG κ) (n - 1) (skp A i) (skp X i))) ((zSub.appR (nd_gone (c := c_22) (by omega) g0 g1 g2)).trans (zSub.eq (by rw [← g3, ← g4]))) ?_
    exact z_aret hk hR_ () dJ14_unlink_90 rfl (Or.inl ⟨_, rfl⟩) rfl (by trivial) (zSub.app (zSub.ix [0] rfl))
  · skip
    have e_26 : (ndC (kG κ) n A X) i = (A i, zO 7 [.ref ((kG κ).2.2.1 (128 + X i)), .null, .ref (A (i - 1))]) := ndC_at (if_neg (by omega)) (if_pos (by omega))
    have e_27 : (ndC (kG κ) n A X) (i - 1) = (A (i - 1), zO 7 [.ref ((kG κ).2.2.1 (128 + X (i - 1))), .ref (A (i - 1 + 1)), va_rf (if 0 < i - 1 then some (A (i - 1 - 1)) else none)]) := ndC_at (if_pos (by omega)) rfl
    have e_28 : (ndC (kG κ) n A X) (i - 1) = (A (i - 1), zO 7 [.ref ((kG κ).2.2.1 (128 + X (i - 1))), .ref (A i), va_rf (if 0 < i - 1 then some (A (i - 1 - 1)) else none)]) := by rw [e_27, show i - 1 + 1 = i from by omega]
    refine z_aload_n hk dJ14_unlink_0 1 rfl (kk := ?_)
    refine z_get hk in_J16 (1 + i) 0 q409 dJ14_unlink_1 (ndx_get (E := [(ls, zO 6 [.int (iZ ((mc : Nat) : Int)), .int (iZ ((n : Nat) : Int)), va_rf (fstO n A), va_rf (lstO n A)])]) rfl (by omega) e_26) rfl (kk := ?_)
    refine z_astore_n hk [(2, .ref ((kG κ).2.2.1 (128 + X i))), (0, .ref ls), (1, .ref (A i))] dJ14_unlink_4 (kk := ?_)
    refine z_aload_n hk dJ14_unlink_5 2 rfl (kk := ?_)
    refine z_get hk in_J16 (1 + i) 1 q412 dJ14_unlink_6 (ndx_get (E := [(ls, zO 6 [.int (iZ ((mc : Nat) : Int)), .int (iZ ((n : Nat) : Int)), va_rf (fstO n A), va_rf (lstO n A)])]) rfl (by omega) e_26) rfl (kk := ?_)
    refine z_astore_nN hk [(3, .null), (2, .ref ((kG κ).2.2.1 (128 + X i))), (0, .ref ls), (1, .ref (A i))] dJ14_unlink_9 (kk := ?_)
    refine z_aload_n hk dJ14_unlink_10 3 rfl (kk := ?_)
    refine z_get hk in_J16 (1 + i) 2 q414 dJ14_unlink_11 (ndx_get (E := [(ls, zO 6 [.int (iZ ((mc : Nat) : Int)), .int (iZ ((n : Nat) : Int)), va_rf (fstO n A), va_rf (lstO n A)])]) rfl (by omega) e_26) rfl (kk := ?_)
    refine z_astore hk [(4, .ref (A (i - 1))), (3, .null), (2, .ref ((kG κ).2.2.1 (128 + X i))), (0, .ref ls), (1, .ref (A i))] dJ14_unlink_14 (kk := ?_)
    refine z_aload hk dJ14_unlink_16 0 rfl (kk := ?_)
    refine z_ifnonnull hk 29 dJ14_unlink_18 (kk := ?_)
    refine z_aload hk dJ14_unlink_29 0 rfl (kk := ?_)
    refine z_aload_nN hk dJ14_unlink_31 1 rfl (kk := ?_)
    refine z_put hk in_J16 tyJ16 tyJ16_ok nmJ16 (1 + (i - 1)) 1 ([(ls, zO 6 [.int (iZ ((mc : Nat) : Int)), .int (iZ ((n : Nat) : Int)), va_rf (fstO n A), va_rf (lstO n A)])] ++ nds n (ups (ndC (kG κ) n A X) (i - 1) (A (i - 1), zO 7 [.ref ((kG κ).2.2.1 (128 + X (i - 1))), .null, va_rf (if 0 < i - 1 then some (A (i - 1 - 1)) else none)]))) q412 dJ14_unlink_32 (ndx_get (E := [(ls, zO 6 [.int (iZ ((mc : Nat) : Int)), .int (iZ ((n : Nat) : Int)), va_rf (fstO n A), va_rf (lstO n A)])]) rfl (by omega) e_28) (hw := ndx_set rfl) (kk := ?_)
    obtain ⟨c_29, hc_29⟩ : ∃ z_, z_ = ups (ndC (kG κ) n A X) (i - 1) (A (i - 1), zO 7 [.ref ((kG κ).2.2.1 (128 + X (i - 1))), .null, va_rf (if 0 < i - 1 then some (A (i - 1 - 1)) else none)]) := ⟨_, rfl⟩
    rw [← hc_29]
    have nc_29 : ∀ j_, j_ ≠ i - 1 → c_29 j_ = (ndC (kG κ) n A X) j_ := fun j_ hj_ => by rw [hc_29]; exact ups_ne hj_ rfl
    have e_30 : c_29 i = (A i, zO 7 [.ref ((kG κ).2.2.1 (128 + X i)), .null, .ref (A (i - 1))]) := by rw [hc_29]; exact ups_ne (by omega) e_26
    have e_31 : c_29 (i - 1) = (A (i - 1), zO 7 [.ref ((kG κ).2.2.1 (128 + X (i - 1))), .null, va_rf (if 0 < i - 1 then some (A (i - 1 - 1)) else none)]) := by rw [hc_29]; exact ups_eq
    refine z_aload_n hk dJ14_unlink_35 4 rfl (kk := ?_)
    refine z_null hk dJ14_unlink_36 (kk := ?_)
    refine z_put hk in_J16 tyJ16 tyJ16_ok nmJ16 (1 + i) 2 ([(ls, zO 6 [.int (iZ ((mc : Nat) : Int)), .int (iZ ((n : Nat) : Int)), va_rf (fstO n A), va_rf (lstO n A)])] ++ nds n (ups c_29 i (A i, zO 7 [.ref ((kG κ).2.2.1 (128 + X i)), .null, .null]))) q414 dJ14_unlink_37 (ndx_get (E := [(ls, zO 6 [.int (iZ ((mc : Nat) : Int)), .int (iZ ((n : Nat) : Int)), va_rf (fstO n A), va_rf (lstO n A)])]) rfl (by omega) e_30) (hw := ndx_set rfl) (kk := ?_)
    obtain ⟨c_32, hc_32⟩ : ∃ z_, z_ = ups c_29 i (A i, zO 7 [.ref ((kG κ).2.2.1 (128 + X i)), .null, .null]) := ⟨_, rfl⟩
    rw [← hc_32]
    have nc_32 : ∀ j_, j_ ≠ i → c_32 j_ = c_29 j_ := fun j_ hj_ => by rw [hc_32]; exact ups_ne hj_ rfl
    have e_33 : c_32 i = (A i, zO 7 [.ref ((kG κ).2.2.1 (128 + X i)), .null, .null]) := by rw [hc_32]; exact ups_eq
    have e_34 : c_32 (i - 1) = (A (i - 1), zO 7 [.ref ((kG κ).2.2.1 (128 + X (i - 1))), .null, va_rf (if 0 < i - 1 then some (A (i - 1 - 1)) else none)]) := by rw [hc_32]; exact ups_ne (by omega) e_31
    refine z_aload_nN hk dJ14_unlink_40 1 rfl (kk := ?_)
    refine z_ifnonnullN hk dJ14_unlink_41 (kk := ?_)
    refine z_aload_n hk dJ14_unlink_44 3 rfl (kk := ?_)
    refine z_aload hk dJ14_unlink_45 0 rfl (kk := ?_)
    refine z_put hk in_J14 tyJ14 tyJ14_ok nmJ14 0 3 ([(ls, zO 6 [.int (iZ ((mc : Nat) : Int)), .int (iZ ((n : Nat) : Int)), va_rf (fstO n A), .ref (A (i - 1))])] ++ nds n c_32) q358 dJ14_unlink_47 rfl (kk := ?_)
    refine z_goto hk 64 dJ14_unlink_50 (kk := ?_)
    refine z_aload_n hk dJ14_unlink_64 4 rfl (kk := ?_)
    refine z_null hk dJ14_unlink_65 (kk := ?_)
    refine z_put hk in_J16 tyJ16 tyJ16_ok nmJ16 (1 + i) 0 ([(ls, zO 6 [.int (iZ ((mc : Nat) : Int)), .int (iZ ((n : Nat) : Int)), va_rf (fstO n A), .ref (A (i - 1))])] ++ nds n (ups c_32 i (A i, zO 7 [.null, .null, .null]))) q409 dJ14_unlink_66 (ndx_get (E := [(ls, zO 6 [.int (iZ ((mc : Nat) : Int)), .int (iZ ((n : Nat) : Int)), va_rf (fstO n A), .ref (A (i - 1))])]) rfl (by omega) e_33) (hw := ndx_set rfl) (kk := ?_)
    obtain ⟨c_35, hc_35⟩ : ∃ z_, z_ = ups c_32 i (A i, zO 7 [.null, .null, .null]) := ⟨_, rfl⟩
    rw [← hc_35]
    have nc_35 : ∀ j_, j_ ≠ i → c_35 j_ = c_32 j_ := fun j_ hj_ => by rw [hc_35]; exact ups_ne hj_ rfl
    have e_36 : c_35 i = (A i, zO 7 [.null, .null, .null]) := by rw [hc_35]; exact ups_eq
    have e_37 : c_35 (i - 1) = (A (i - 1), zO 7 [.ref ((kG κ).2.2.1 (128 + X (i - 1))), .null, va_rf (if 0 < i - 1 then some (A (i - 1 - 1)) else none)]) := by rw [hc_35]; exact ups_ne (by omega) e_34
    refine z_aload_n hk dJ14_unlink_69 3 rfl (kk := ?_)
    refine z_dup hk dJ14_unlink_70 (kk := ?_)
    refine z_get hk in_J14 0 1 q355 dJ14_unlink_71 rfl rfl (kk := ?_)
    refine z_iconst (z := ((1 : Nat) : Int)) hk dJ14_unlink_74 (kk := ?_)
    refine z_isub (z := (((n - 1) : Nat) : Int)) hk dJ14_unlink_75 (by omega) (kk := ?_)
    refine z_put hk in_J14 tyJ14 tyJ14_ok nmJ14 0 1 ([(ls, zO 6 [.int (iZ ((mc : Nat) : Int)), .int (iZ (((n - 1) : Nat) : Int)), va_rf (fstO n A), .ref (A (i - 1))])] ++ nds n c_35) q355 dJ14_unlink_76 rfl (kk := ?_)
    refine z_aload_n hk dJ14_unlink_79 3 rfl (kk := ?_)
    refine z_dup hk dJ14_unlink_80 (kk := ?_)
    refine z_getM hk in_J14 0 0 q361 q363 dJ14_unlink_81 rfl rfl (kk := ?_)
    refine z_iconst (z := ((1 : Nat) : Int)) hk dJ14_unlink_84 (kk := ?_)
    refine z_iadd (z := ((mc + 1 : Nat) : Int)) hk dJ14_unlink_85 (Int.natCast_add _ _).symm (kk := ?_)
    refine z_putM hk in_J14 tyJ14 tyJ14_ok nmJ14 0 0 ([(ls, zO 6 [.int (iZ ((mc + 1 : Nat) : Int)), .int (iZ (((n - 1) : Nat) : Int)), va_rf (fstO n A), .ref (A (i - 1))])] ++ nds n c_35) q361 q363 dJ14_unlink_86 rfl (kk := ?_)
    refine z_aload_n hk dJ14_unlink_89 2 rfl (kk := ?_)
    have g0 : ∀ j_, j_ < n → j_ + 1 ≠ i → j_ ≠ i → j_ ≠ i + 1 → c_35 j_ = ndC (kG κ) n A X j_ := fun j_ _ _ _ _ => by rw [nc_35 j_ (by omega), nc_32 j_ (by omega), nc_29 j_ (by omega)]
    have g1 : 0 < i → c_35 (i - 1) = _ := fun _ => (by rw [e_37, if_neg (show ¬ i + 1 < n by omega)]; rfl : c_35 (i - 1) = (A (i - 1), zO 7 [.ref ((kG κ).2.2.1 (128 + X (i - 1))), va_rf (if i + 1 < n then some (A (i + 1)) else none), va_rf (if 0 < i - 1 then some (A (i - 1 - 1)) else none)]))
    have g3 : (va_rf (fstO n A) : Value) = va_rf (fstO (n - 1) (skp A i)) := by rw [skp_fst (by omega) (by omega), if_neg (by omega), fstO_p (by omega)]
    have g4 : (.ref (A (i - 1)) : Value) = va_rf (lstO (n - 1) (skp A i)) := by rw [skp_lst (by omega) (by omega), if_pos (by omega)]; try rfl
    refine z_sub (ws' := [(ls, zO 6 [.int (iZ ((mc + 1 : Nat) : Int)), .int (iZ ((n - 1 : Nat) : Int)), va_rf (fstO (n - 1) (skp A i)), va_rf (lstO (n - 1) (skp A i))])] ++ nds (n - 1) (ndC (kG κ) (n - 1) (skp A i) (skp X i))) ((zSub.appR (nd_gone (c := c_35) (by omega) g0 g1 (fun q_ => absurd q_ (by omega)))).trans (zSub.eq (by rw [← g3, ← g4]))) ?_
    exact z_aret hk hR_ () dJ14_unlink_90 rfl (Or.inl ⟨_, rfl⟩) rfl (by trivial) (zSub.app (zSub.ix [0] rfl))
  · skip
    have e_38 : (ndC (kG κ) n A X) i = (A i, zO 7 [.ref ((kG κ).2.2.1 (128 + X i)), .ref (A (i + 1)), .null]) := ndC_at (if_pos (by omega)) (if_neg (by omega))
    have e_39 : (ndC (kG κ) n A X) (i + 1) = (A (i + 1), zO 7 [.ref ((kG κ).2.2.1 (128 + X (i + 1))), va_rf (if i + 1 + 1 < n then some (A (i + 1 + 1)) else none), .ref (A (i + 1 - 1))]) := ndC_at rfl (if_pos (by omega))
    have e_40 : (ndC (kG κ) n A X) (i + 1) = (A (i + 1), zO 7 [.ref ((kG κ).2.2.1 (128 + X (i + 1))), va_rf (if i + 1 + 1 < n then some (A (i + 1 + 1)) else none), .ref (A i)]) := e_39
    refine z_aload_n hk dJ14_unlink_0 1 rfl (kk := ?_)
    refine z_get hk in_J16 (1 + i) 0 q409 dJ14_unlink_1 (ndx_get (E := [(ls, zO 6 [.int (iZ ((mc : Nat) : Int)), .int (iZ ((n : Nat) : Int)), va_rf (fstO n A), va_rf (lstO n A)])]) rfl (by omega) e_38) rfl (kk := ?_)
    refine z_astore_n hk [(2, .ref ((kG κ).2.2.1 (128 + X i))), (0, .ref ls), (1, .ref (A i))] dJ14_unlink_4 (kk := ?_)
    refine z_aload_n hk dJ14_unlink_5 2 rfl (kk := ?_)
    refine z_get hk in_J16 (1 + i) 1 q412 dJ14_unlink_6 (ndx_get (E := [(ls, zO 6 [.int (iZ ((mc : Nat) : Int)), .int (iZ ((n : Nat) : Int)), va_rf (fstO n A), va_rf (lstO n A)])]) rfl (by omega) e_38) rfl (kk := ?_)
    refine z_astore_n hk [(3, .ref (A (i + 1))), (2, .ref ((kG κ).2.2.1 (128 + X i))), (0, .ref ls), (1, .ref (A i))] dJ14_unlink_9 (kk := ?_)
    refine z_aload_n hk dJ14_unlink_10 3 rfl (kk := ?_)
    refine z_get hk in_J16 (1 + i) 2 q414 dJ14_unlink_11 (ndx_get (E := [(ls, zO 6 [.int (iZ ((mc : Nat) : Int)), .int (iZ ((n : Nat) : Int)), va_rf (fstO n A), va_rf (lstO n A)])]) rfl (by omega) e_38) rfl (kk := ?_)
    refine z_astoreN hk [(4, .null), (3, .ref (A (i + 1))), (2, .ref ((kG κ).2.2.1 (128 + X i))), (0, .ref ls), (1, .ref (A i))] dJ14_unlink_14 (kk := ?_)
    refine z_aloadN hk dJ14_unlink_16 0 rfl (kk := ?_)
    refine z_ifnonnullN hk dJ14_unlink_18 (kk := ?_)
    refine z_aload_n hk dJ14_unlink_21 3 rfl (kk := ?_)
    refine z_aload_n hk dJ14_unlink_22 1 rfl (kk := ?_)
    refine z_put hk in_J14 tyJ14 tyJ14_ok nmJ14 0 2 ([(ls, zO 6 [.int (iZ ((mc : Nat) : Int)), .int (iZ ((n : Nat) : Int)), .ref (A (i + 1)), va_rf (lstO n A)])] ++ nds n (ndC (kG κ) n A X)) q357 dJ14_unlink_23 rfl (kk := ?_)
    refine z_goto hk 40 dJ14_unlink_26 (kk := ?_)
    refine z_aload_n hk dJ14_unlink_40 1 rfl (kk := ?_)
    refine z_ifnonnull hk 53 dJ14_unlink_41 (kk := ?_)
    refine z_aload_n hk dJ14_unlink_53 1 rfl (kk := ?_)
    refine z_aloadN hk dJ14_unlink_54 0 rfl (kk := ?_)
    refine z_put hk in_J16 tyJ16 tyJ16_ok nmJ16 (1 + (i + 1)) 2 ([(ls, zO 6 [.int (iZ ((mc : Nat) : Int)), .int (iZ ((n : Nat) : Int)), .ref (A (i + 1)), va_rf (lstO n A)])] ++ nds n (ups (ndC (kG κ) n A X) (i + 1) (A (i + 1), zO 7 [.ref ((kG κ).2.2.1 (128 + X (i + 1))), va_rf (if i + 1 + 1 < n then some (A (i + 1 + 1)) else none), .null]))) q414 dJ14_unlink_56 (ndx_get (E := [(ls, zO 6 [.int (iZ ((mc : Nat) : Int)), .int (iZ ((n : Nat) : Int)), .ref (A (i + 1)), va_rf (lstO n A)])]) rfl (by omega) e_40) (hw := ndx_set rfl) (kk := ?_)
    obtain ⟨c_41, hc_41⟩ : ∃ z_, z_ = ups (ndC (kG κ) n A X) (i + 1) (A (i + 1), zO 7 [.ref ((kG κ).2.2.1 (128 + X (i + 1))), va_rf (if i + 1 + 1 < n then some (A (i + 1 + 1)) else none), .null]) := ⟨_, rfl⟩
    rw [← hc_41]
    have nc_41 : ∀ j_, j_ ≠ i + 1 → c_41 j_ = (ndC (kG κ) n A X) j_ := fun j_ hj_ => by rw [hc_41]; exact ups_ne hj_ rfl
    have e_42 : c_41 i = (A i, zO 7 [.ref ((kG κ).2.2.1 (128 + X i)), .ref (A (i + 1)), .null]) := by rw [hc_41]; exact ups_ne (by omega) e_38
    have e_43 : c_41 (i + 1) = (A (i + 1), zO 7 [.ref ((kG κ).2.2.1 (128 + X (i + 1))), va_rf (if i + 1 + 1 < n then some (A (i + 1 + 1)) else none), .null]) := by rw [hc_41]; exact ups_eq
    refine z_aload_n hk dJ14_unlink_59 4 rfl (kk := ?_)
    refine z_null hk dJ14_unlink_60 (kk := ?_)
    refine z_put hk in_J16 tyJ16 tyJ16_ok nmJ16 (1 + i) 1 ([(ls, zO 6 [.int (iZ ((mc : Nat) : Int)), .int (iZ ((n : Nat) : Int)), .ref (A (i + 1)), va_rf (lstO n A)])] ++ nds n (ups c_41 i (A i, zO 7 [.ref ((kG κ).2.2.1 (128 + X i)), .null, .null]))) q412 dJ14_unlink_61 (ndx_get (E := [(ls, zO 6 [.int (iZ ((mc : Nat) : Int)), .int (iZ ((n : Nat) : Int)), .ref (A (i + 1)), va_rf (lstO n A)])]) rfl (by omega) e_42) (hw := ndx_set rfl) (kk := ?_)
    obtain ⟨c_44, hc_44⟩ : ∃ z_, z_ = ups c_41 i (A i, zO 7 [.ref ((kG κ).2.2.1 (128 + X i)), .null, .null]) := ⟨_, rfl⟩
    rw [← hc_44]
    have nc_44 : ∀ j_, j_ ≠ i → c_44 j_ = c_41 j_ := fun j_ hj_ => by rw [hc_44]; exact ups_ne hj_ rfl
    have e_45 : c_44 i = (A i, zO 7 [.ref ((kG κ).2.2.1 (128 + X i)), .null, .null]) := by rw [hc_44]; exact ups_eq
    have e_46 : c_44 (i + 1) = (A (i + 1), zO 7 [.ref ((kG κ).2.2.1 (128 + X (i + 1))), va_rf (if i + 1 + 1 < n then some (A (i + 1 + 1)) else none), .null]) := by rw [hc_44]; exact ups_ne (by omega) e_43
    refine z_aload_n hk dJ14_unlink_64 4 rfl (kk := ?_)
    refine z_null hk dJ14_unlink_65 (kk := ?_)
    refine z_put hk in_J16 tyJ16 tyJ16_ok nmJ16 (1 + i) 0 ([(ls, zO 6 [.int (iZ ((mc : Nat) : Int)), .int (iZ ((n : Nat) : Int)), .ref (A (i + 1)), va_rf (lstO n A)])] ++ nds n (ups c_44 i (A i, zO 7 [.null, .null, .null]))) q409 dJ14_unlink_66 (ndx_get (E := [(ls, zO 6 [.int (iZ ((mc : Nat) : Int)), .int (iZ ((n : Nat) : Int)), .ref (A (i + 1)), va_rf (lstO n A)])]) rfl (by omega) e_45) (hw := ndx_set rfl) (kk := ?_)
    obtain ⟨c_47, hc_47⟩ : ∃ z_, z_ = ups c_44 i (A i, zO 7 [.null, .null, .null]) := ⟨_, rfl⟩
    rw [← hc_47]
    have nc_47 : ∀ j_, j_ ≠ i → c_47 j_ = c_44 j_ := fun j_ hj_ => by rw [hc_47]; exact ups_ne hj_ rfl
    have e_48 : c_47 i = (A i, zO 7 [.null, .null, .null]) := by rw [hc_47]; exact ups_eq
    have e_49 : c_47 (i + 1) = (A (i + 1), zO 7 [.ref ((kG κ).2.2.1 (128 + X (i + 1))), va_rf (if i + 1 + 1 < n then some (A (i + 1 + 1)) else none), .null]) := by rw [hc_47]; exact ups_ne (by omega) e_46
    refine z_aload_n hk dJ14_unlink_69 3 rfl (kk := ?_)
    refine z_dup hk dJ14_unlink_70 (kk := ?_)
    refine z_get hk in_J14 0 1 q355 dJ14_unlink_71 rfl rfl (kk := ?_)
    refine z_iconst (z := ((1 : Nat) : Int)) hk dJ14_unlink_74 (kk := ?_)
    refine z_isub (z := (((n - 1) : Nat) : Int)) hk dJ14_unlink_75 (by omega) (kk := ?_)
    refine z_put hk in_J14 tyJ14 tyJ14_ok nmJ14 0 1 ([(ls, zO 6 [.int (iZ ((mc : Nat) : Int)), .int (iZ (((n - 1) : Nat) : Int)), .ref (A (i + 1)), va_rf (lstO n A)])] ++ nds n c_47) q355 dJ14_unlink_76 rfl (kk := ?_)
    refine z_aload_n hk dJ14_unlink_79 3 rfl (kk := ?_)
    refine z_dup hk dJ14_unlink_80 (kk := ?_)
    refine z_getM hk in_J14 0 0 q361 q363 dJ14_unlink_81 rfl rfl (kk := ?_)
    refine z_iconst (z := ((1 : Nat) : Int)) hk dJ14_unlink_84 (kk := ?_)
    refine z_iadd (z := ((mc + 1 : Nat) : Int)) hk dJ14_unlink_85 (Int.natCast_add _ _).symm (kk := ?_)
    refine z_putM hk in_J14 tyJ14 tyJ14_ok nmJ14 0 0 ([(ls, zO 6 [.int (iZ ((mc + 1 : Nat) : Int)), .int (iZ (((n - 1) : Nat) : Int)), .ref (A (i + 1)), va_rf (lstO n A)])] ++ nds n c_47) q361 q363 dJ14_unlink_86 rfl (kk := ?_)
    refine z_aload_n hk dJ14_unlink_89 2 rfl (kk := ?_)
    have g0 : ∀ j_, j_ < n → j_ + 1 ≠ i → j_ ≠ i → j_ ≠ i + 1 → c_47 j_ = ndC (kG κ) n A X j_ := fun j_ _ _ _ _ => by rw [nc_47 j_ (by omega), nc_44 j_ (by omega), nc_41 j_ (by omega)]
    have g2 : i + 1 < n → c_47 (i + 1) = _ := fun _ => (by rw [e_49, if_neg (show ¬ 0 < i by omega)]; rfl : c_47 (i + 1) = (A (i + 1), zO 7 [.ref ((kG κ).2.2.1 (128 + X (i + 1))), va_rf (if i + 1 + 1 < n then some (A (i + 1 + 1)) else none), va_rf (if 0 < i then some (A (i - 1)) else none)]))
    have g3 : (.ref (A (i + 1)) : Value) = va_rf (fstO (n - 1) (skp A i)) := by rw [skp_fst (by omega) (by omega), if_pos (by omega)]; rw [show i + 1 = 1 from by omega]; try rfl
    have g4 : (va_rf (lstO n A) : Value) = va_rf (lstO (n - 1) (skp A i)) := by rw [skp_lst (by omega) (by omega), if_neg (by omega), lstO_p (by omega)]
    refine z_sub (ws' := [(ls, zO 6 [.int (iZ ((mc + 1 : Nat) : Int)), .int (iZ ((n - 1 : Nat) : Int)), va_rf (fstO (n - 1) (skp A i)), va_rf (lstO (n - 1) (skp A i))])] ++ nds (n - 1) (ndC (kG κ) (n - 1) (skp A i) (skp X i))) ((zSub.appR (nd_gone (c := c_47) (by omega) g0 (fun q_ => absurd q_ (by omega)) g2)).trans (zSub.eq (by rw [← g3, ← g4]))) ?_
    exact z_aret hk hR_ () dJ14_unlink_90 rfl (Or.inl ⟨_, rfl⟩) rfl (by trivial) (zSub.app (zSub.ix [0] rfl))
  · skip
    have e_50 : (ndC (kG κ) n A X) i = (A i, zO 7 [.ref ((kG κ).2.2.1 (128 + X i)), .null, .null]) := ndC_at (if_neg (by omega)) (if_neg (by omega))
    refine z_aload_n hk dJ14_unlink_0 1 rfl (kk := ?_)
    refine z_get hk in_J16 (1 + i) 0 q409 dJ14_unlink_1 (ndx_get (E := [(ls, zO 6 [.int (iZ ((mc : Nat) : Int)), .int (iZ ((n : Nat) : Int)), va_rf (fstO n A), va_rf (lstO n A)])]) rfl (by omega) e_50) rfl (kk := ?_)
    refine z_astore_n hk [(2, .ref ((kG κ).2.2.1 (128 + X i))), (0, .ref ls), (1, .ref (A i))] dJ14_unlink_4 (kk := ?_)
    refine z_aload_n hk dJ14_unlink_5 2 rfl (kk := ?_)
    refine z_get hk in_J16 (1 + i) 1 q412 dJ14_unlink_6 (ndx_get (E := [(ls, zO 6 [.int (iZ ((mc : Nat) : Int)), .int (iZ ((n : Nat) : Int)), va_rf (fstO n A), va_rf (lstO n A)])]) rfl (by omega) e_50) rfl (kk := ?_)
    refine z_astore_nN hk [(3, .null), (2, .ref ((kG κ).2.2.1 (128 + X i))), (0, .ref ls), (1, .ref (A i))] dJ14_unlink_9 (kk := ?_)
    refine z_aload_n hk dJ14_unlink_10 3 rfl (kk := ?_)
    refine z_get hk in_J16 (1 + i) 2 q414 dJ14_unlink_11 (ndx_get (E := [(ls, zO 6 [.int (iZ ((mc : Nat) : Int)), .int (iZ ((n : Nat) : Int)), va_rf (fstO n A), va_rf (lstO n A)])]) rfl (by omega) e_50) rfl (kk := ?_)
    refine z_astoreN hk [(4, .null), (3, .null), (2, .ref ((kG κ).2.2.1 (128 + X i))), (0, .ref ls), (1, .ref (A i))] dJ14_unlink_14 (kk := ?_)
    refine z_aloadN hk dJ14_unlink_16 0 rfl (kk := ?_)
    refine z_ifnonnullN hk dJ14_unlink_18 (kk := ?_)
    refine z_aload_n hk dJ14_unlink_21 3 rfl (kk := ?_)
    refine z_aload_nN hk dJ14_unlink_22 1 rfl (kk := ?_)
    refine z_put hk in_J14 tyJ14 tyJ14_ok nmJ14 0 2 ([(ls, zO 6 [.int (iZ ((mc : Nat) : Int)), .int (iZ ((n : Nat) : Int)), .null, va_rf (lstO n A)])] ++ nds n (ndC (kG κ) n A X)) q357 dJ14_unlink_23 rfl (kk := ?_)
    refine z_goto hk 40 dJ14_unlink_26 (kk := ?_)
    refine z_aload_nN hk dJ14_unlink_40 1 rfl (kk := ?_)
    refine z_ifnonnullN hk dJ14_unlink_41 (kk := ?_)
    refine z_aload_n hk dJ14_unlink_44 3 rfl (kk := ?_)
    refine z_aloadN hk dJ14_unlink_45 0 rfl (kk := ?_)
    refine z_put hk in_J14 tyJ14 tyJ14_ok nmJ14 0 3 ([(ls, zO 6 [.int (iZ ((mc : Nat) : Int)), .int (iZ ((n : Nat) : Int)), .null, .null])] ++ nds n (ndC (kG κ) n A X)) q358 dJ14_unlink_47 rfl (kk := ?_)
    refine z_goto hk 64 dJ14_unlink_50 (kk := ?_)
    refine z_aload_n hk dJ14_unlink_64 4 rfl (kk := ?_)
    refine z_null hk dJ14_unlink_65 (kk := ?_)
    refine z_put hk in_J16 tyJ16 tyJ16_ok nmJ16 (1 + i) 0 ([(ls, zO 6 [.int (iZ ((mc : Nat) : Int)), .int (iZ ((n : Nat) : Int)), .null, .null])] ++ nds n (ups (ndC (kG κ) n A X) i (A i, zO 7 [.null, .null, .null]))) q409 dJ14_unlink_66 (ndx_get (E := [(ls, zO 6 [.int (iZ ((mc : Nat) : Int)), .int (iZ ((n : Nat) : Int)), .null, .null])]) rfl (by omega) e_50) (hw := ndx_set rfl) (kk := ?_)
    obtain ⟨c_51, hc_51⟩ : ∃ z_, z_ = ups (ndC (kG κ) n A X) i (A i, zO 7 [.null, .null, .null]) := ⟨_, rfl⟩
    rw [← hc_51]
    have nc_51 : ∀ j_, j_ ≠ i → c_51 j_ = (ndC (kG κ) n A X) j_ := fun j_ hj_ => by rw [hc_51]; exact ups_ne hj_ rfl
    have e_52 : c_51 i = (A i, zO 7 [.null, .null, .null]) := by rw [hc_51]; exact ups_eq
    refine z_aload_n hk dJ14_unlink_69 3 rfl (kk := ?_)
    refine z_dup hk dJ14_unlink_70 (kk := ?_)
    refine z_get hk in_J14 0 1 q355 dJ14_unlink_71 rfl rfl (kk := ?_)
    refine z_iconst (z := ((1 : Nat) : Int)) hk dJ14_unlink_74 (kk := ?_)
    refine z_isub (z := (((n - 1) : Nat) : Int)) hk dJ14_unlink_75 (by omega) (kk := ?_)
    refine z_put hk in_J14 tyJ14 tyJ14_ok nmJ14 0 1 ([(ls, zO 6 [.int (iZ ((mc : Nat) : Int)), .int (iZ (((n - 1) : Nat) : Int)), .null, .null])] ++ nds n c_51) q355 dJ14_unlink_76 rfl (kk := ?_)
    refine z_aload_n hk dJ14_unlink_79 3 rfl (kk := ?_)
    refine z_dup hk dJ14_unlink_80 (kk := ?_)
    refine z_getM hk in_J14 0 0 q361 q363 dJ14_unlink_81 rfl rfl (kk := ?_)
    refine z_iconst (z := ((1 : Nat) : Int)) hk dJ14_unlink_84 (kk := ?_)
    refine z_iadd (z := ((mc + 1 : Nat) : Int)) hk dJ14_unlink_85 (Int.natCast_add _ _).symm (kk := ?_)
    refine z_putM hk in_J14 tyJ14 tyJ14_ok nmJ14 0 0 ([(ls, zO 6 [.int (iZ ((mc + 1 : Nat) : Int)), .int (iZ (((n - 1) : Nat) : Int)), .null, .null])] ++ nds n c_51) q361 q363 dJ14_unlink_86 rfl (kk := ?_)
    refine z_aload_n hk dJ14_unlink_89 2 rfl (kk := ?_)
    have g0 : ∀ j_, j_ < n → j_ + 1 ≠ i → j_ ≠ i → j_ ≠ i + 1 → c_51 j_ = ndC (kG κ) n A X j_ := fun j_ _ _ _ _ => by rw [nc_51 j_ (by omega)]
    have g3 : (.null : Value) = va_rf (fstO (n - 1) (skp A i)) := by rw [show n - 1 = 0 from by omega]; rfl
    have g4 : (.null : Value) = va_rf (lstO (n - 1) (skp A i)) := by rw [show n - 1 = 0 from by omega]; rfl
    refine z_sub (ws' := [(ls, zO 6 [.int (iZ ((mc + 1 : Nat) : Int)), .int (iZ ((n - 1 : Nat) : Int)), va_rf (fstO (n - 1) (skp A i)), va_rf (lstO (n - 1) (skp A i))])] ++ nds (n - 1) (ndC (kG κ) (n - 1) (skp A i) (skp X i))) ((zSub.appR (nd_gone (c := c_51) (by omega) g0 (fun q_ => absurd q_ (by omega)) (fun q_ => absurd q_ (by omega)))).trans (zSub.eq (by rw [← g3, ← g4]))) ?_
    exact z_aret hk hR_ () dJ14_unlink_90 rfl (Or.inl ⟨_, rfl⟩) rfl (by trivial) (zSub.app (zSub.ix [0] rfl))

set_option maxHeartbeats 600000 in
theorem ct_J14_unlinkFirst (l_ : Launch) (G : zG) (ls : Nat) (mc : Nat) (n : Nat) (A : Nat → Nat) (X : Nat → Nat) (hi : 1 ≤ n) (hn : n ≤ 1000) (hmc : mc ≤ 1000) :
    Ct l_ G yJ14_unlinkFirst cJ14_unlinkFirst 4 (some (.object "java/lang/Object")) 1 0 0 [.ref ls, .ref (A 0)] ([(ls, zO 6 [.int (iZ ((mc : Nat) : Int)), .int (iZ ((n : Nat) : Int)), va_rf (fstO n A), va_rf (lstO n A)])] ++ nds n (ndC G n A X))
      (fun _u : Unit => some (.ref (G.2.2.1 (128 + X 0)))) (fun _u : Unit => True) (fun _u : Unit => [(ls, zO 6 [.int (iZ ((mc + 1 : Nat) : Int)), .int (iZ ((n - 1 : Nat) : Int)), va_rf (fstO (n - 1) (skp A 0)), va_rf (lstO (n - 1) (skp A 0))])] ++ nds (n - 1) (ndC G (n - 1) (skp A 0) (skp X 0))) := by
  refine Ct.of (by decide) (Nat.le_of_ble_eq_true rfl) ?_
  intro κ hl_ hG_ hk hR_
  subst hl_
  subst hG_
  show Z κ 0 [(0, .ref ls), (1, .ref (A 0))] [] ([(ls, zO 6 [.int (iZ ((mc : Nat) : Int)), .int (iZ ((n : Nat) : Int)), va_rf (fstO n A), va_rf (lstO n A)])] ++ nds n (ndC (kG κ) n A X)) 0 0
  by_cases hn_ : 0 + 1 < n
  · skip
    have e_1 : (ndC (kG κ) n A X) 0 = (A 0, zO 7 [.ref ((kG κ).2.2.1 (128 + X 0)), .ref (A (0 + 1)), .null]) := ndC_at (if_pos (by omega)) (if_neg (by omega))
    have e_2 : (ndC (kG κ) n A X) (0 + 1) = (A (0 + 1), zO 7 [.ref ((kG κ).2.2.1 (128 + X (0 + 1))), va_rf (if 0 + 1 + 1 < n then some (A (0 + 1 + 1)) else none), .ref (A (0 + 1 - 1))]) := ndC_at rfl (if_pos (by omega))
    have e_3 : (ndC (kG κ) n A X) (0 + 1) = (A (0 + 1), zO 7 [.ref ((kG κ).2.2.1 (128 + X (0 + 1))), va_rf (if 0 + 1 + 1 < n then some (A (0 + 1 + 1)) else none), .ref (A 0)]) := e_2
    refine z_aload_n hk dJ14_unlinkFirst_0 1 rfl (kk := ?_)
    refine z_get hk in_J16 (1 + 0) 0 q409 dJ14_unlinkFirst_1 (ndx_get (E := [(ls, zO 6 [.int (iZ ((mc : Nat) : Int)), .int (iZ ((n : Nat) : Int)), va_rf (fstO n A), va_rf (lstO n A)])]) rfl (by omega) e_1) rfl (kk := ?_)
    refine z_astore_n hk [(2, .ref ((kG κ).2.2.1 (128 + X 0))), (0, .ref ls), (1, .ref (A 0))] dJ14_unlinkFirst_4 (kk := ?_)
    refine z_aload_n hk dJ14_unlinkFirst_5 2 rfl (kk := ?_)
    refine z_get hk in_J16 (1 + 0) 1 q412 dJ14_unlinkFirst_6 (ndx_get (E := [(ls, zO 6 [.int (iZ ((mc : Nat) : Int)), .int (iZ ((n : Nat) : Int)), va_rf (fstO n A), va_rf (lstO n A)])]) rfl (by omega) e_1) rfl (kk := ?_)
    refine z_astore_n hk [(3, .ref (A (0 + 1))), (2, .ref ((kG κ).2.2.1 (128 + X 0))), (0, .ref ls), (1, .ref (A 0))] dJ14_unlinkFirst_9 (kk := ?_)
    refine z_aload_n hk dJ14_unlinkFirst_10 3 rfl (kk := ?_)
    refine z_null hk dJ14_unlinkFirst_11 (kk := ?_)
    refine z_put hk in_J16 tyJ16 tyJ16_ok nmJ16 (1 + 0) 0 ([(ls, zO 6 [.int (iZ ((mc : Nat) : Int)), .int (iZ ((n : Nat) : Int)), va_rf (fstO n A), va_rf (lstO n A)])] ++ nds n (ups (ndC (kG κ) n A X) 0 (A 0, zO 7 [.null, .ref (A (0 + 1)), .null]))) q409 dJ14_unlinkFirst_12 (ndx_get (E := [(ls, zO 6 [.int (iZ ((mc : Nat) : Int)), .int (iZ ((n : Nat) : Int)), va_rf (fstO n A), va_rf (lstO n A)])]) rfl (by omega) e_1) (hw := ndx_set rfl) (kk := ?_)
    obtain ⟨c_4, hc_4⟩ : ∃ z_, z_ = ups (ndC (kG κ) n A X) 0 (A 0, zO 7 [.null, .ref (A (0 + 1)), .null]) := ⟨_, rfl⟩
    rw [← hc_4]
    have nc_4 : ∀ j_, j_ ≠ 0 → c_4 j_ = (ndC (kG κ) n A X) j_ := fun j_ hj_ => by rw [hc_4]; exact ups_ne hj_ rfl
    have e_5 : c_4 0 = (A 0, zO 7 [.null, .ref (A (0 + 1)), .null]) := by rw [hc_4]; exact ups_eq
    have e_6 : c_4 (0 + 1) = (A (0 + 1), zO 7 [.ref ((kG κ).2.2.1 (128 + X (0 + 1))), va_rf (if 0 + 1 + 1 < n then some (A (0 + 1 + 1)) else none), .ref (A 0)]) := by rw [hc_4]; exact ups_ne (by omega) e_3
    refine z_aload_n hk dJ14_unlinkFirst_15 3 rfl (kk := ?_)
    refine z_null hk dJ14_unlinkFirst_16 (kk := ?_)
    refine z_put hk in_J16 tyJ16 tyJ16_ok nmJ16 (1 + 0) 1 ([(ls, zO 6 [.int (iZ ((mc : Nat) : Int)), .int (iZ ((n : Nat) : Int)), va_rf (fstO n A), va_rf (lstO n A)])] ++ nds n (ups c_4 0 (A 0, zO 7 [.null, .null, .null]))) q412 dJ14_unlinkFirst_17 (ndx_get (E := [(ls, zO 6 [.int (iZ ((mc : Nat) : Int)), .int (iZ ((n : Nat) : Int)), va_rf (fstO n A), va_rf (lstO n A)])]) rfl (by omega) e_5) (hw := ndx_set rfl) (kk := ?_)
    obtain ⟨c_7, hc_7⟩ : ∃ z_, z_ = ups c_4 0 (A 0, zO 7 [.null, .null, .null]) := ⟨_, rfl⟩
    rw [← hc_7]
    have nc_7 : ∀ j_, j_ ≠ 0 → c_7 j_ = c_4 j_ := fun j_ hj_ => by rw [hc_7]; exact ups_ne hj_ rfl
    have e_8 : c_7 0 = (A 0, zO 7 [.null, .null, .null]) := by rw [hc_7]; exact ups_eq
    have e_9 : c_7 (0 + 1) = (A (0 + 1), zO 7 [.ref ((kG κ).2.2.1 (128 + X (0 + 1))), va_rf (if 0 + 1 + 1 < n then some (A (0 + 1 + 1)) else none), .ref (A 0)]) := by rw [hc_7]; exact ups_ne (by omega) e_6
    refine z_aload_n hk dJ14_unlinkFirst_20 2 rfl (kk := ?_)
    refine z_aload_n hk dJ14_unlinkFirst_21 0 rfl (kk := ?_)
    refine z_put hk in_J14 tyJ14 tyJ14_ok nmJ14 0 2 ([(ls, zO 6 [.int (iZ ((mc : Nat) : Int)), .int (iZ ((n : Nat) : Int)), .ref (A (0 + 1)), va_rf (lstO n A)])] ++ nds n c_7) q357 dJ14_unlinkFirst_22 rfl (kk := ?_)
    refine z_aload_n hk dJ14_unlinkFirst_25 0 rfl (kk := ?_)
    refine z_ifnonnull hk 37 dJ14_unlinkFirst_26 (kk := ?_)
    refine z_aload_n hk dJ14_unlinkFirst_37 0 rfl (kk := ?_)
    refine z_null hk dJ14_unlinkFirst_38 (kk := ?_)
    refine z_put hk in_J16 tyJ16 tyJ16_ok nmJ16 (1 + (0 + 1)) 2 ([(ls, zO 6 [.int (iZ ((mc : Nat) : Int)), .int (iZ ((n : Nat) : Int)), .ref (A (0 + 1)), va_rf (lstO n A)])] ++ nds n (ups c_7 (0 + 1) (A (0 + 1), zO 7 [.ref ((kG κ).2.2.1 (128 + X (0 + 1))), va_rf (if 0 + 1 + 1 < n then some (A (0 + 1 + 1)) else none), .null]))) q414 dJ14_unlinkFirst_39 (ndx_get (E := [(ls, zO 6 [.int (iZ ((mc : Nat) : Int)), .int (iZ ((n : Nat) : Int)), .ref (A (0 + 1)), va_rf (lstO n A)])]) rfl (by omega) e_9) (hw := ndx_set rfl) (kk := ?_)
    obtain ⟨c_10, hc_10⟩ : ∃ z_, z_ = ups c_7 (0 + 1) (A (0 + 1), zO 7 [.ref ((kG κ).2.2.1 (128 + X (0 + 1))), va_rf (if 0 + 1 + 1 < n then some (A (0 + 1 + 1)) else none), .null]) := ⟨_, rfl⟩
    rw [← hc_10]
    have nc_10 : ∀ j_, j_ ≠ 0 + 1 → c_10 j_ = c_7 j_ := fun j_ hj_ => by rw [hc_10]; exact ups_ne hj_ rfl
    have e_11 : c_10 0 = (A 0, zO 7 [.null, .null, .null]) := by rw [hc_10]; exact ups_ne (by omega) e_8
    have e_12 : c_10 (0 + 1) = (A (0 + 1), zO 7 [.ref ((kG κ).2.2.1 (128 + X (0 + 1))), va_rf (if 0 + 1 + 1 < n then some (A (0 + 1 + 1)) else none), .null]) := by rw [hc_10]; exact ups_eq
    refine z_aload_n hk dJ14_unlinkFirst_42 2 rfl (kk := ?_)
    refine z_dup hk dJ14_unlinkFirst_43 (kk := ?_)
    refine z_get hk in_J14 0 1 q355 dJ14_unlinkFirst_44 rfl rfl (kk := ?_)
    refine z_iconst (z := ((1 : Nat) : Int)) hk dJ14_unlinkFirst_47 (kk := ?_)
    refine z_isub (z := (((n - 1) : Nat) : Int)) hk dJ14_unlinkFirst_48 (by omega) (kk := ?_)
    refine z_put hk in_J14 tyJ14 tyJ14_ok nmJ14 0 1 ([(ls, zO 6 [.int (iZ ((mc : Nat) : Int)), .int (iZ (((n - 1) : Nat) : Int)), .ref (A (0 + 1)), va_rf (lstO n A)])] ++ nds n c_10) q355 dJ14_unlinkFirst_49 rfl (kk := ?_)
    refine z_aload_n hk dJ14_unlinkFirst_52 2 rfl (kk := ?_)
    refine z_dup hk dJ14_unlinkFirst_53 (kk := ?_)
    refine z_getM hk in_J14 0 0 q361 q363 dJ14_unlinkFirst_54 rfl rfl (kk := ?_)
    refine z_iconst (z := ((1 : Nat) : Int)) hk dJ14_unlinkFirst_57 (kk := ?_)
    refine z_iadd (z := ((mc + 1 : Nat) : Int)) hk dJ14_unlinkFirst_58 (Int.natCast_add _ _).symm (kk := ?_)
    refine z_putM hk in_J14 tyJ14 tyJ14_ok nmJ14 0 0 ([(ls, zO 6 [.int (iZ ((mc + 1 : Nat) : Int)), .int (iZ (((n - 1) : Nat) : Int)), .ref (A (0 + 1)), va_rf (lstO n A)])] ++ nds n c_10) q361 q363 dJ14_unlinkFirst_59 rfl (kk := ?_)
    refine z_aload_n hk dJ14_unlinkFirst_62 1 rfl (kk := ?_)
    have g0 : ∀ j_, j_ < n → j_ + 1 ≠ 0 → j_ ≠ 0 → j_ ≠ 0 + 1 → c_10 j_ = ndC (kG κ) n A X j_ := fun j_ _ _ _ _ => by rw [nc_10 j_ (by omega), nc_7 j_ (by omega), nc_4 j_ (by omega)]
    have g2 : 0 + 1 < n → c_10 (0 + 1) = _ := fun _ => (by rw [e_12, if_neg (show ¬ 0 < 0 by omega)]; rfl : c_10 (0 + 1) = (A (0 + 1), zO 7 [.ref ((kG κ).2.2.1 (128 + X (0 + 1))), va_rf (if 0 + 1 + 1 < n then some (A (0 + 1 + 1)) else none), va_rf (if 0 < 0 then some (A (0 - 1)) else none)]))
    have g3 : (.ref (A (0 + 1)) : Value) = va_rf (fstO (n - 1) (skp A 0)) := by rw [skp_fst (by omega) (by omega), if_pos (by omega)]; try rfl
    have g4 : (va_rf (lstO n A) : Value) = va_rf (lstO (n - 1) (skp A 0)) := by rw [skp_lst (by omega) (by omega), if_neg (by omega), lstO_p (by omega)]
    refine z_sub (ws' := [(ls, zO 6 [.int (iZ ((mc + 1 : Nat) : Int)), .int (iZ ((n - 1 : Nat) : Int)), va_rf (fstO (n - 1) (skp A 0)), va_rf (lstO (n - 1) (skp A 0))])] ++ nds (n - 1) (ndC (kG κ) (n - 1) (skp A 0) (skp X 0))) ((zSub.appR (nd_gone (c := c_10) (by omega) g0 (fun q_ => absurd q_ (by omega)) g2)).trans (zSub.eq (by rw [← g3, ← g4]))) ?_
    exact z_aret hk hR_ () dJ14_unlinkFirst_63 rfl (Or.inl ⟨_, rfl⟩) rfl (by trivial) (zSub.app (zSub.ix [0] rfl))
  · skip
    have e_13 : (ndC (kG κ) n A X) 0 = (A 0, zO 7 [.ref ((kG κ).2.2.1 (128 + X 0)), .null, .null]) := ndC_at (if_neg (by omega)) (if_neg (by omega))
    refine z_aload_n hk dJ14_unlinkFirst_0 1 rfl (kk := ?_)
    refine z_get hk in_J16 (1 + 0) 0 q409 dJ14_unlinkFirst_1 (ndx_get (E := [(ls, zO 6 [.int (iZ ((mc : Nat) : Int)), .int (iZ ((n : Nat) : Int)), va_rf (fstO n A), va_rf (lstO n A)])]) rfl (by omega) e_13) rfl (kk := ?_)
    refine z_astore_n hk [(2, .ref ((kG κ).2.2.1 (128 + X 0))), (0, .ref ls), (1, .ref (A 0))] dJ14_unlinkFirst_4 (kk := ?_)
    refine z_aload_n hk dJ14_unlinkFirst_5 2 rfl (kk := ?_)
    refine z_get hk in_J16 (1 + 0) 1 q412 dJ14_unlinkFirst_6 (ndx_get (E := [(ls, zO 6 [.int (iZ ((mc : Nat) : Int)), .int (iZ ((n : Nat) : Int)), va_rf (fstO n A), va_rf (lstO n A)])]) rfl (by omega) e_13) rfl (kk := ?_)
    refine z_astore_nN hk [(3, .null), (2, .ref ((kG κ).2.2.1 (128 + X 0))), (0, .ref ls), (1, .ref (A 0))] dJ14_unlinkFirst_9 (kk := ?_)
    refine z_aload_n hk dJ14_unlinkFirst_10 3 rfl (kk := ?_)
    refine z_null hk dJ14_unlinkFirst_11 (kk := ?_)
    refine z_put hk in_J16 tyJ16 tyJ16_ok nmJ16 (1 + 0) 0 ([(ls, zO 6 [.int (iZ ((mc : Nat) : Int)), .int (iZ ((n : Nat) : Int)), va_rf (fstO n A), va_rf (lstO n A)])] ++ nds n (ups (ndC (kG κ) n A X) 0 (A 0, zO 7 [.null, .null, .null]))) q409 dJ14_unlinkFirst_12 (ndx_get (E := [(ls, zO 6 [.int (iZ ((mc : Nat) : Int)), .int (iZ ((n : Nat) : Int)), va_rf (fstO n A), va_rf (lstO n A)])]) rfl (by omega) e_13) (hw := ndx_set rfl) (kk := ?_)
    obtain ⟨c_14, hc_14⟩ : ∃ z_, z_ = ups (ndC (kG κ) n A X) 0 (A 0, zO 7 [.null, .null, .null]) := ⟨_, rfl⟩
    rw [← hc_14]
    have nc_14 : ∀ j_, j_ ≠ 0 → c_14 j_ = (ndC (kG κ) n A X) j_ := fun j_ hj_ => by rw [hc_14]; exact ups_ne hj_ rfl
    have e_15 : c_14 0 = (A 0, zO 7 [.null, .null, .null]) := by rw [hc_14]; exact ups_eq
    refine z_aload_n hk dJ14_unlinkFirst_15 3 rfl (kk := ?_)
    refine z_null hk dJ14_unlinkFirst_16 (kk := ?_)
    refine z_put hk in_J16 tyJ16 tyJ16_ok nmJ16 (1 + 0) 1 ([(ls, zO 6 [.int (iZ ((mc : Nat) : Int)), .int (iZ ((n : Nat) : Int)), va_rf (fstO n A), va_rf (lstO n A)])] ++ nds n (ups c_14 0 (A 0, zO 7 [.null, .null, .null]))) q412 dJ14_unlinkFirst_17 (ndx_get (E := [(ls, zO 6 [.int (iZ ((mc : Nat) : Int)), .int (iZ ((n : Nat) : Int)), va_rf (fstO n A), va_rf (lstO n A)])]) rfl (by omega) e_15) (hw := ndx_set rfl) (kk := ?_)
    obtain ⟨c_16, hc_16⟩ : ∃ z_, z_ = ups c_14 0 (A 0, zO 7 [.null, .null, .null]) := ⟨_, rfl⟩
    rw [← hc_16]
    have nc_16 : ∀ j_, j_ ≠ 0 → c_16 j_ = c_14 j_ := fun j_ hj_ => by rw [hc_16]; exact ups_ne hj_ rfl
    have e_17 : c_16 0 = (A 0, zO 7 [.null, .null, .null]) := by rw [hc_16]; exact ups_eq
    refine z_aload_n hk dJ14_unlinkFirst_20 2 rfl (kk := ?_)
    refine z_aload_nN hk dJ14_unlinkFirst_21 0 rfl (kk := ?_)
    refine z_put hk in_J14 tyJ14 tyJ14_ok nmJ14 0 2 ([(ls, zO 6 [.int (iZ ((mc : Nat) : Int)), .int (iZ ((n : Nat) : Int)), .null, va_rf (lstO n A)])] ++ nds n c_16) q357 dJ14_unlinkFirst_22 rfl (kk := ?_)
    refine z_aload_nN hk dJ14_unlinkFirst_25 0 rfl (kk := ?_)
    refine z_ifnonnullN hk dJ14_unlinkFirst_26 (kk := ?_)
    refine z_aload_n hk dJ14_unlinkFirst_29 2 rfl (kk := ?_)
    refine z_null hk dJ14_unlinkFirst_30 (kk := ?_)
    refine z_put hk in_J14 tyJ14 tyJ14_ok nmJ14 0 3 ([(ls, zO 6 [.int (iZ ((mc : Nat) : Int)), .int (iZ ((n : Nat) : Int)), .null, .null])] ++ nds n c_16) q358 dJ14_unlinkFirst_31 rfl (kk := ?_)
    refine z_goto hk 42 dJ14_unlinkFirst_34 (kk := ?_)
    refine z_aload_n hk dJ14_unlinkFirst_42 2 rfl (kk := ?_)
    refine z_dup hk dJ14_unlinkFirst_43 (kk := ?_)
    refine z_get hk in_J14 0 1 q355 dJ14_unlinkFirst_44 rfl rfl (kk := ?_)
    refine z_iconst (z := ((1 : Nat) : Int)) hk dJ14_unlinkFirst_47 (kk := ?_)
    refine z_isub (z := (((n - 1) : Nat) : Int)) hk dJ14_unlinkFirst_48 (by omega) (kk := ?_)
    refine z_put hk in_J14 tyJ14 tyJ14_ok nmJ14 0 1 ([(ls, zO 6 [.int (iZ ((mc : Nat) : Int)), .int (iZ (((n - 1) : Nat) : Int)), .null, .null])] ++ nds n c_16) q355 dJ14_unlinkFirst_49 rfl (kk := ?_)
    refine z_aload_n hk dJ14_unlinkFirst_52 2 rfl (kk := ?_)
    refine z_dup hk dJ14_unlinkFirst_53 (kk := ?_)
    refine z_getM hk in_J14 0 0 q361 q363 dJ14_unlinkFirst_54 rfl rfl (kk := ?_)
    refine z_iconst (z := ((1 : Nat) : Int)) hk dJ14_unlinkFirst_57 (kk := ?_)
    refine z_iadd (z := ((mc + 1 : Nat) : Int)) hk dJ14_unlinkFirst_58 (Int.natCast_add _ _).symm (kk := ?_)
    refine z_putM hk in_J14 tyJ14 tyJ14_ok nmJ14 0 0 ([(ls, zO 6 [.int (iZ ((mc + 1 : Nat) : Int)), .int (iZ (((n - 1) : Nat) : Int)), .null, .null])] ++ nds n c_16) q361 q363 dJ14_unlinkFirst_59 rfl (kk := ?_)
    refine z_aload_n hk dJ14_unlinkFirst_62 1 rfl (kk := ?_)
    have g0 : ∀ j_, j_ < n → j_ + 1 ≠ 0 → j_ ≠ 0 → j_ ≠ 0 + 1 → c_16 j_ = ndC (kG κ) n A X j_ := fun j_ _ _ _ _ => by rw [nc_16 j_ (by omega), nc_14 j_ (by omega)]
    have g3 : (.null : Value) = va_rf (fstO (n - 1) (skp A 0)) := by rw [show n - 1 = 0 from by omega]; rfl
    have g4 : (.null : Value) = va_rf (lstO (n - 1) (skp A 0)) := by rw [show n - 1 = 0 from by omega]; rfl
    refine z_sub (ws' := [(ls, zO 6 [.int (iZ ((mc + 1 : Nat) : Int)), .int (iZ ((n - 1 : Nat) : Int)), va_rf (fstO (n - 1) (skp A 0)), va_rf (lstO (n - 1) (skp A 0))])] ++ nds (n - 1) (ndC (kG κ) (n - 1) (skp A 0) (skp X 0))) ((zSub.appR (nd_gone (c := c_16) (by omega) g0 (fun q_ => absurd q_ (by omega)) (fun q_ => absurd q_ (by omega)))).trans (zSub.eq (by rw [← g3, ← g4]))) ?_
    exact z_aret hk hR_ () dJ14_unlinkFirst_63 rfl (Or.inl ⟨_, rfl⟩) rfl (by trivial) (zSub.app (zSub.ix [0] rfl))

set_option maxHeartbeats 600000 in
theorem ct_J14_removeFirst (l_ : Launch) (G : zG) (ls : Nat) (mc : Nat) (n : Nat) (A : Nat → Nat) (X : Nat → Nat) (hi : 1 ≤ n) (hn : n ≤ 1000) (hmc : mc ≤ 1000) :
    Ct l_ G yJ14_removeFirst cJ14_removeFirst 2 (some (.object "java/lang/Object")) 2 0 0 [.ref ls] ([(ls, zO 6 [.int (iZ ((mc : Nat) : Int)), .int (iZ ((n : Nat) : Int)), va_rf (fstO n A), va_rf (lstO n A)])] ++ nds n (ndC G n A X))
      (fun _u : Unit => some (.ref (G.2.2.1 (128 + X 0)))) (fun _u : Unit => True) (fun _u : Unit => [(ls, zO 6 [.int (iZ ((mc + 1 : Nat) : Int)), .int (iZ ((n - 1 : Nat) : Int)), va_rf (fstO (n - 1) (skp A 0)), va_rf (lstO (n - 1) (skp A 0))])] ++ nds (n - 1) (ndC G (n - 1) (skp A 0) (skp X 0))) := by
  refine Ct.of (by decide) (Nat.le_of_ble_eq_true rfl) ?_
  intro κ hl_ hG_ hk hR_
  subst hl_
  subst hG_
  show Z κ 0 [(0, .ref ls)] [] ([(ls, zO 6 [.int (iZ ((mc : Nat) : Int)), .int (iZ ((n : Nat) : Int)), va_rf (fstO n A), va_rf (lstO n A)])] ++ nds n (ndC (kG κ) n A X)) 0 0
  refine z_aload_n hk dJ14_removeFirst_0 0 rfl (kk := ?_)
  refine z_get hk in_J14 0 2 q357 dJ14_removeFirst_1 rfl rfl (kk := ?_)
  refine z_stk (st' := [.ref (A 0)]) (by rw [fstO_p (by omega)]; rfl) ?_
  refine z_astore_n hk [(1, .ref (A 0)), (0, .ref ls)] dJ14_removeFirst_4 (kk := ?_)
  refine z_aload_n hk dJ14_removeFirst_5 0 rfl (kk := ?_)
  refine z_ifnonnull hk 17 dJ14_removeFirst_6 (kk := ?_)
  refine z_aload_n hk dJ14_removeFirst_17 1 rfl (kk := ?_)
  refine z_aload_n hk dJ14_removeFirst_18 0 rfl (kk := ?_)
  refine z_callV hk [.ref (A 0)] 1 [] (ct_J14_unlinkFirst (kL κ) (kG κ) ls mc n A X (by first | assumption | omega) (by first | assumption | omega) (by first | assumption | omega)) q970 q972 qs11 q74 q973 ((zSub.app (zSub.ix [0] (ws' := [(ls, zO 6 [.int (iZ ((mc : Nat) : Int)), .int (iZ ((n : Nat) : Int)), va_rf (fstO n A), va_rf (lstO n A)])] ++ []) rfl)).trans zSub.mid) 0 6 rfl dJ14_removeFirst_19 rfl (kk := fun _ _ => ?_)
  refine z_sub zSub.mid ?_
  show Z κ 22 [(1, .ref (A 0)), (0, .ref ls)] [.ref ((kG κ).2.2.1 (128 + X 0))] ([(ls, zO 6 [.int (iZ ((mc + 1 : Nat) : Int)), .int (iZ ((n - 1 : Nat) : Int)), va_rf (fstO (n - 1) (skp A 0)), va_rf (lstO (n - 1) (skp A 0))])] ++ nds (n - 1) (ndC (kG κ) (n - 1) (skp A 0) (skp X 0))) 0 0
  exact z_aret hk hR_ () dJ14_removeFirst_22 rfl (Or.inl ⟨_, rfl⟩) rfl (by trivial) (zSub.app (zSub.ix [0] rfl))

set_option maxHeartbeats 600000 in
theorem ct_J14_getFirst (l_ : Launch) (G : zG) (ls : Nat) (mc : Nat) (n : Nat) (A : Nat → Nat) (X : Nat → Nat) (hi : 1 ≤ n) :
    Ct l_ G yJ14_getFirst cJ14_getFirst 2 (some (.object "java/lang/Object")) 1 0 0 [.ref ls] ([(ls, zO 6 [.int (iZ ((mc : Nat) : Int)), .int (iZ ((n : Nat) : Int)), va_rf (fstO n A), va_rf (lstO n A)])] ++ nds n (ndC G n A X))
      (fun _u : Unit => some (.ref (G.2.2.1 (128 + X 0)))) (fun _u : Unit => True) (fun _u : Unit => [(ls, zO 6 [.int (iZ ((mc : Nat) : Int)), .int (iZ ((n : Nat) : Int)), va_rf (fstO n A), va_rf (lstO n A)])] ++ nds n (ndC G n A X)) := by
  refine Ct.of (by decide) (Nat.le_of_ble_eq_true rfl) ?_
  intro κ hl_ hG_ hk hR_
  subst hl_
  subst hG_
  show Z κ 0 [(0, .ref ls)] [] ([(ls, zO 6 [.int (iZ ((mc : Nat) : Int)), .int (iZ ((n : Nat) : Int)), va_rf (fstO n A), va_rf (lstO n A)])] ++ nds n (ndC (kG κ) n A X)) 0 0
  have e_1 : (ndC (kG κ) n A X) 0 = (A 0, zO 7 [.ref ((kG κ).2.2.1 (128 + X 0)), va_rf (if 0 + 1 < n then some (A (0 + 1)) else none), va_rf (if 0 < 0 then some (A (0 - 1)) else none)]) := ndC_at rfl rfl
  refine z_aload_n hk dJ14_getFirst_0 0 rfl (kk := ?_)
  refine z_get hk in_J14 0 2 q357 dJ14_getFirst_1 rfl rfl (kk := ?_)
  refine z_stk (st' := [.ref (A 0)]) (by rw [fstO_p (by omega)]; rfl) ?_
  refine z_astore_n hk [(1, .ref (A 0)), (0, .ref ls)] dJ14_getFirst_4 (kk := ?_)
  refine z_aload_n hk dJ14_getFirst_5 0 rfl (kk := ?_)
  refine z_ifnonnull hk 17 dJ14_getFirst_6 (kk := ?_)
  refine z_aload_n hk dJ14_getFirst_17 0 rfl (kk := ?_)
  refine z_get hk in_J16 (1 + 0) 0 q409 dJ14_getFirst_18 (ndx_get (E := [(ls, zO 6 [.int (iZ ((mc : Nat) : Int)), .int (iZ ((n : Nat) : Int)), va_rf (fstO n A), va_rf (lstO n A)])]) rfl (by omega) e_1) rfl (kk := ?_)
  exact z_aret hk hR_ () dJ14_getFirst_21 rfl (Or.inl ⟨_, rfl⟩) rfl (by trivial) (zSub.app (zSub.ix [0] rfl))

set_option maxHeartbeats 600000 in
theorem ct_J14_size (l_ : Launch) (G : zG) (ls : Nat) (mc : Nat) (n : Nat) (A : Nat → Nat) (X : Nat → Nat) :
    Ct l_ G yJ14_size cJ14_size 1 (some .int) 1 0 0 [.ref ls] ([(ls, zO 6 [.int (iZ ((mc : Nat) : Int)), .int (iZ ((n : Nat) : Int)), va_rf (fstO n A), va_rf (lstO n A)])])
      (fun _u : Unit => some (.int (iZ ((n : Nat) : Int)))) (fun _u : Unit => True) (fun _u : Unit => [(ls, zO 6 [.int (iZ ((mc : Nat) : Int)), .int (iZ ((n : Nat) : Int)), va_rf (fstO n A), va_rf (lstO n A)])]) := by
  refine Ct.of (by decide) (Nat.le_of_ble_eq_true rfl) ?_
  intro κ hl_ hG_ hk hR_
  subst hl_
  subst hG_
  show Z κ 0 [(0, .ref ls)] [] ([(ls, zO 6 [.int (iZ ((mc : Nat) : Int)), .int (iZ ((n : Nat) : Int)), va_rf (fstO n A), va_rf (lstO n A)])]) 0 0
  refine z_aload_n hk dJ14_size_0 0 rfl (kk := ?_)
  refine z_get hk in_J14 0 1 q355 dJ14_size_1 rfl rfl (kk := ?_)
  exact z_iret hk hR_ () dJ14_size_4 rfl rfl (by trivial) (zSub.ix [0] rfl)

set_option maxHeartbeats 600000 in
theorem ct_J1_isEmpty (l_ : Launch) (G : zG) (ls : Nat) (mc : Nat) (n : Nat) (A : Nat → Nat) (X : Nat → Nat) (hn : n ≤ 1000) :
    Ct l_ G yJ1_isEmpty cJ1_isEmpty 1 (some .boolean) 2 0 0 [.ref ls] ([(ls, zO 6 [.int (iZ ((mc : Nat) : Int)), .int (iZ ((n : Nat) : Int)), va_rf (fstO n A), va_rf (lstO n A)])])
      (fun u : Nat => some (.int (iZ ((u : Nat) : Int)))) (fun u : Nat => (n = 0 ∧ u = 1) ∨ (1 ≤ n ∧ u = 0)) (fun u : Nat => [(ls, zO 6 [.int (iZ ((mc : Nat) : Int)), .int (iZ ((n : Nat) : Int)), va_rf (fstO n A), va_rf (lstO n A)])]) := by
  refine Ct.of (by decide) (Nat.le_of_ble_eq_true rfl) ?_
  intro κ hl_ hG_ hk hR_
  subst hl_
  subst hG_
  show Z κ 0 [(0, .ref ls)] [] ([(ls, zO 6 [.int (iZ ((mc : Nat) : Int)), .int (iZ ((n : Nat) : Int)), va_rf (fstO n A), va_rf (lstO n A)])]) 0 0
  refine z_aload_n hk dJ1_isEmpty_0 0 rfl (kk := ?_)
  refine z_callU hk [] 0 [] ⟨"java/util/AbstractCollection", "size", "()I"⟩ "java/util/AbstractCollection" "java/util/LinkedList" (ct_J14_size (kL κ) (kG κ) ls mc n A X ) q959 q1520 q487 q1523 q489 q74 q490 (zSub.ix [0] rfl) 0 6 rfl dJ1_isEmpty_1 rfl (kk := fun _ _ => ?_)
  show Z κ 4 [(0, .ref ls)] [.int (iZ ((n : Nat) : Int))] ([(ls, zO 6 [.int (iZ ((mc : Nat) : Int)), .int (iZ ((n : Nat) : Int)), va_rf (fstO n A), va_rf (lstO n A)])]) 0 0
  refine z_if_ne hk 11 dJ1_isEmpty_4 (kt := fun h4 => ?_) (kf := fun h4 => ?_) 
  · skip
    refine z_iconst (z := ((0 : Nat) : Int)) hk dJ1_isEmpty_11 (kk := ?_)
    exact z_zret hk hR_ 0 (by omega) dJ1_isEmpty_12 rfl rfl (by first | assumption | omega) (zSub.ix [0] rfl)
  · skip
    refine z_iconst (z := ((1 : Nat) : Int)) hk dJ1_isEmpty_7 (kk := ?_)
    refine z_goto hk 12 dJ1_isEmpty_8 (kk := ?_)
    exact z_zret hk hR_ 1 (by omega) dJ1_isEmpty_12 rfl rfl (by first | assumption | omega) (zSub.ix [0] rfl)

set_option maxHeartbeats 600000 in
theorem ct_J14_node (l_ : Launch) (G : zG) (ls : Nat) (mc : Nat) (n : Nat) (A : Nat → Nat) (X : Nat → Nat) (hi : 1 ≤ n) (hn : n ≤ 1000) :
    Ct l_ G yJ14_node cJ14_node 4 (some (.object "java/util/LinkedList$Node")) 1 0 0 [.ref ls, .int (iZ ((0 : Nat) : Int))] ([(ls, zO 6 [.int (iZ ((mc : Nat) : Int)), .int (iZ ((n : Nat) : Int)), va_rf (fstO n A), va_rf (lstO n A)])] ++ nds n (ndC G n A X))
      (fun _u : Unit => some (.ref (A 0))) (fun _u : Unit => True) (fun _u : Unit => [(ls, zO 6 [.int (iZ ((mc : Nat) : Int)), .int (iZ ((n : Nat) : Int)), va_rf (fstO n A), va_rf (lstO n A)])] ++ nds n (ndC G n A X)) := by
  refine Ct.of (by decide) (Nat.le_of_ble_eq_true rfl) ?_
  intro κ hl_ hG_ hk hR_
  subst hl_
  subst hG_
  show Z κ 0 [(0, .ref ls), (1, .int (iZ ((0 : Nat) : Int)))] [] ([(ls, zO 6 [.int (iZ ((mc : Nat) : Int)), .int (iZ ((n : Nat) : Int)), va_rf (fstO n A), va_rf (lstO n A)])] ++ nds n (ndC (kG κ) n A X)) 0 0
  refine z_iload_n hk dJ14_node_0 1 rfl (kk := ?_)
  refine z_aload_n hk dJ14_node_1 0 rfl (kk := ?_)
  refine z_get hk in_J14 0 1 q355 dJ14_node_2 rfl rfl (kk := ?_)
  refine z_iconst (z := ((1 : Nat) : Int)) hk dJ14_node_5 (kk := ?_)
  refine z_ishr (v := iZ ((n / 2 : Nat) : Int)) hk dJ14_node_6 (by exact iZ_shr (l := 1) (by omega) (by decide)) (kk := ?_)
  refine z_icmp_ge hk 35 dJ14_node_7 (kt := fun h7 => ?_) (kf := fun h7 => ?_) 
  · skip
    refine z_aload_n hk dJ14_node_35 0 rfl (kk := ?_)
    refine z_get hk in_J14 0 3 q358 dJ14_node_36 rfl rfl (kk := ?_)
    refine z_stk (st' := [.ref (A 0)]) (by rw [lstO_p (by omega), show n - 1 = 0 from by omega]; rfl) ?_
    refine z_astore_n hk [(2, .ref (A 0)), (0, .ref ls), (1, .int (iZ ((0 : Nat) : Int)))] dJ14_node_39 (kk := ?_)
    refine z_aload_n hk dJ14_node_40 1 rfl (kk := ?_)
    refine z_get hk in_J14 0 1 q355 dJ14_node_41 rfl rfl (kk := ?_)
    refine z_iconst (z := ((1 : Nat) : Int)) hk dJ14_node_44 (kk := ?_)
    refine z_isub (z := ((0 : Nat) : Int)) hk dJ14_node_45 (by omega) (kk := ?_)
    refine z_istore_n hk [(3, .int (iZ ((0 : Nat) : Int))), (2, .ref (A 0)), (0, .ref ls), (1, .int (iZ ((0 : Nat) : Int)))] dJ14_node_46 (kk := ?_)
    refine z_iload_n hk dJ14_node_47 0 rfl (kk := ?_)
    refine z_iload_n hk dJ14_node_48 3 rfl (kk := ?_)
    refine z_icmp_le hk 63 dJ14_node_49 (kt := fun h49 => ?_) (kf := fun h49 => ?_) 
    · skip
      refine z_aload_n hk dJ14_node_63 1 rfl (kk := ?_)
      exact z_aret hk hR_ () dJ14_node_64 rfl (Or.inl ⟨_, rfl⟩) rfl (by trivial) (zSub.app (zSub.ix [0] rfl))
    · skip
      exfalso; omega
  · skip
    refine z_aload_n hk dJ14_node_10 0 rfl (kk := ?_)
    refine z_get hk in_J14 0 2 q357 dJ14_node_11 rfl rfl (kk := ?_)
    refine z_stk (st' := [.ref (A 0)]) (by rw [fstO_p (by omega)]; rfl) ?_
    refine z_astore_n hk [(2, .ref (A 0)), (0, .ref ls), (1, .int (iZ ((0 : Nat) : Int)))] dJ14_node_14 (kk := ?_)
    refine z_iconst (z := ((0 : Nat) : Int)) hk dJ14_node_15 (kk := ?_)
    refine z_istore_n hk [(3, .int (iZ ((0 : Nat) : Int))), (2, .ref (A 0)), (0, .ref ls), (1, .int (iZ ((0 : Nat) : Int)))] dJ14_node_16 (kk := ?_)
    refine z_iload_n hk dJ14_node_17 0 rfl (kk := ?_)
    refine z_iload_n hk dJ14_node_18 3 rfl (kk := ?_)
    refine z_icmp_ge hk 33 dJ14_node_19 (kt := fun h19 => ?_) (kf := fun h19 => ?_) 
    · skip
      refine z_aload_n hk dJ14_node_33 1 rfl (kk := ?_)
      exact z_aret hk hR_ () dJ14_node_34 rfl (Or.inl ⟨_, rfl⟩) rfl (by trivial) (zSub.app (zSub.ix [0] rfl))
    · skip
      exfalso; omega

set_option maxHeartbeats 600000 in
theorem ct_J14_isPositionIndex (l_ : Launch) (G : zG) (ls : Nat) (mc : Nat) (n : Nat) (A : Nat → Nat) (X : Nat → Nat) (hn : n ≤ 1000) :
    Ct l_ G yJ14_isPositionIndex cJ14_isPositionIndex 2 (some .boolean) 1 0 0 [.ref ls, .int (iZ ((0 : Nat) : Int))] ([(ls, zO 6 [.int (iZ ((mc : Nat) : Int)), .int (iZ ((n : Nat) : Int)), va_rf (fstO n A), va_rf (lstO n A)])])
      (fun _u : Unit => some (.int (iZ ((1 : Nat) : Int)))) (fun _u : Unit => True) (fun _u : Unit => [(ls, zO 6 [.int (iZ ((mc : Nat) : Int)), .int (iZ ((n : Nat) : Int)), va_rf (fstO n A), va_rf (lstO n A)])]) := by
  refine Ct.of (by decide) (Nat.le_of_ble_eq_true rfl) ?_
  intro κ hl_ hG_ hk hR_
  subst hl_
  subst hG_
  show Z κ 0 [(0, .ref ls), (1, .int (iZ ((0 : Nat) : Int)))] [] ([(ls, zO 6 [.int (iZ ((mc : Nat) : Int)), .int (iZ ((n : Nat) : Int)), va_rf (fstO n A), va_rf (lstO n A)])]) 0 0
  refine z_iload_n hk dJ14_isPositionIndex_0 1 rfl (kk := ?_)
  refine z_if_lt hk 16 dJ14_isPositionIndex_1 (kt := fun h1 => ?_) (kf := fun h1 => ?_) 
  · skip
    exfalso; omega
  · skip
    refine z_iload_n hk dJ14_isPositionIndex_4 1 rfl (kk := ?_)
    refine z_aload_n hk dJ14_isPositionIndex_5 0 rfl (kk := ?_)
    refine z_get hk in_J14 0 1 q355 dJ14_isPositionIndex_6 rfl rfl (kk := ?_)
    refine z_icmp_gt hk 16 dJ14_isPositionIndex_9 (kt := fun h9 => ?_) (kf := fun h9 => ?_) 
    · skip
      exfalso; omega
    · skip
      refine z_iconst (z := ((1 : Nat) : Int)) hk dJ14_isPositionIndex_12 (kk := ?_)
      refine z_goto hk 17 dJ14_isPositionIndex_13 (kk := ?_)
      exact z_zret hk hR_ () (by omega) dJ14_isPositionIndex_17 rfl rfl (by trivial) (zSub.ix [0] rfl)

set_option maxHeartbeats 600000 in
theorem ct_J14_checkPositionIndex (l_ : Launch) (G : zG) (ls : Nat) (mc : Nat) (n : Nat) (A : Nat → Nat) (X : Nat → Nat) (hn : n ≤ 1000) :
    Ct l_ G yJ14_checkPositionIndex cJ14_checkPositionIndex 2 none 2 0 0 [.ref ls, .int (iZ ((0 : Nat) : Int))] ([(ls, zO 6 [.int (iZ ((mc : Nat) : Int)), .int (iZ ((n : Nat) : Int)), va_rf (fstO n A), va_rf (lstO n A)])])
      (fun _u : Unit => none) (fun _u : Unit => True) (fun _u : Unit => [(ls, zO 6 [.int (iZ ((mc : Nat) : Int)), .int (iZ ((n : Nat) : Int)), va_rf (fstO n A), va_rf (lstO n A)])]) := by
  refine Ct.of (by decide) (Nat.le_of_ble_eq_true rfl) ?_
  intro κ hl_ hG_ hk hR_
  subst hl_
  subst hG_
  show Z κ 0 [(0, .ref ls), (1, .int (iZ ((0 : Nat) : Int)))] [] ([(ls, zO 6 [.int (iZ ((mc : Nat) : Int)), .int (iZ ((n : Nat) : Int)), va_rf (fstO n A), va_rf (lstO n A)])]) 0 0
  refine z_aload_n hk dJ14_checkPositionIndex_0 0 rfl (kk := ?_)
  refine z_iload_n hk dJ14_checkPositionIndex_1 1 rfl (kk := ?_)
  refine z_callV hk [.int (iZ ((0 : Nat) : Int))] 1 [] (ct_J14_isPositionIndex (kL κ) (kG κ) ls mc n A X (by first | assumption | omega)) q444 q446 qs7 q74 q447 (zSub.ix [0] rfl) 0 6 rfl dJ14_checkPositionIndex_2 rfl (kk := fun _ _ => ?_)
  show Z κ 5 [(0, .ref ls), (1, .int (iZ ((0 : Nat) : Int)))] [.int (iZ ((1 : Nat) : Int))] ([(ls, zO 6 [.int (iZ ((mc : Nat) : Int)), .int (iZ ((n : Nat) : Int)), va_rf (fstO n A), va_rf (lstO n A)])]) 0 0
  refine z_if_ne hk 21 dJ14_checkPositionIndex_5 (kt := fun h5 => ?_) (kf := fun h5 => ?_) 
  · skip
    exact z_vret hk hR_ () dJ14_checkPositionIndex_21 rfl rfl (by trivial) (zSub.ix [0] rfl)
  · skip
    exfalso; omega

set_option maxHeartbeats 600000 in
theorem ct_J18_init (l_ : Launch) (G : zG) (it : Nat) (ls : Nat) (mc : Nat) (n : Nat) (A : Nat → Nat) (X : Nat → Nat) (hi : 1 ≤ n) (hn : n ≤ 1000) (hmc : mc ≤ 1000) :
    Ct l_ G yJ18_init cJ18_init 3 none 2 0 0 [.ref it, .ref ls, .int (iZ ((0 : Nat) : Int))] ([(it, zO 8 [.null, .null, .int (iZ ((0 : Nat) : Int)), .int (iZ ((0 : Nat) : Int)), .null]), (ls, zO 6 [.int (iZ ((mc : Nat) : Int)), .int (iZ ((n : Nat) : Int)), va_rf (fstO n A), va_rf (lstO n A)])] ++ nds n (ndC G n A X))
      (fun _u : Unit => none) (fun _u : Unit => True) (fun _u : Unit => [(it, zO 8 [.null, .ref (A 0), .int (iZ ((0 : Nat) : Int)), .int (iZ ((mc : Nat) : Int)), .ref ls]), (ls, zO 6 [.int (iZ ((mc : Nat) : Int)), .int (iZ ((n : Nat) : Int)), va_rf (fstO n A), va_rf (lstO n A)])] ++ nds n (ndC G n A X)) := by
  refine Ct.of (by decide) (Nat.le_of_ble_eq_true rfl) ?_
  intro κ hl_ hG_ hk hR_
  subst hl_
  subst hG_
  show Z κ 0 [(0, .ref it), (1, .ref ls), (2, .int (iZ ((0 : Nat) : Int)))] [] ([(it, zO 8 [.null, .null, .int (iZ ((0 : Nat) : Int)), .int (iZ ((0 : Nat) : Int)), .null]), (ls, zO 6 [.int (iZ ((mc : Nat) : Int)), .int (iZ ((n : Nat) : Int)), va_rf (fstO n A), va_rf (lstO n A)])] ++ nds n (ndC (kG κ) n A X)) 0 0
  refine z_aload_n hk dJ18_init_0 0 rfl (kk := ?_)
  refine z_aload_n hk dJ18_init_1 1 rfl (kk := ?_)
  refine z_putF hk in_J18 tyJ18 tyJ18_ok nmJ18 0 4 ([(it, zO 8 [.null, .null, .int (iZ ((0 : Nat) : Int)), .int (iZ ((0 : Nat) : Int)), .ref ls]), (ls, zO 6 [.int (iZ ((mc : Nat) : Int)), .int (iZ ((n : Nat) : Int)), va_rf (fstO n A), va_rf (lstO n A)])] ++ nds n (ndC (kG κ) n A X)) q462 dJ18_init_2 rfl (kk := ?_)
  refine z_aload_n hk dJ18_init_5 0 rfl (kk := ?_)
  refine z_objInit hk q453 q102 q103 dJ18_init_6 (kk := ?_)
  refine z_aload_n hk dJ18_init_9 0 rfl (kk := ?_)
  refine z_aload_n hk dJ18_init_10 0 rfl (kk := ?_)
  refine z_get hk in_J18 0 4 q462 dJ18_init_11 rfl rfl (kk := ?_)
  refine z_getM hk in_J14 1 0 q361 q360 dJ18_init_14 rfl rfl (kk := ?_)
  refine z_put hk in_J18 tyJ18 tyJ18_ok nmJ18 0 3 ([(it, zO 8 [.null, .null, .int (iZ ((0 : Nat) : Int)), .int (iZ ((mc : Nat) : Int)), .ref ls]), (ls, zO 6 [.int (iZ ((mc : Nat) : Int)), .int (iZ ((n : Nat) : Int)), va_rf (fstO n A), va_rf (lstO n A)])] ++ nds n (ndC (kG κ) n A X)) q461 dJ18_init_17 rfl (kk := ?_)
  refine z_aload_n hk dJ18_init_20 0 rfl (kk := ?_)
  refine z_iload_n hk dJ18_init_21 2 rfl (kk := ?_)
  refine z_aload_n hk dJ18_init_22 1 rfl (kk := ?_)
  refine z_get hk in_J14 1 1 q356 dJ18_init_23 rfl rfl (kk := ?_)
  refine z_icmp_ne hk 33 dJ18_init_26 (kt := fun h26 => ?_) (kf := fun h26 => ?_) 
  · skip
    refine z_aload_n hk dJ18_init_33 1 rfl (kk := ?_)
    refine z_iload_n hk dJ18_init_34 2 rfl (kk := ?_)
    refine z_callV hk [.int (iZ ((0 : Nat) : Int))] 1 [(it, zO 8 [.null, .null, .int (iZ ((0 : Nat) : Int)), .int (iZ ((mc : Nat) : Int)), .ref ls])] (ct_J14_node (kL κ) (kG κ) ls mc n A X (by first | assumption | omega) (by first | assumption | omega)) q454 q455 q456 q74 q457 ((zSub.app (zSub.ix [1, 0] (ws' := [(ls, zO 6 [.int (iZ ((mc : Nat) : Int)), .int (iZ ((n : Nat) : Int)), va_rf (fstO n A), va_rf (lstO n A)])] ++ [(it, zO 8 [.null, .null, .int (iZ ((0 : Nat) : Int)), .int (iZ ((mc : Nat) : Int)), .ref ls])]) rfl)).trans zSub.mid) 0 6 rfl dJ18_init_35 rfl (kk := fun _ _ => ?_)
    refine z_sub zSub.mid ?_
    show Z κ 38 [(0, .ref it), (1, .ref ls), (2, .int (iZ ((0 : Nat) : Int)))] [.ref (A 0), .ref it] ([(ls, zO 6 [.int (iZ ((mc : Nat) : Int)), .int (iZ ((n : Nat) : Int)), va_rf (fstO n A), va_rf (lstO n A)]), (it, zO 8 [.null, .null, .int (iZ ((0 : Nat) : Int)), .int (iZ ((mc : Nat) : Int)), .ref ls])] ++ nds n (ndC (kG κ) n A X)) 0 0
    refine z_put hk in_J18 tyJ18 tyJ18_ok nmJ18 1 1 ([(ls, zO 6 [.int (iZ ((mc : Nat) : Int)), .int (iZ ((n : Nat) : Int)), va_rf (fstO n A), va_rf (lstO n A)]), (it, zO 8 [.null, .ref (A 0), .int (iZ ((0 : Nat) : Int)), .int (iZ ((mc : Nat) : Int)), .ref ls])] ++ nds n (ndC (kG κ) n A X)) q459 dJ18_init_38 rfl (kk := ?_)
    refine z_aload_n hk dJ18_init_41 0 rfl (kk := ?_)
    refine z_iload_n hk dJ18_init_42 2 rfl (kk := ?_)
    refine z_put hk in_J18 tyJ18 tyJ18_ok nmJ18 1 2 ([(ls, zO 6 [.int (iZ ((mc : Nat) : Int)), .int (iZ ((n : Nat) : Int)), va_rf (fstO n A), va_rf (lstO n A)]), (it, zO 8 [.null, .ref (A 0), .int (iZ ((0 : Nat) : Int)), .int (iZ ((mc : Nat) : Int)), .ref ls])] ++ nds n (ndC (kG κ) n A X)) q460 dJ18_init_43 rfl (kk := ?_)
    exact z_vret hk hR_ () dJ18_init_46 rfl rfl (by trivial) (zSub.app (zSub.ix [1, 0] rfl))
  · skip
    exfalso; omega

set_option maxHeartbeats 600000 in
theorem ct_J14_listIterator (l_ : Launch) (G : zG) (ls : Nat) (mc : Nat) (n : Nat) (A : Nat → Nat) (X : Nat → Nat) (hi : 1 ≤ n) (hn : n ≤ 1000) (hmc : mc ≤ 1000) :
    Ct l_ G yJ14_listIterator cJ14_listIterator 2 (some (.object "java/util/ListIterator")) 3 1 5 [.ref ls, .int (iZ ((0 : Nat) : Int))] ([(ls, zO 6 [.int (iZ ((mc : Nat) : Int)), .int (iZ ((n : Nat) : Int)), va_rf (fstO n A), va_rf (lstO n A)])] ++ nds n (ndC G n A X))
      (fun u : Nat => some (.ref u)) (fun u : Nat => True) (fun u : Nat => [(u, zO 8 [.null, .ref (A 0), .int (iZ ((0 : Nat) : Int)), .int (iZ ((mc : Nat) : Int)), .ref ls]), (ls, zO 6 [.int (iZ ((mc : Nat) : Int)), .int (iZ ((n : Nat) : Int)), va_rf (fstO n A), va_rf (lstO n A)])] ++ nds n (ndC G n A X)) := by
  refine Ct.of (by decide) (Nat.le_of_ble_eq_true rfl) ?_
  intro κ hl_ hG_ hk hR_
  subst hl_
  subst hG_
  show Z κ 0 [(0, .ref ls), (1, .int (iZ ((0 : Nat) : Int)))] [] ([(ls, zO 6 [.int (iZ ((mc : Nat) : Int)), .int (iZ ((n : Nat) : Int)), va_rf (fstO n A), va_rf (lstO n A)])] ++ nds n (ndC (kG κ) n A X)) 0 0
  refine z_aload_n hk dJ14_listIterator_0 0 rfl (kk := ?_)
  refine z_iload_n hk dJ14_listIterator_1 1 rfl (kk := ?_)
  refine z_callV hk [.int (iZ ((0 : Nat) : Int))] 1 ([] ++ nds n (ndC (kG κ) n A X)) (ct_J14_checkPositionIndex (kL κ) (kG κ) ls mc n A X (by first | assumption | omega)) q440 q442 qs6 q74 q443 (zSub.app (E' := [(ls, zO 6 [.int (iZ ((mc : Nat) : Int)), .int (iZ ((n : Nat) : Int)), va_rf (fstO n A), va_rf (lstO n A)])]) (T := nds n (ndC (kG κ) n A X)) (zSub.ix [0] rfl)) 0 6 rfl dJ14_listIterator_2 rfl (kk := fun _ _ => ?_)
  show Z κ 5 [(0, .ref ls), (1, .int (iZ ((0 : Nat) : Int)))] [] ([(ls, zO 6 [.int (iZ ((mc : Nat) : Int)), .int (iZ ((n : Nat) : Int)), va_rf (fstO n A), va_rf (lstO n A)])] ++ nds n (ndC (kG κ) n A X)) 0 0
  refine z_new (ci := 8) hk in_J18 tyJ18 tyJ18_ok [.null, .null, .int (iZ ((0 : Nat) : Int)), .int (iZ ((0 : Nat) : Int)), .null] q448 q449 q80 dJ14_listIterator_5 (fun j hj => by have hj2 : j = 0 ∨ j = 1 ∨ j = 2 ∨ j = 3 ∨ j = 4 := (by omega); rcases hj2 with rfl | rfl | rfl | rfl | rfl <;> rfl) (kk := fun q_2 => ?_)
  refine z_sub zSub.mid ?_
  show Z κ 8 [(0, .ref ls), (1, .int (iZ ((0 : Nat) : Int)))] [.ref q_2] ([(ls, zO 6 [.int (iZ ((mc : Nat) : Int)), .int (iZ ((n : Nat) : Int)), va_rf (fstO n A), va_rf (lstO n A)]), (q_2, zO 8 [.null, .null, .int (iZ ((0 : Nat) : Int)), .int (iZ ((0 : Nat) : Int)), .null])] ++ nds n (ndC (kG κ) n A X)) 1 5
  refine z_dup hk dJ14_listIterator_8 (kk := ?_)
  refine z_aload_n hk dJ14_listIterator_9 0 rfl (kk := ?_)
  refine z_iload_n hk dJ14_listIterator_10 1 rfl (kk := ?_)
  refine z_callI hk [.ref ls, .int (iZ ((0 : Nat) : Int))] 2 [] (ct_J18_init (kL κ) (kG κ) q_2 ls mc n A X (by first | assumption | omega) (by first | assumption | omega) (by first | assumption | omega)) q450 q451 q80 q452 ((zSub.app (zSub.ix [1, 0] (ws' := [(q_2, zO 8 [.null, .null, .int (iZ ((0 : Nat) : Int)), .int (iZ ((0 : Nat) : Int)), .null]), (ls, zO 6 [.int (iZ ((mc : Nat) : Int)), .int (iZ ((n : Nat) : Int)), va_rf (fstO n A), va_rf (lstO n A)])] ++ []) rfl)).trans zSub.mid) dJ14_listIterator_11 rfl (kk := fun _ _ => ?_)
  refine z_sub zSub.mid ?_
  show Z κ 14 [(0, .ref ls), (1, .int (iZ ((0 : Nat) : Int)))] [.ref q_2] ([(q_2, zO 8 [.null, .ref (A 0), .int (iZ ((0 : Nat) : Int)), .int (iZ ((mc : Nat) : Int)), .ref ls]), (ls, zO 6 [.int (iZ ((mc : Nat) : Int)), .int (iZ ((n : Nat) : Int)), va_rf (fstO n A), va_rf (lstO n A)])] ++ nds n (ndC (kG κ) n A X)) 1 5
  exact z_aret hk hR_ q_2 dJ14_listIterator_14 rfl (Or.inl ⟨_, rfl⟩) rfl (by trivial) (zSub.app (zSub.ix [0, 1] rfl))

set_option maxHeartbeats 600000 in
theorem ct_J12_listIterator (l_ : Launch) (G : zG) (ls : Nat) (mc : Nat) (n : Nat) (A : Nat → Nat) (X : Nat → Nat) (hi : 1 ≤ n) (hn : n ≤ 1000) (hmc : mc ≤ 1000) :
    Ct l_ G yJ12_listIterator cJ12_listIterator 1 (some (.object "java/util/ListIterator")) 4 1 5 [.ref ls] ([(ls, zO 6 [.int (iZ ((mc : Nat) : Int)), .int (iZ ((n : Nat) : Int)), va_rf (fstO n A), va_rf (lstO n A)])] ++ nds n (ndC G n A X))
      (fun u : Nat => some (.ref u)) (fun u : Nat => True) (fun u : Nat => [(u, zO 8 [.null, .ref (A 0), .int (iZ ((0 : Nat) : Int)), .int (iZ ((mc : Nat) : Int)), .ref ls]), (ls, zO 6 [.int (iZ ((mc : Nat) : Int)), .int (iZ ((n : Nat) : Int)), va_rf (fstO n A), va_rf (lstO n A)])] ++ nds n (ndC G n A X)) := by
  refine Ct.of (by decide) (Nat.le_of_ble_eq_true rfl) ?_
  intro κ hl_ hG_ hk hR_
  subst hl_
  subst hG_
  show Z κ 0 [(0, .ref ls)] [] ([(ls, zO 6 [.int (iZ ((mc : Nat) : Int)), .int (iZ ((n : Nat) : Int)), va_rf (fstO n A), va_rf (lstO n A)])] ++ nds n (ndC (kG κ) n A X)) 0 0
  refine z_aload_n hk dJ12_listIterator_0 0 rfl (kk := ?_)
  refine z_iconst (z := ((0 : Nat) : Int)) hk dJ12_listIterator_1 (kk := ?_)
  refine z_callU hk [.int (iZ ((0 : Nat) : Int))] 1 [] ⟨"java/util/AbstractList", "listIterator", "(I)Ljava/util/ListIterator;"⟩ "java/util/AbstractList" "java/util/LinkedList" (ct_J14_listIterator (kL κ) (kG κ) ls mc n A X (by first | assumption | omega) (by first | assumption | omega) (by first | assumption | omega)) q434 q436 q474 q437 q438 q74 q439 ((zSub.app (zSub.ix [0] (ws' := [(ls, zO 6 [.int (iZ ((mc : Nat) : Int)), .int (iZ ((n : Nat) : Int)), va_rf (fstO n A), va_rf (lstO n A)])] ++ []) rfl)).trans zSub.mid) 0 6 rfl dJ12_listIterator_2 rfl (kk := fun u_1 hu2 => ?_)
  obtain ⟨it_2, rfl⟩ : ∃ z_, z_ = u_1 := ⟨_, rfl⟩
  refine z_sub zSub.mid ?_
  show Z κ 5 [(0, .ref ls)] [.ref it_2] ([(it_2, zO 8 [.null, .ref (A 0), .int (iZ ((0 : Nat) : Int)), .int (iZ ((mc : Nat) : Int)), .ref ls]), (ls, zO 6 [.int (iZ ((mc : Nat) : Int)), .int (iZ ((n : Nat) : Int)), va_rf (fstO n A), va_rf (lstO n A)])] ++ nds n (ndC (kG κ) n A X)) 1 5
  exact z_aret hk hR_ it_2 dJ12_listIterator_5 rfl (Or.inl ⟨_, rfl⟩) rfl (by trivial) (zSub.app (zSub.ix [0, 1] rfl))

set_option maxHeartbeats 600000 in
theorem ct_J13_iterator (l_ : Launch) (G : zG) (ls : Nat) (mc : Nat) (n : Nat) (A : Nat → Nat) (X : Nat → Nat) (hi : 1 ≤ n) (hn : n ≤ 1000) (hmc : mc ≤ 1000) :
    Ct l_ G yJ13_iterator cJ13_iterator 1 (some (.object "java/util/Iterator")) 5 1 5 [.ref ls] ([(ls, zO 6 [.int (iZ ((mc : Nat) : Int)), .int (iZ ((n : Nat) : Int)), va_rf (fstO n A), va_rf (lstO n A)])] ++ nds n (ndC G n A X))
      (fun u : Nat => some (.ref u)) (fun u : Nat => True) (fun u : Nat => [(u, zO 8 [.null, .ref (A 0), .int (iZ ((0 : Nat) : Int)), .int (iZ ((mc : Nat) : Int)), .ref ls]), (ls, zO 6 [.int (iZ ((mc : Nat) : Int)), .int (iZ ((n : Nat) : Int)), va_rf (fstO n A), va_rf (lstO n A)])] ++ nds n (ndC G n A X)) := by
  refine Ct.of (by decide) (Nat.le_of_ble_eq_true rfl) ?_
  intro κ hl_ hG_ hk hR_
  subst hl_
  subst hG_
  show Z κ 0 [(0, .ref ls)] [] ([(ls, zO 6 [.int (iZ ((mc : Nat) : Int)), .int (iZ ((n : Nat) : Int)), va_rf (fstO n A), va_rf (lstO n A)])] ++ nds n (ndC (kG κ) n A X)) 0 0
  refine z_aload_n hk dJ13_iterator_0 0 rfl (kk := ?_)
  refine z_callU hk [] 0 [] ⟨"java/util/AbstractSequentialList", "listIterator", "()Ljava/util/ListIterator;"⟩ "java/util/AbstractList" "java/util/LinkedList" (ct_J12_listIterator (kL κ) (kG κ) ls mc n A X (by first | assumption | omega) (by first | assumption | omega) (by first | assumption | omega)) q428 q429 q430 q431 q432 q72 q433 ((zSub.app (zSub.ix [0] (ws' := [(ls, zO 6 [.int (iZ ((mc : Nat) : Int)), .int (iZ ((n : Nat) : Int)), va_rf (fstO n A), va_rf (lstO n A)])] ++ []) rfl)).trans zSub.mid) 0 6 rfl dJ13_iterator_1 rfl (kk := fun u_1 hu1 => ?_)
  obtain ⟨it_2, rfl⟩ : ∃ z_, z_ = u_1 := ⟨_, rfl⟩
  refine z_sub zSub.mid ?_
  show Z κ 4 [(0, .ref ls)] [.ref it_2] ([(it_2, zO 8 [.null, .ref (A 0), .int (iZ ((0 : Nat) : Int)), .int (iZ ((mc : Nat) : Int)), .ref ls]), (ls, zO 6 [.int (iZ ((mc : Nat) : Int)), .int (iZ ((n : Nat) : Int)), va_rf (fstO n A), va_rf (lstO n A)])] ++ nds n (ndC (kG κ) n A X)) 1 5
  exact z_aret hk hR_ it_2 dJ13_iterator_4 rfl (Or.inl ⟨_, rfl⟩) rfl (by trivial) (zSub.app (zSub.ix [0, 1] rfl))
