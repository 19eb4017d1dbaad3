/-! contracts, part jb -/
set_option maxRecDepth 100000
set_option maxHeartbeats 600000 in
theorem ct_J0_wordIndex (l_ : Launch) (G : zG) (i : Nat) (hi : i < 256) :
    Ct l_ G yJ0_wordIndex cJ0_wordIndex 1 (some .int) 1 0 0 [.int (iZ ((i : Nat) : Int))] ([])
      (fun _u : Unit => some (.int (iZ (((i / 64) : Nat) : Int)))) (fun _u : Unit => True) (fun _u : Unit => []) := by
  refine Ct.of (by decide) (Nat.le_of_ble_eq_true rfl) ?_
  intro κ hl_ hG_ hk hR_
  subst hl_
  subst hG_
  show Z κ 0 [(0, .int (iZ ((i : Nat) : Int)))] [] ([]) 0 0
  refine z_iload_n hk dJ0_wordIndex_0 0 rfl (kk := ?_)
  refine z_bipush (z := ((6 : Nat) : Int)) hk dJ0_wordIndex_1 (kk := ?_)
  refine z_ishr (v := iZ ((i / 64 : Nat) : Int)) hk dJ0_wordIndex_3 (by exact iZ_shr (l := 6) (by omega) (by decide)) (kk := ?_)
  exact z_iret hk hR_ () dJ0_wordIndex_4 rfl rfl (by trivial) (zSub.ix [] rfl)

set_option maxHeartbeats 600000 in
theorem ct_J0_checkInvariants (l_ : Launch) (G : zG) (b : Nat) (bw : Nat) (wu : Nat) :
    Ct l_ G yJ0_checkInvariants cJ0_checkInvariants 1 none 1 0 0 [.ref b] ([(b, zO 3 [.ref bw, .int (iZ ((wu : Nat) : Int)), .int (iZ ((1 : Nat) : Int))])])
      (fun _u : Unit => none) (fun _u : Unit => True) (fun _u : Unit => [(b, zO 3 [.ref bw, .int (iZ ((wu : Nat) : Int)), .int (iZ ((1 : Nat) : Int))])]) := by
  refine Ct.of (by decide) (Nat.le_of_ble_eq_true rfl) ?_
  intro κ hl_ hG_ hk hR_
  subst hl_
  subst hG_
  show Z κ 0 [(0, .ref b)] [] ([(b, zO 3 [.ref bw, .int (iZ ((wu : Nat) : Int)), .int (iZ ((1 : Nat) : Int))])]) 0 0
  refine z_getAD hk rfl q311 dJ0_checkInvariants_0 (kk := ?_)
  refine z_if_ne hk 37 dJ0_checkInvariants_3 (kt := fun h3 => ?_) (kf := fun h3 => ?_) 
  · skip
    refine z_getAD hk rfl q311 dJ0_checkInvariants_37 (kk := ?_)
    refine z_if_ne hk 70 dJ0_checkInvariants_40 (kt := fun h40 => ?_) (kf := fun h40 => ?_) 
    · skip
      refine z_getAD hk rfl q311 dJ0_checkInvariants_70 (kk := ?_)
      refine z_if_ne hk 110 dJ0_checkInvariants_73 (kt := fun h73 => ?_) (kf := fun h73 => ?_) 
      · skip
        exact z_vret hk hR_ () dJ0_checkInvariants_110 rfl rfl (by trivial) (zSub.ix [0] rfl)
      · skip
        exfalso; omega
    · skip
      exfalso; omega
  · skip
    exfalso; omega

set_option maxHeartbeats 600000 in
theorem ct_J0_ensureCapacity (l_ : Launch) (G : zG) (b : Nat) (bw : Nat) (wu : Nat) (nw : Nat) (lk : Nat → Nat) (r : Nat) (hI : bsI lk wu nw) (hr : r ≤ nw) :
    Ct l_ G yJ0_ensureCapacity cJ0_ensureCapacity 3 none 1 0 0 [.ref b, .int (iZ ((r : Nat) : Int))] ([(b, zO 3 [.ref bw, .int (iZ ((wu : Nat) : Int)), .int (iZ ((1 : Nat) : Int))]), (bw, zJ G nw (jW lk))])
      (fun _u : Unit => none) (fun _u : Unit => True) (fun _u : Unit => [(b, zO 3 [.ref bw, .int (iZ ((wu : Nat) : Int)), .int (iZ ((1 : Nat) : Int))]), (bw, zJ G nw (jW lk))]) := by
  refine Ct.of (by decide) (Nat.le_of_ble_eq_true rfl) ?_
  intro κ hl_ hG_ hk hR_
  subst hl_
  subst hG_
  show Z κ 0 [(0, .ref b), (1, .int (iZ ((r : Nat) : Int)))] [] ([(b, zO 3 [.ref bw, .int (iZ ((wu : Nat) : Int)), .int (iZ ((1 : Nat) : Int))]), (bw, zJ (kG κ) nw (jW lk))]) 0 0
  obtain ⟨hu, hnw, hlk, hz, ht⟩ := hI
  refine z_aload_n hk dJ0_ensureCapacity_0 0 rfl (kk := ?_)
  refine z_get hk in_J0 0 0 q123 dJ0_ensureCapacity_1 rfl rfl (kk := ?_)
  refine z_alen (n := nw) hk 1 1 dJ0_ensureCapacity_4 rfl (kk := ?_)
  refine z_iload_n hk dJ0_ensureCapacity_5 1 rfl (kk := ?_)
  refine z_icmp_ge hk 38 dJ0_ensureCapacity_6 (kt := fun h6 => ?_) (kf := fun h6 => ?_) 
  · skip
    exact z_vret hk hR_ () dJ0_ensureCapacity_38 rfl rfl (by trivial) (zSub.ix [0, 1] rfl)
  · skip
    exfalso; omega

set_option maxHeartbeats 600000 in
theorem ct_J0_expandTo (l_ : Launch) (G : zG) (b : Nat) (bw : Nat) (wu : Nat) (nw : Nat) (lk : Nat → Nat) (i : Nat) (hI : bsI lk wu nw) (hr : i < nw) :
    Ct l_ G yJ0_expandTo cJ0_expandTo 3 none 2 0 0 [.ref b, .int (iZ ((i : Nat) : Int))] ([(b, zO 3 [.ref bw, .int (iZ ((wu : Nat) : Int)), .int (iZ ((1 : Nat) : Int))]), (bw, zJ G nw (jW lk))])
      (fun u : Nat => none) (fun u : Nat => (wu < i + 1 ∧ u = i + 1) ∨ (i + 1 ≤ wu ∧ u = wu)) (fun u : Nat => [(b, zO 3 [.ref bw, .int (iZ ((u : Nat) : Int)), .int (iZ ((1 : Nat) : Int))]), (bw, zJ G nw (jW lk))]) := by
  refine Ct.of (by decide) (Nat.le_of_ble_eq_true rfl) ?_
  intro κ hl_ hG_ hk hR_
  subst hl_
  subst hG_
  show Z κ 0 [(0, .ref b), (1, .int (iZ ((i : Nat) : Int)))] [] ([(b, zO 3 [.ref bw, .int (iZ ((wu : Nat) : Int)), .int (iZ ((1 : Nat) : Int))]), (bw, zJ (kG κ) nw (jW lk))]) 0 0
  have hI0 := hI
  obtain ⟨hu, hnw, hlk, hz, ht⟩ := hI
  refine z_iload_n hk dJ0_expandTo_0 1 rfl (kk := ?_)
  refine z_iconst (z := ((1 : Nat) : Int)) hk dJ0_expandTo_1 (kk := ?_)
  refine z_iadd (z := ((i + 1 : Nat) : Int)) hk dJ0_expandTo_2 (Int.natCast_add _ _).symm (kk := ?_)
  refine z_istore_n hk [(2, .int (iZ ((i + 1 : Nat) : Int))), (0, .ref b), (1, .int (iZ ((i : Nat) : Int)))] dJ0_expandTo_3 (kk := ?_)
  refine z_aload_n hk dJ0_expandTo_4 1 rfl (kk := ?_)
  refine z_get hk in_J0 0 1 q124 dJ0_expandTo_5 rfl rfl (kk := ?_)
  refine z_iload_n hk dJ0_expandTo_8 0 rfl (kk := ?_)
  refine z_icmp_ge hk 22 dJ0_expandTo_9 (kt := fun h9 => ?_) (kf := fun h9 => ?_) 
  · skip
    exact z_vret hk hR_ wu dJ0_expandTo_22 rfl rfl (by first | assumption | omega) (zSub.ix [0, 1] rfl)
  · skip
    refine z_aload_n hk dJ0_expandTo_12 1 rfl (kk := ?_)
    refine z_iload_n hk dJ0_expandTo_13 0 rfl (kk := ?_)
    refine z_callV hk [.int (iZ ((i + 1 : Nat) : Int))] 1 [] (ct_J0_ensureCapacity (kL κ) (kG κ) b bw wu nw lk (i + 1) hI0 (by first | assumption | omega)) q284 q286 qs2 q58 q287 (zSub.ix [0, 1] rfl) 0 3 rfl dJ0_expandTo_14 rfl (kk := fun _ _ => ?_)
    show Z κ 17 [(2, .int (iZ ((i + 1 : Nat) : Int))), (0, .ref b), (1, .int (iZ ((i : Nat) : Int)))] [] ([(b, zO 3 [.ref bw, .int (iZ ((wu : Nat) : Int)), .int (iZ ((1 : Nat) : Int))]), (bw, zJ (kG κ) nw (jW lk))]) 0 0
    refine z_aload_n hk dJ0_expandTo_17 1 rfl (kk := ?_)
    refine z_iload_n hk dJ0_expandTo_18 0 rfl (kk := ?_)
    refine z_put hk in_J0 tyJ0 tyJ0_ok nmJ0 0 1 ([(b, zO 3 [.ref bw, .int (iZ ((i + 1 : Nat) : Int)), .int (iZ ((1 : Nat) : Int))]), (bw, zJ (kG κ) nw (jW lk))]) q124 dJ0_expandTo_19 rfl (kk := ?_)
    exact z_vret hk hR_ (i + 1) dJ0_expandTo_22 rfl rfl (by first | assumption | omega) (zSub.ix [0, 1] rfl)

set_option maxHeartbeats 600000 in
theorem ct_J0_set_2 (l_ : Launch) (G : zG) (b : Nat) (bw : Nat) (wu : Nat) (nw : Nat) (lk : Nat → Nat) (i : Nat) (hI : bsI lk wu nw) (hi : i < 64 * nw) :
    Ct l_ G yJ0_set_2 cJ0_set_2 3 none 3 0 0 [.ref b, .int (iZ ((i : Nat) : Int))] ([(b, zO 3 [.ref bw, .int (iZ ((wu : Nat) : Int)), .int (iZ ((1 : Nat) : Int))]), (bw, zJ G nw (jW lk))])
      (fun u : Nat => none) (fun u : Nat => bsI (va_up lk i 1) u nw) (fun u : Nat => [(b, zO 3 [.ref bw, .int (iZ ((u : Nat) : Int)), .int (iZ ((1 : Nat) : Int))]), (bw, zJ G nw (jW (va_up lk i 1)))]) := by
  refine Ct.of (by decide) (Nat.le_of_ble_eq_true rfl) ?_
  intro κ hl_ hG_ hk hR_
  subst hl_
  subst hG_
  show Z κ 0 [(0, .ref b), (1, .int (iZ ((i : Nat) : Int)))] [] ([(b, zO 3 [.ref bw, .int (iZ ((wu : Nat) : Int)), .int (iZ ((1 : Nat) : Int))]), (bw, zJ (kG κ) nw (jW lk))]) 0 0
  have hI0 := hI
  obtain ⟨hu, hnw, hlk, hz, ht⟩ := hI
  refine z_iload_n hk dJ0_set_2_0 1 rfl (kk := ?_)
  refine z_if_ge hk 31 dJ0_set_2_1 (kt := fun h1 => ?_) (kf := fun h1 => ?_) 
  · skip
    refine z_iload_n hk dJ0_set_2_31 1 rfl (kk := ?_)
    refine z_callS hk [.int (iZ ((i : Nat) : Int))] 1 [(b, zO 3 [.ref bw, .int (iZ ((wu : Nat) : Int)), .int (iZ ((1 : Nat) : Int))]), (bw, zJ (kG κ) nw (jW lk))] (ct_J0_wordIndex (kL κ) (kG κ) i (by omega)) q120 q121 q58 q122 (zSub.ix [0, 1] rfl) dJ0_set_2_32 rfl (kk := fun _ _ => ?_)
    show Z κ 35 [(0, .ref b), (1, .int (iZ ((i : Nat) : Int)))] [.int (iZ (((i / 64) : Nat) : Int))] ([(b, zO 3 [.ref bw, .int (iZ ((wu : Nat) : Int)), .int (iZ ((1 : Nat) : Int))]), (bw, zJ (kG κ) nw (jW lk))]) 0 0
    refine z_istore_n hk [(2, .int (iZ (((i / 64) : Nat) : Int))), (0, .ref b), (1, .int (iZ ((i : Nat) : Int)))] dJ0_set_2_35 (kk := ?_)
    refine z_aload_n hk dJ0_set_2_36 1 rfl (kk := ?_)
    refine z_iload_n hk dJ0_set_2_37 0 rfl (kk := ?_)
    refine z_callV hk [.int (iZ (((i / 64) : Nat) : Int))] 1 [] (ct_J0_expandTo (kL κ) (kG κ) b bw wu nw lk (i / 64) hI0 (by omega)) q280 q282 qs1 q58 q283 (zSub.ix [0, 1] rfl) 0 3 rfl dJ0_set_2_38 rfl (kk := fun u_2 hu38 => ?_)
    obtain ⟨u1_3, rfl⟩ : ∃ z_, z_ = u_2 := ⟨_, rfl⟩
    have hu38 : (wu < (i / 64) + 1 ∧ u1_3 = (i / 64) + 1) ∨ ((i / 64) + 1 ≤ wu ∧ u1_3 = wu) := hu38
    show Z κ 41 [(2, .int (iZ (((i / 64) : Nat) : Int))), (0, .ref b), (1, .int (iZ ((i : Nat) : Int)))] [] ([(b, zO 3 [.ref bw, .int (iZ ((u1_3 : Nat) : Int)), .int (iZ ((1 : Nat) : Int))]), (bw, zJ (kG κ) nw (jW lk))]) 0 0
    have hJ : bsI (va_up lk i 1) u1_3 nw := bsI_set hI0 hi hu38
    refine z_aload_n hk dJ0_set_2_41 1 rfl (kk := ?_)
    refine z_get hk in_J0 0 0 q123 dJ0_set_2_42 rfl rfl (kk := ?_)
    refine z_iload_n hk dJ0_set_2_45 0 rfl (kk := ?_)
    refine z_dup2 hk dJ0_set_2_46 (kk := ?_)
    refine z_lald (i := (i / 64)) hk 1 dJ0_set_2_47 rfl (kk := ?_) 
    refine z_lconst (v := jZ 1) hk dJ0_set_2_48 (by decide) (kk := ?_)
    refine z_iload_n hk dJ0_set_2_49 2 rfl (kk := ?_)
    refine z_lshl (v := (lN (2 ^ (i % 64)))) hk dJ0_set_2_50 (by exact jW_oneJ (by omega)) (kk := ?_)
    refine z_lor (v := (jW (va_up lk i 1) (i / 64))) hk dJ0_set_2_51 (by exact jW_set hlk i) (kk := ?_)
    refine z_last (i := (i / 64)) hk 1 ([(b, zO 3 [.ref bw, .int (iZ ((u1_3 : Nat) : Int)), .int (iZ ((1 : Nat) : Int))]), (bw, zJ (kG κ) nw (va_up (jW lk) (i / 64) (jW (va_up lk i 1) (i / 64))))]) dJ0_set_2_52 rfl (kk := ?_) 
    refine z_arrJ (g := (jW (va_up lk i 1))) (ws' := [(b, zO 3 [.ref bw, .int (iZ ((u1_3 : Nat) : Int)), .int (iZ ((1 : Nat) : Int))]), (bw, zJ (kG κ) nw (jW (va_up lk i 1)))]) 1 rfl (fun j_ hj_ => by exact jW_up _ rfl) rfl ?_
    refine z_aload_n hk dJ0_set_2_53 1 rfl (kk := ?_)
    refine z_callV hk [] 0 [(bw, zJ (kG κ) nw (jW (va_up lk i 1)))] (ct_J0_checkInvariants (kL κ) (kG κ) b bw u1_3 ) q307 q309 qs3 q58 q310 (zSub.ix [0, 1] rfl) 0 3 rfl dJ0_set_2_54 rfl (kk := fun _ _ => ?_)
    show Z κ 57 [(2, .int (iZ (((i / 64) : Nat) : Int))), (0, .ref b), (1, .int (iZ ((i : Nat) : Int)))] [] ([(b, zO 3 [.ref bw, .int (iZ ((u1_3 : Nat) : Int)), .int (iZ ((1 : Nat) : Int))]), (bw, zJ (kG κ) nw (jW (va_up lk i 1)))]) 0 0
    exact z_vret hk hR_ u1_3 dJ0_set_2_57 rfl rfl (by exact hJ) (zSub.ix [0, 1] rfl)
  · skip
    exfalso; omega

set_option maxHeartbeats 600000 in
theorem ct_J0_recalculateWordsInUse (l_ : Launch) (G : zG) (b : Nat) (bw : Nat) (wu : Nat) (nw : Nat) (lk : Nat → Nat) (hu : wu ≤ nw) (hnw : nw ≤ 4) (hlk : ∀ j, lk j ≤ 1) (hz : ∀ j, 64 * wu ≤ j → lk j = 0) :
    Ct l_ G yJ0_recalculateWordsInUse cJ0_recalculateWordsInUse 2 none 1 0 0 [.ref b] ([(b, zO 3 [.ref bw, .int (iZ ((wu : Nat) : Int)), .int (iZ ((1 : Nat) : Int))]), (bw, zJ G nw (jW lk))])
      (fun u : Nat => none) (fun u : Nat => bsI lk u nw) (fun u : Nat => [(b, zO 3 [.ref bw, .int (iZ ((u : Nat) : Int)), .int (iZ ((1 : Nat) : Int))]), (bw, zJ G nw (jW lk))]) := by
  refine Ct.of (by decide) (Nat.le_of_ble_eq_true rfl) ?_
  intro κ hl_ hG_ hk hR_
  subst hl_
  subst hG_
  show Z κ 0 [(0, .ref b)] [] ([(b, zO 3 [.ref bw, .int (iZ ((wu : Nat) : Int)), .int (iZ ((1 : Nat) : Int))]), (bw, zJ (kG κ) nw (jW lk))]) 0 0
  refine z_aload_n hk dJ0_recalculateWordsInUse_0 0 rfl (kk := ?_)
  refine z_get hk in_J0 0 1 q124 dJ0_recalculateWordsInUse_1 rfl rfl (kk := ?_)
  refine z_iconst (z := ((1 : Nat) : Int)) hk dJ0_recalculateWordsInUse_4 (kk := ?_)
  refine z_isub (z := ((wu : Nat) : Int) - ((1 : Nat) : Int)) hk dJ0_recalculateWordsInUse_5 (kk := ?_)
  refine z_istore_n hk [(1, .int (iZ (((wu : Nat) : Int) - ((1 : Nat) : Int)))), (0, .ref b)] dJ0_recalculateWordsInUse_6 (kk := ?_)
  have L7 : ∀ (f_ : Nat) (i : Int), (-1 ≤ i ∧ i + 1 ≤ (wu : Int)) → (∀ j : Nat, 64 * (i + 1) ≤ (j : Int) → lk j = 0) → (i + 1).toNat < f_ → Z κ 7 [(1, .int (iZ (i))), (0, .ref b)] [] ([(b, zO 3 [.ref bw, .int (iZ ((wu : Nat) : Int)), .int (iZ ((1 : Nat) : Int))]), (bw, zJ (kG κ) nw (jW lk))]) 0 0 := by
    intro f_
    induction f_ with
    | zero => intro i hi hzi hm_; exact absurd hm_ (Nat.not_lt_zero _)
    | succ f_ ih7 =>
      intro i hi hzi hm_
      refine z_iload_n hk dJ0_recalculateWordsInUse_7 0 rfl (kk := ?_)
      refine z_if_lt hk 31 dJ0_recalculateWordsInUse_8 (kt := fun h8 => ?_) (kf := fun h8 => ?_) 
      · skip
        refine z_aload_n hk dJ0_recalculateWordsInUse_31 1 rfl (kk := ?_)
        refine z_iload_n hk dJ0_recalculateWordsInUse_32 0 rfl (kk := ?_)
        refine z_iconst (z := ((1 : Nat) : Int)) hk dJ0_recalculateWordsInUse_33 (kk := ?_)
        refine z_iadd (z := i + ((1 : Nat) : Int)) hk dJ0_recalculateWordsInUse_34 (kk := ?_)
        refine z_topN ((i + 1).toNat) (by omega) ?_
        refine z_put hk in_J0 tyJ0 tyJ0_ok nmJ0 0 1 ([(b, zO 3 [.ref bw, .int (iZ (((i + 1).toNat : Nat) : Int)), .int (iZ ((1 : Nat) : Int))]), (bw, zJ (kG κ) nw (jW lk))]) q124 dJ0_recalculateWordsInUse_35 rfl (kk := ?_)
        exact z_vret hk hR_ ((i + 1).toNat) dJ0_recalculateWordsInUse_38 rfl rfl (by first | exact ⟨by omega, hnw, hlk, fun j hj => hzi j (by omega), fun h0 => by omega⟩ | exact ⟨by omega, hnw, hlk, fun j hj => hzi j (by omega), fun h0 h9 => h19 ((jW_cmp hlk _).mpr (by rw [show (i + 1).toNat - 1 = i.toNat from by omega] at h9; exact h9))⟩) (zSub.ix [0, 1] rfl)
      · skip
        refine z_aload_n hk dJ0_recalculateWordsInUse_11 1 rfl (kk := ?_)
        refine z_get hk in_J0 0 0 q123 dJ0_recalculateWordsInUse_12 rfl rfl (kk := ?_)
        refine z_iload_n hk dJ0_recalculateWordsInUse_15 0 rfl (kk := ?_)
        refine z_topN (i.toNat) (by omega) ?_
        refine z_lald (i := i.toNat) hk 1 dJ0_recalculateWordsInUse_16 rfl (kk := ?_) 
        refine z_lconst (v := jZ 0) hk dJ0_recalculateWordsInUse_17 (by decide) (kk := ?_)
        refine z_lcmpB hk dJ0_recalculateWordsInUse_18 (kk := ?_)
        refine z_ifeqB hk 25 dJ0_recalculateWordsInUse_19 (kt := fun h19 => ?_) (kf := fun h19 => ?_) 
        · skip
          refine z_iinc hk (z' := i - 1) [(1, .int (iZ (i - 1))), (0, .ref b)] dJ0_recalculateWordsInUse_25 0 rfl (kk := ?_)
          refine z_goto hk 7 dJ0_recalculateWordsInUse_28 (kk := ?_)
          exact ih7  (i - 1) (by first | assumption | omega) (by intro j hj; by_cases e : 64 * (i + 1) ≤ (j : Int); exact hzi j e; (have h9 := (jW_cmp hlk _).mp h19; have := bwR_zero' h9 (j - 64 * i.toNat) (by omega); rw [show 64 * i.toNat + (j - 64 * i.toNat) = j from by omega] at this; exact this)) (by omega)
        · skip
          refine z_goto hk 31 dJ0_recalculateWordsInUse_22 (kk := ?_)
          refine z_aload_n hk dJ0_recalculateWordsInUse_31 1 rfl (kk := ?_)
          refine z_iload_n hk dJ0_recalculateWordsInUse_32 0 rfl (kk := ?_)
          refine z_iconst (z := ((1 : Nat) : Int)) hk dJ0_recalculateWordsInUse_33 (kk := ?_)
          refine z_iadd (z := i + ((1 : Nat) : Int)) hk dJ0_recalculateWordsInUse_34 (kk := ?_)
          refine z_topN ((i + 1).toNat) (by omega) ?_
          refine z_put hk in_J0 tyJ0 tyJ0_ok nmJ0 0 1 ([(b, zO 3 [.ref bw, .int (iZ (((i + 1).toNat : Nat) : Int)), .int (iZ ((1 : Nat) : Int))]), (bw, zJ (kG κ) nw (jW lk))]) q124 dJ0_recalculateWordsInUse_35 rfl (kk := ?_)
          exact z_vret hk hR_ ((i + 1).toNat) dJ0_recalculateWordsInUse_38 rfl rfl (by first | exact ⟨by omega, hnw, hlk, fun j hj => hzi j (by omega), fun h0 => by omega⟩ | exact ⟨by omega, hnw, hlk, fun j hj => hzi j (by omega), fun h0 h9 => h19 ((jW_cmp hlk _).mpr (by rw [show (i + 1).toNat - 1 = i.toNat from by omega] at h9; exact h9))⟩) (zSub.ix [0, 1] rfl)
  exact L7 (((((wu : Nat) : Int) - ((1 : Nat) : Int)) + 1).toNat + 1) (((wu : Nat) : Int) - ((1 : Nat) : Int)) (by first | assumption | omega) (by intro j hj; exact hz j (by omega)) (Nat.lt_succ_self _)

set_option maxHeartbeats 600000 in
theorem ct_J0_clear (l_ : Launch) (G : zG) (b : Nat) (bw : Nat) (wu : Nat) (nw : Nat) (lk : Nat → Nat) (i : Nat) (hI : bsI lk wu nw) (hi : i < 64 * nw) :
    Ct l_ G yJ0_clear cJ0_clear 3 none 3 0 0 [.ref b, .int (iZ ((i : Nat) : Int))] ([(b, zO 3 [.ref bw, .int (iZ ((wu : Nat) : Int)), .int (iZ ((1 : Nat) : Int))]), (bw, zJ G nw (jW lk))])
      (fun u : Nat => none) (fun u : Nat => bsI (va_up lk i 0) u nw) (fun u : Nat => [(b, zO 3 [.ref bw, .int (iZ ((u : Nat) : Int)), .int (iZ ((1 : Nat) : Int))]), (bw, zJ G nw (jW (va_up lk i 0)))]) := by
  refine Ct.of (by decide) (Nat.le_of_ble_eq_true rfl) ?_
  intro κ hl_ hG_ hk hR_
  subst hl_
  subst hG_
  show Z κ 0 [(0, .ref b), (1, .int (iZ ((i : Nat) : Int)))] [] ([(b, zO 3 [.ref bw, .int (iZ ((wu : Nat) : Int)), .int (iZ ((1 : Nat) : Int))]), (bw, zJ (kG κ) nw (jW lk))]) 0 0
  have hI0 := hI
  obtain ⟨hu, hnw, hlk, hz, ht⟩ := hI
  refine z_iload_n hk dJ0_clear_0 1 rfl (kk := ?_)
  refine z_if_ge hk 31 dJ0_clear_1 (kt := fun h1 => ?_) (kf := fun h1 => ?_) 
  · skip
    refine z_iload_n hk dJ0_clear_31 1 rfl (kk := ?_)
    refine z_callS hk [.int (iZ ((i : Nat) : Int))] 1 [(b, zO 3 [.ref bw, .int (iZ ((wu : Nat) : Int)), .int (iZ ((1 : Nat) : Int))]), (bw, zJ (kG κ) nw (jW lk))] (ct_J0_wordIndex (kL κ) (kG κ) i (by omega)) q120 q121 q58 q122 (zSub.ix [0, 1] rfl) dJ0_clear_32 rfl (kk := fun _ _ => ?_)
    show Z κ 35 [(0, .ref b), (1, .int (iZ ((i : Nat) : Int)))] [.int (iZ (((i / 64) : Nat) : Int))] ([(b, zO 3 [.ref bw, .int (iZ ((wu : Nat) : Int)), .int (iZ ((1 : Nat) : Int))]), (bw, zJ (kG κ) nw (jW lk))]) 0 0
    refine z_istore_n hk [(2, .int (iZ (((i / 64) : Nat) : Int))), (0, .ref b), (1, .int (iZ ((i : Nat) : Int)))] dJ0_clear_35 (kk := ?_)
    refine z_iload_n hk dJ0_clear_36 0 rfl (kk := ?_)
    refine z_aload_n hk dJ0_clear_37 1 rfl (kk := ?_)
    refine z_get hk in_J0 0 1 q124 dJ0_clear_38 rfl rfl (kk := ?_)
    refine z_icmp_lt hk 45 dJ0_clear_41 (kt := fun h41 => ?_) (kf := fun h41 => ?_) 
    · skip
      refine z_aload_n hk dJ0_clear_45 1 rfl (kk := ?_)
      refine z_get hk in_J0 0 0 q123 dJ0_clear_46 rfl rfl (kk := ?_)
      refine z_iload_n hk dJ0_clear_49 0 rfl (kk := ?_)
      refine z_dup2 hk dJ0_clear_50 (kk := ?_)
      refine z_lald (i := (i / 64)) hk 1 dJ0_clear_51 rfl (kk := ?_) 
      refine z_lconst (v := jZ 1) hk dJ0_clear_52 (by decide) (kk := ?_)
      refine z_iload_n hk dJ0_clear_53 2 rfl (kk := ?_)
      refine z_lshl (v := (lN (2 ^ (i % 64)))) hk dJ0_clear_54 (by exact jW_oneJ (by omega)) (kk := ?_)
      refine z_ldc2 hk q317 dJ0_clear_55 (kk := ?_)
      refine z_stk (st' := .long (jZ (-1)) :: [.long ((lN (2 ^ (i % 64)))), .long ((jW lk) (i / 64)), .int (iZ (((i / 64) : Nat) : Int)), .ref bw]) (by rfl) ?_
      refine z_lxor (v := (lN (2 ^ (i % 64)) ^^^ jZ (-1))) hk dJ0_clear_58 (by rfl) (kk := ?_)
      refine z_land (v := (jW (va_up lk i 0) (i / 64))) hk dJ0_clear_59 (by exact jW_clrJ hlk i) (kk := ?_)
      refine z_last (i := (i / 64)) hk 1 ([(b, zO 3 [.ref bw, .int (iZ ((wu : Nat) : Int)), .int (iZ ((1 : Nat) : Int))]), (bw, zJ (kG κ) nw (va_up (jW lk) (i / 64) (jW (va_up lk i 0) (i / 64))))]) dJ0_clear_60 rfl (kk := ?_) 
      refine z_arrJ (g := (jW (va_up lk i 0))) (ws' := [(b, zO 3 [.ref bw, .int (iZ ((wu : Nat) : Int)), .int (iZ ((1 : Nat) : Int))]), (bw, zJ (kG κ) nw (jW (va_up lk i 0)))]) 1 rfl (fun j_ hj_ => by exact jW_up _ rfl) rfl ?_
      refine z_aload_n hk dJ0_clear_61 1 rfl (kk := ?_)
      refine z_callV hk [] 0 [] (ct_J0_recalculateWordsInUse (kL κ) (kG κ) b bw wu nw (va_up lk i 0) (by first | assumption | omega) (by first | assumption | omega) (up_le1 hlk i (Nat.zero_le 1)) (fun j hj => by unfold va_up; rw [if_neg (by omega)]; exact hz j hj)) q318 q320 qs4 q58 q321 (zSub.ix [0, 1] rfl) 0 3 rfl dJ0_clear_62 rfl (kk := fun u_2 hu62 => ?_)
      obtain ⟨u1_3, rfl⟩ : ∃ z_, z_ = u_2 := ⟨_, rfl⟩
      have hu62 : bsI (va_up lk i 0) u1_3 nw := hu62
      show Z κ 65 [(2, .int (iZ (((i / 64) : Nat) : Int))), (0, .ref b), (1, .int (iZ ((i : Nat) : Int)))] [] ([(b, zO 3 [.ref bw, .int (iZ ((u1_3 : Nat) : Int)), .int (iZ ((1 : Nat) : Int))]), (bw, zJ (kG κ) nw (jW (va_up lk i 0)))]) 0 0
      refine z_aload_n hk dJ0_clear_65 1 rfl (kk := ?_)
      refine z_callV hk [] 0 [(bw, zJ (kG κ) nw (jW (va_up lk i 0)))] (ct_J0_checkInvariants (kL κ) (kG κ) b bw u1_3 ) q307 q309 qs3 q58 q310 (zSub.ix [0, 1] rfl) 0 3 rfl dJ0_clear_66 rfl (kk := fun _ _ => ?_)
      show Z κ 69 [(2, .int (iZ (((i / 64) : Nat) : Int))), (0, .ref b), (1, .int (iZ ((i : Nat) : Int)))] [] ([(b, zO 3 [.ref bw, .int (iZ ((u1_3 : Nat) : Int)), .int (iZ ((1 : Nat) : Int))]), (bw, zJ (kG κ) nw (jW (va_up lk i 0)))]) 0 0
      exact z_vret hk hR_ u1_3 dJ0_clear_69 rfl rfl (by exact hu62) (zSub.ix [0, 1] rfl)
    · skip
      obtain ⟨hJ, hE⟩ := bsI_clr0 hI0 (show wu ≤ i / 64 by omega)
      refine z_arrJ (g := (jW (va_up lk i 0))) (ws' := [(b, zO 3 [.ref bw, .int (iZ ((wu : Nat) : Int)), .int (iZ ((1 : Nat) : Int))]), (bw, zJ (kG κ) nw (jW (va_up lk i 0)))]) 1 rfl (fun j_ hj_ => by rw [hE]) rfl ?_
      exact z_vret hk hR_ wu dJ0_clear_44 rfl rfl (by exact hJ) (zSub.ix [0, 1] rfl)
  · skip
    exfalso; omega

set_option maxHeartbeats 600000 in
theorem ct_J0_set (l_ : Launch) (G : zG) (b : Nat) (bw : Nat) (wu : Nat) (nw : Nat) (lk : Nat → Nat) (i : Nat) (v : Nat) (hI : bsI lk wu nw) (hi : i < 64 * nw) (hv : v ≤ 1) :
    Ct l_ G yJ0_set cJ0_set 3 none 4 0 0 [.ref b, .int (iZ ((i : Nat) : Int)), .int (iZ ((v : Nat) : Int))] ([(b, zO 3 [.ref bw, .int (iZ ((wu : Nat) : Int)), .int (iZ ((1 : Nat) : Int))]), (bw, zJ G nw (jW lk))])
      (fun u : Nat => none) (fun u : Nat => bsI (va_up lk i v) u nw) (fun u : Nat => [(b, zO 3 [.ref bw, .int (iZ ((u : Nat) : Int)), .int (iZ ((1 : Nat) : Int))]), (bw, zJ G nw (jW (va_up lk i v)))]) := by
  refine Ct.of (by decide) (Nat.le_of_ble_eq_true rfl) ?_
  intro κ hl_ hG_ hk hR_
  subst hl_
  subst hG_
  show Z κ 0 [(0, .ref b), (1, .int (iZ ((i : Nat) : Int))), (2, .int (iZ ((v : Nat) : Int)))] [] ([(b, zO 3 [.ref bw, .int (iZ ((wu : Nat) : Int)), .int (iZ ((1 : Nat) : Int))]), (bw, zJ (kG κ) nw (jW lk))]) 0 0
  refine z_iload_n hk dJ0_set_0 2 rfl (kk := ?_)
  refine z_if_eq hk 12 dJ0_set_1 (kt := fun h1 => ?_) (kf := fun h1 => ?_) 
  · skip
    have hv0 : v = 0 := by omega
    refine z_aload_n hk dJ0_set_12 0 rfl (kk := ?_)
    refine z_iload_n hk dJ0_set_13 1 rfl (kk := ?_)
    refine z_callV hk [.int (iZ ((i : Nat) : Int))] 1 [] (ct_J0_clear (kL κ) (kG κ) b bw wu nw lk i (by first | assumption | omega) (by first | assumption | omega)) q313 q314 q315 q58 q316 (zSub.ix [0, 1] rfl) 0 3 rfl dJ0_set_14 rfl (kk := fun u_1 hu14 => ?_)
    obtain ⟨u1_2, rfl⟩ : ∃ z_, z_ = u_1 := ⟨_, rfl⟩
    have hu14 : bsI (va_up lk i 0) u1_2 nw := hu14
    show Z κ 17 [(0, .ref b), (1, .int (iZ ((i : Nat) : Int))), (2, .int (iZ ((v : Nat) : Int)))] [] ([(b, zO 3 [.ref bw, .int (iZ ((u1_2 : Nat) : Int)), .int (iZ ((1 : Nat) : Int))]), (bw, zJ (kG κ) nw (jW (va_up lk i 0)))]) 0 0
    refine z_arrJ (g := (jW (va_up lk i v))) (ws' := [(b, zO 3 [.ref bw, .int (iZ ((u1_2 : Nat) : Int)), .int (iZ ((1 : Nat) : Int))]), (bw, zJ (kG κ) nw (jW (va_up lk i v)))]) 1 rfl (fun j_ hj_ => by rw [hv0]) rfl ?_
    exact z_vret hk hR_ u1_2 dJ0_set_17 rfl rfl (by first | (rw [hv1]; exact hu6) | (rw [hv0]; exact hu14)) (zSub.ix [0, 1] rfl)
  · skip
    have hv1 : v = 1 := by omega
    refine z_aload_n hk dJ0_set_4 0 rfl (kk := ?_)
    refine z_iload_n hk dJ0_set_5 1 rfl (kk := ?_)
    refine z_callV hk [.int (iZ ((i : Nat) : Int))] 1 [] (ct_J0_set_2 (kL κ) (kG κ) b bw wu nw lk i (by first | assumption | omega) (by first | assumption | omega)) q276 q277 q278 q58 q279 (zSub.ix [0, 1] rfl) 0 3 rfl dJ0_set_6 rfl (kk := fun u_3 hu6 => ?_)
    obtain ⟨u1_4, rfl⟩ : ∃ z_, z_ = u_3 := ⟨_, rfl⟩
    have hu6 : bsI (va_up lk i 1) u1_4 nw := hu6
    show Z κ 9 [(0, .ref b), (1, .int (iZ ((i : Nat) : Int))), (2, .int (iZ ((v : Nat) : Int)))] [] ([(b, zO 3 [.ref bw, .int (iZ ((u1_4 : Nat) : Int)), .int (iZ ((1 : Nat) : Int))]), (bw, zJ (kG κ) nw (jW (va_up lk i 1)))]) 0 0
    refine z_arrJ (g := (jW (va_up lk i v))) (ws' := [(b, zO 3 [.ref bw, .int (iZ ((u1_4 : Nat) : Int)), .int (iZ ((1 : Nat) : Int))]), (bw, zJ (kG κ) nw (jW (va_up lk i v)))]) 1 rfl (fun j_ hj_ => by rw [hv1]) rfl ?_
    refine z_goto hk 17 dJ0_set_9 (kk := ?_)
    exact z_vret hk hR_ u1_4 dJ0_set_17 rfl rfl (by first | (rw [hv1]; exact hu6) | (rw [hv0]; exact hu14)) (zSub.ix [0, 1] rfl)

set_option maxHeartbeats 600000 in
theorem ct_J0_get (l_ : Launch) (G : zG) (b : Nat) (bw : Nat) (wu : Nat) (nw : Nat) (lk : Nat → Nat) (i : Nat) (hI : bsI lk wu nw) (hi : i < 64 * nw) :
    Ct l_ G yJ0_get cJ0_get 3 (some .boolean) 2 0 0 [.ref b, .int (iZ ((i : Nat) : Int))] ([(b, zO 3 [.ref bw, .int (iZ ((wu : Nat) : Int)), .int (iZ ((1 : Nat) : Int))]), (bw, zJ G nw (jW lk))])
      (fun _u : Unit => some (.int (iZ (((lk i) : Nat) : Int)))) (fun _u : Unit => True) (fun _u : Unit => [(b, zO 3 [.ref bw, .int (iZ ((wu : Nat) : Int)), .int (iZ ((1 : Nat) : Int))]), (bw, zJ G nw (jW lk))]) := by
  refine Ct.of (by decide) (Nat.le_of_ble_eq_true rfl) ?_
  intro κ hl_ hG_ hk hR_
  subst hl_
  subst hG_
  show Z κ 0 [(0, .ref b), (1, .int (iZ ((i : Nat) : Int)))] [] ([(b, zO 3 [.ref bw, .int (iZ ((wu : Nat) : Int)), .int (iZ ((1 : Nat) : Int))]), (bw, zJ (kG κ) nw (jW lk))]) 0 0
  have hI0 := hI
  obtain ⟨hu, hnw, hlk, hz, ht⟩ := hI
  have hli := hlk i
  refine z_iload_n hk dJ0_get_0 1 rfl (kk := ?_)
  refine z_if_ge hk 31 dJ0_get_1 (kt := fun h1 => ?_) (kf := fun h1 => ?_) 
  · skip
    refine z_aload_n hk dJ0_get_31 0 rfl (kk := ?_)
    refine z_callV hk [] 0 [(bw, zJ (kG κ) nw (jW lk))] (ct_J0_checkInvariants (kL κ) (kG κ) b bw wu ) q307 q309 qs3 q58 q310 (zSub.ix [0, 1] rfl) 0 3 rfl dJ0_get_32 rfl (kk := fun _ _ => ?_)
    show Z κ 35 [(0, .ref b), (1, .int (iZ ((i : Nat) : Int)))] [] ([(b, zO 3 [.ref bw, .int (iZ ((wu : Nat) : Int)), .int (iZ ((1 : Nat) : Int))]), (bw, zJ (kG κ) nw (jW lk))]) 0 0
    refine z_iload_n hk dJ0_get_35 1 rfl (kk := ?_)
    refine z_callS hk [.int (iZ ((i : Nat) : Int))] 1 [(b, zO 3 [.ref bw, .int (iZ ((wu : Nat) : Int)), .int (iZ ((1 : Nat) : Int))]), (bw, zJ (kG κ) nw (jW lk))] (ct_J0_wordIndex (kL κ) (kG κ) i (by omega)) q120 q121 q58 q122 (zSub.ix [0, 1] rfl) dJ0_get_36 rfl (kk := fun _ _ => ?_)
    show Z κ 39 [(0, .ref b), (1, .int (iZ ((i : Nat) : Int)))] [.int (iZ (((i / 64) : Nat) : Int))] ([(b, zO 3 [.ref bw, .int (iZ ((wu : Nat) : Int)), .int (iZ ((1 : Nat) : Int))]), (bw, zJ (kG κ) nw (jW lk))]) 0 0
    refine z_istore_n hk [(2, .int (iZ (((i / 64) : Nat) : Int))), (0, .ref b), (1, .int (iZ ((i : Nat) : Int)))] dJ0_get_39 (kk := ?_)
    refine z_iload_n hk dJ0_get_40 0 rfl (kk := ?_)
    refine z_aload_n hk dJ0_get_41 1 rfl (kk := ?_)
    refine z_get hk in_J0 0 1 q124 dJ0_get_42 rfl rfl (kk := ?_)
    have J68 : ∀ (r : Nat), (r = lk i) → Z κ 68 [(2, .int (iZ (((i / 64) : Nat) : Int))), (0, .ref b), (1, .int (iZ ((i : Nat) : Int)))] [.int (iZ ((r : Nat) : Int))] ([(b, zO 3 [.ref bw, .int (iZ ((wu : Nat) : Int)), .int (iZ ((1 : Nat) : Int))]), (bw, zJ (kG κ) nw (jW lk))]) 0 0 := by
      intro r hr
      exact z_zret hk hR_ () (by omega) dJ0_get_68 rfl (by rw [hr]) (by trivial) (zSub.ix [0, 1] rfl)
    refine z_icmp_ge hk 67 dJ0_get_45 (kt := fun h45 => ?_) (kf := fun h45 => ?_) 
    · skip
      refine z_iconst (z := ((0 : Nat) : Int)) hk dJ0_get_67 (kk := ?_)
      exact J68 0 (by have := hz i (by omega); omega)
    · skip
      refine z_aload_n hk dJ0_get_48 1 rfl (kk := ?_)
      refine z_get hk in_J0 0 0 q123 dJ0_get_49 rfl rfl (kk := ?_)
      refine z_iload_n hk dJ0_get_52 0 rfl (kk := ?_)
      refine z_lald (i := (i / 64)) hk 1 dJ0_get_53 rfl (kk := ?_) 
      refine z_lconst (v := jZ 1) hk dJ0_get_54 (by decide) (kk := ?_)
      refine z_iload_n hk dJ0_get_55 2 rfl (kk := ?_)
      refine z_lshl (v := (lN (2 ^ (i % 64)))) hk dJ0_get_56 (by exact jW_oneJ (by omega)) (kk := ?_)
      refine z_land (v := (jW lk (i / 64) &&& lN (2 ^ (i % 64)))) hk dJ0_get_57 (by rfl) (kk := ?_)
      refine z_lconst (v := jZ 0) hk dJ0_get_58 (by decide) (kk := ?_)
      refine z_lcmpB hk dJ0_get_59 (kk := ?_)
      refine z_ifeqB hk 67 dJ0_get_60 (kt := fun h60 => ?_) (kf := fun h60 => ?_) 
      · skip
        refine z_iconst (z := ((0 : Nat) : Int)) hk dJ0_get_67 (kk := ?_)
        exact J68 0 (by have := (jW_getJ hlk i).mp h60; omega)
      · skip
        refine z_iconst (z := ((1 : Nat) : Int)) hk dJ0_get_63 (kk := ?_)
        refine z_goto hk 68 dJ0_get_64 (kk := ?_)
        exact J68 1 (by have := mt (jW_getJ hlk i).mpr h60; omega)
  · skip
    exfalso; omega

set_option maxHeartbeats 600000 in
theorem ct_J0_cardinality (l_ : Launch) (G : zG) (b : Nat) (bw : Nat) (wu : Nat) (nw : Nat) (lk : Nat → Nat) (hI : bsI lk wu nw) :
    Ct l_ G yJ0_cardinality cJ0_cardinality 3 (some .int) 2 0 0 [.ref b] ([(b, zO 3 [.ref bw, .int (iZ ((wu : Nat) : Int)), .int (iZ ((1 : Nat) : Int))]), (bw, zJ G nw (jW lk))])
      (fun _u : Unit => some (.int (iZ (((pS lk (64 * nw)) : Nat) : Int)))) (fun _u : Unit => True) (fun _u : Unit => [(b, zO 3 [.ref bw, .int (iZ ((wu : Nat) : Int)), .int (iZ ((1 : Nat) : Int))]), (bw, zJ G nw (jW lk))]) := by
  refine Ct.of (by decide) (Nat.le_of_ble_eq_true rfl) ?_
  intro κ hl_ hG_ hk hR_
  subst hl_
  subst hG_
  show Z κ 0 [(0, .ref b)] [] ([(b, zO 3 [.ref bw, .int (iZ ((wu : Nat) : Int)), .int (iZ ((1 : Nat) : Int))]), (bw, zJ (kG κ) nw (jW lk))]) 0 0
  have hI0 := hI
  obtain ⟨hu, hnw, hlk, hz, ht⟩ := hI
  refine z_iconst (z := ((0 : Nat) : Int)) hk dJ0_cardinality_0 (kk := ?_)
  refine z_istore_n hk [(1, .int (iZ ((0 : Nat) : Int))), (0, .ref b)] dJ0_cardinality_1 (kk := ?_)
  refine z_iconst (z := ((0 : Nat) : Int)) hk dJ0_cardinality_2 (kk := ?_)
  refine z_istore_n hk [(2, .int (iZ ((0 : Nat) : Int))), (1, .int (iZ ((0 : Nat) : Int))), (0, .ref b)] dJ0_cardinality_3 (kk := ?_)
  have L4 : ∀ (f_ : Nat) (i : Nat) (r : Nat), (i ≤ wu) → (r = pS lk (64 * i)) → wu - i < f_ → Z κ 4 [(2, .int (iZ ((i : Nat) : Int))), (1, .int (iZ ((r : Nat) : Int))), (0, .ref b)] [] ([(b, zO 3 [.ref bw, .int (iZ ((wu : Nat) : Int)), .int (iZ ((1 : Nat) : Int))]), (bw, zJ (kG κ) nw (jW lk))]) 0 0 := by
    intro f_
    induction f_ with
    | zero => intro i r hi hr hm_; exact absurd hm_ (Nat.not_lt_zero _)
    | succ f_ ih4 =>
      intro i r hi hr hm_
      have hr9 := pS_64 hlk (64 * i)
      have hr8 := pS_64 (f := fun j => lk (64 * i + j)) (fun j => hlk _) 64
      refine z_iload_n hk dJ0_cardinality_4 0 rfl (kk := ?_)
      refine z_aload_n hk dJ0_cardinality_5 2 rfl (kk := ?_)
      refine z_get hk in_J0 0 1 q124 dJ0_cardinality_6 rfl rfl (kk := ?_)
      refine z_icmp_ge hk 30 dJ0_cardinality_9 (kt := fun h9 => ?_) (kf := fun h9 => ?_) 
      · skip
        refine z_iload_n hk dJ0_cardinality_30 1 rfl (kk := ?_)
        exact z_iret hk hR_ () dJ0_cardinality_31 rfl (by rw [hr, show i = wu from by omega, show 64 * nw = 64 * wu + (64 * nw - 64 * wu) from by omega, pS_z hz]) (by trivial) (zSub.ix [0, 1] rfl)
      · skip
        refine z_iload_n hk dJ0_cardinality_12 1 rfl (kk := ?_)
        refine z_aload_n hk dJ0_cardinality_13 2 rfl (kk := ?_)
        refine z_get hk in_J0 0 0 q123 dJ0_cardinality_14 rfl rfl (kk := ?_)
        refine z_iload_n hk dJ0_cardinality_17 0 rfl (kk := ?_)
        refine z_lald (i := i) hk 1 dJ0_cardinality_18 rfl (kk := ?_) 
        refine z_callS hk [.long ((jW lk) i)] 1 [(b, zO 3 [.ref bw, .int (iZ ((wu : Nat) : Int)), .int (iZ ((1 : Nat) : Int))]), (bw, zJ (kG κ) nw (jW lk))] (ct_J11_bitCount (kL κ) (kG κ) lk (64 * i) (by first | assumption | omega)) q326 q327 q71 q328 (zSub.ix [0, 1] rfl) dJ0_cardinality_19 rfl (kk := fun _ _ => ?_)
        show Z κ 22 [(2, .int (iZ ((i : Nat) : Int))), (1, .int (iZ ((r : Nat) : Int))), (0, .ref b)] [.int (iZ (((pS (fun j => lk ((64 * i) + j)) 64) : Nat) : Int)), .int (iZ ((r : Nat) : Int))] ([(b, zO 3 [.ref bw, .int (iZ ((wu : Nat) : Int)), .int (iZ ((1 : Nat) : Int))]), (bw, zJ (kG κ) nw (jW lk))]) 0 0
        refine z_iadd (z := ((r + (pS (fun j => lk ((64 * i) + j)) 64) : Nat) : Int)) hk dJ0_cardinality_22 (Int.natCast_add _ _).symm (kk := ?_)
        refine z_istore_n hk [(1, .int (iZ ((r + (pS (fun j => lk ((64 * i) + j)) 64) : Nat) : Int))), (2, .int (iZ ((i : Nat) : Int))), (0, .ref b)] dJ0_cardinality_23 (kk := ?_)
        refine z_iinc hk (z' := ((i + 1 : Nat) : Int)) [(2, .int (iZ ((i + 1 : Nat) : Int))), (1, .int (iZ ((r + (pS (fun j => lk ((64 * i) + j)) 64) : Nat) : Int))), (0, .ref b)] dJ0_cardinality_24 1 rfl (kk := ?_)
        refine z_goto hk 4 dJ0_cardinality_27 (kk := ?_)
        exact ih4  (i + 1) (r + (pS (fun j => lk ((64 * i) + j)) 64)) (by first | assumption | omega) (by rw [show 64 * (i + 1) = 64 * i + 64 from by omega, pS_add, hr]) (by omega)
  exact L4 (wu - 0 + 1) 0 0 (by first | assumption | omega) (by rfl) (Nat.lt_succ_self _)

set_option maxHeartbeats 600000 in
theorem ct_J0_initWords (l_ : Launch) (G : zG) (b : Nat) (nb : Nat) (hn : 1 ≤ nb ∧ nb ≤ 256) :
    Ct l_ G yJ0_initWords cJ0_initWords 2 none 2 1 ((nb - 1) / 64 + 1) [.ref b, .int (iZ ((nb : Nat) : Int))] ([(b, zO 3 [.null, .int (iZ ((0 : Nat) : Int)), .int (iZ ((0 : Nat) : Int))])])
      (fun u : Nat => none) (fun u : Nat => True) (fun u : Nat => [(b, zO 3 [.ref u, .int (iZ ((0 : Nat) : Int)), .int (iZ ((0 : Nat) : Int))]), (u, zJ G ((nb - 1) / 64 + 1) (jW (fun _ => 0)))]) := by
  refine Ct.of (by decide) (Nat.le_of_ble_eq_true rfl) ?_
  intro κ hl_ hG_ hk hR_
  subst hl_
  subst hG_
  show Z κ 0 [(0, .ref b), (1, .int (iZ ((nb : Nat) : Int)))] [] ([(b, zO 3 [.null, .int (iZ ((0 : Nat) : Int)), .int (iZ ((0 : Nat) : Int))])]) 0 0
  refine z_aload_n hk dJ0_initWords_0 0 rfl (kk := ?_)
  refine z_iload_n hk dJ0_initWords_1 1 rfl (kk := ?_)
  refine z_iconst (z := ((1 : Nat) : Int)) hk dJ0_initWords_2 (kk := ?_)
  refine z_isub (z := ((nb : Nat) : Int) - ((1 : Nat) : Int)) hk dJ0_initWords_3 (kk := ?_)
  refine z_topN (nb - 1) (by omega) ?_
  refine z_callS hk [.int (iZ (((nb - 1) : Nat) : Int))] 1 [(b, zO 3 [.null, .int (iZ ((0 : Nat) : Int)), .int (iZ ((0 : Nat) : Int))])] (ct_J0_wordIndex (kL κ) (kG κ) (nb - 1) (by omega)) q120 q121 q58 q122 (zSub.ix [0] rfl) dJ0_initWords_4 rfl (kk := fun _ _ => ?_)
  show Z κ 7 [(0, .ref b), (1, .int (iZ ((nb : Nat) : Int)))] [.int (iZ ((((nb - 1) / 64) : Nat) : Int)), .ref b] ([(b, zO 3 [.null, .int (iZ ((0 : Nat) : Int)), .int (iZ ((0 : Nat) : Int))])]) 0 0
  refine z_iconst (z := ((1 : Nat) : Int)) hk dJ0_initWords_7 (kk := ?_)
  refine z_iadd (z := ((((nb - 1) / 64) + 1 : Nat) : Int)) hk dJ0_initWords_8 (Int.natCast_add _ _).symm (kk := ?_)
  refine z_newl (n := ((nb - 1) / 64) + 1) hk dJ0_initWords_9 q134 (kk := fun q_2 => ?_) 
  show Z κ 11 [(0, .ref b), (1, .int (iZ ((nb : Nat) : Int)))] [.ref q_2, .ref b] ([(b, zO 3 [.null, .int (iZ ((0 : Nat) : Int)), .int (iZ ((0 : Nat) : Int))]), (q_2, zJ (kG κ) (((nb - 1) / 64) + 1) (fun _ => 0))]) 1 (0 + (((nb - 1) / 64) + 1))
  refine z_put hk in_J0 tyJ0 tyJ0_ok nmJ0 0 0 ([(b, zO 3 [.ref q_2, .int (iZ ((0 : Nat) : Int)), .int (iZ ((0 : Nat) : Int))]), (q_2, zJ (kG κ) (((nb - 1) / 64) + 1) (fun _ => 0))]) q123 dJ0_initWords_11 rfl (kk := ?_)
  refine z_arrJ (g := (jW (fun _ => 0))) (ws' := [(b, zO 3 [.ref q_2, .int (iZ ((0 : Nat) : Int)), .int (iZ ((0 : Nat) : Int))]), (q_2, zJ (kG κ) (((nb - 1) / 64) + 1) (jW (fun _ => 0)))]) 1 rfl (fun j_ hj_ => by exact ((jW_0 (fun _ => Nat.zero_le 1) j_).mpr (bwR_zero (fun _ _ => rfl))).symm) rfl ?_
  exact z_vret hk hR_ q_2 dJ0_initWords_14 rfl rfl (by trivial) (zSub.ix [0, 1] rfl)

set_option maxHeartbeats 600000 in
theorem ct_J0_init (l_ : Launch) (G : zG) (b : Nat) (nb : Nat) (hn : 1 ≤ nb ∧ nb ≤ 256) :
    Ct l_ G yJ0_init cJ0_init 2 none 3 1 ((nb - 1) / 64 + 1) [.ref b, .int (iZ ((nb : Nat) : Int))] ([(b, zO 3 [.null, .int (iZ ((0 : Nat) : Int)), .int (iZ ((0 : Nat) : Int))])])
      (fun u : Nat => none) (fun u : Nat => True) (fun u : Nat => [(b, zO 3 [.ref u, .int (iZ ((0 : Nat) : Int)), .int (iZ ((1 : Nat) : Int))]), (u, zJ G ((nb - 1) / 64 + 1) (jW (fun _ => 0)))]) := by
  refine Ct.of (by decide) (Nat.le_of_ble_eq_true rfl) ?_
  intro κ hl_ hG_ hk hR_
  subst hl_
  subst hG_
  show Z κ 0 [(0, .ref b), (1, .int (iZ ((nb : Nat) : Int)))] [] ([(b, zO 3 [.null, .int (iZ ((0 : Nat) : Int)), .int (iZ ((0 : Nat) : Int))])]) 0 0
  refine z_aload_n hk dJ0_init_0 0 rfl (kk := ?_)
  refine z_objInit hk q115 q102 q103 dJ0_init_1 (kk := ?_)
  refine z_aload_n hk dJ0_init_4 0 rfl (kk := ?_)
  refine z_iconst (z := ((0 : Nat) : Int)) hk dJ0_init_5 (kk := ?_)
  refine z_put hk in_J0 tyJ0 tyJ0_ok nmJ0 0 1 ([(b, zO 3 [.null, .int (iZ ((0 : Nat) : Int)), .int (iZ ((0 : Nat) : Int))])]) q124 dJ0_init_6 rfl (kk := ?_)
  refine z_aload_n hk dJ0_init_9 0 rfl (kk := ?_)
  refine z_iconst (z := ((0 : Nat) : Int)) hk dJ0_init_10 (kk := ?_)
  refine z_put hk in_J0 tyJ0 tyJ0_ok nmJ0 0 2 ([(b, zO 3 [.null, .int (iZ ((0 : Nat) : Int)), .int (iZ ((0 : Nat) : Int))])]) q125 dJ0_init_11 rfl (kk := ?_)
  refine z_iload_n hk dJ0_init_14 1 rfl (kk := ?_)
  refine z_if_ge hk 45 dJ0_init_15 (kt := fun h15 => ?_) (kf := fun h15 => ?_) 
  · skip
    refine z_aload_n hk dJ0_init_45 0 rfl (kk := ?_)
    refine z_iload_n hk dJ0_init_46 1 rfl (kk := ?_)
    refine z_callV hk [.int (iZ ((nb : Nat) : Int))] 1 [] (ct_J0_initWords (kL κ) (kG κ) b nb (by first | assumption | omega)) q116 q118 qs0 q58 q119 (zSub.ix [0] rfl) 0 3 rfl dJ0_init_47 rfl (kk := fun u_1 hu47 => ?_)
    obtain ⟨bw_2, rfl⟩ : ∃ z_, z_ = u_1 := ⟨_, rfl⟩
    show Z κ 50 [(0, .ref b), (1, .int (iZ ((nb : Nat) : Int)))] [] ([(b, zO 3 [.ref bw_2, .int (iZ ((0 : Nat) : Int)), .int (iZ ((0 : Nat) : Int))]), (bw_2, zJ (kG κ) ((nb - 1) / 64 + 1) (jW (fun _ => 0)))]) 1 (0 + ((nb - 1) / 64 + 1))
    refine z_aload_n hk dJ0_init_50 0 rfl (kk := ?_)
    refine z_iconst (z := ((1 : Nat) : Int)) hk dJ0_init_51 (kk := ?_)
    refine z_put hk in_J0 tyJ0 tyJ0_ok nmJ0 0 2 ([(b, zO 3 [.ref bw_2, .int (iZ ((0 : Nat) : Int)), .int (iZ ((1 : Nat) : Int))]), (bw_2, zJ (kG κ) ((nb - 1) / 64 + 1) (jW (fun _ => 0)))]) q125 dJ0_init_52 rfl (kk := ?_)
    exact z_vret hk hR_ bw_2 dJ0_init_55 rfl rfl (by trivial) (zSub.ix [0, 1] rfl)
  · skip
    exfalso; omega
