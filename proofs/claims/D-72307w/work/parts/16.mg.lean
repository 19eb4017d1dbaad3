set_option maxHeartbeats 600000 in
theorem ct_X2_image (l_ : Launch) (G : zG) (o : Nat) (fs : List Value) (aS : Nat) (aI : Nat) (aK : Nat) (st : Nat → Nat) (im : Nat → Nat) (kp : Nat → Nat) (kc : Int) (hF0 : fs[0]? = some (.ref aS)) (hF1 : fs[1]? = some (.ref aI)) (hF2 : fs[2]? = some (.ref aK)) (hk0 : -2147483648 ≤ kc ∧ kc ≤ 2147483647) :
    Ct l_ G yX2_image cX2_image 3 (some .int) 2 0 0 [.ref o, .int (iZ (kc))] [(o, zO 2 fs), (aS, zI G 819 st), (aI, zI G 1638 im), (aK, zB G 2 kp)]
      (fun u : Int × (Nat → Nat) × (Nat → Nat) => some (.int (iZ (u.1)))) (fun u : Int × (Nat → Nat) × (Nat → Nat) => (¬ (0 ≤ kc ∧ kc ≤ 1) ∧ u.1 = -2 ∧ u.2.1 = im ∧ u.2.2 = kp) ∨ ((0 ≤ kc ∧ kc ≤ 1) ∧ u.1 = 1 ∧ u.2.1 = pP im st (819 * kc.toNat) 819 ∧ u.2.2 = va_up kp kc.toNat 1)) (fun u : Int × (Nat → Nat) × (Nat → Nat) => [(o, zO 2 fs), (aS, zI G 819 st), (aI, zI G 1638 u.2.1), (aK, zB G 2 u.2.2)]) := by
  refine Ct.of (by decide) (Nat.le_of_ble_eq_true rfl) ?_
  intro κ hl_ hG_ hk hR_
  subst hl_
  subst hG_
  show Z κ 0 [(0, .ref o), (1, .int (iZ (kc)))] [] [(o, zO 2 fs), (aS, zI (kG κ) 819 st), (aI, zI (kG κ) 1638 im), (aK, zB (kG κ) 2 kp)] 0 0
  refine z_iload_n hk dX2_image_0 1 rfl (kk := ?_)
  refine z_iconst (z := ((0 : Nat) : Int)) hk dX2_image_1 (kk := ?_)
  refine z_iconst (z := ((1 : Nat) : Int)) hk dX2_image_2 (kk := ?_)
  refine z_callS hk [.int (iZ (kc)), .int (iZ ((0 : Nat) : Int)), .int (iZ ((1 : Nat) : Int))] 3 [(o, zO 2 fs), (aS, zI (kG κ) 819 st), (aI, zI (kG κ) 1638 im), (aK, zB (kG κ) 2 kp)] (ct_X2_in (kL κ) (kG κ) kc ((0 : Nat) : Int) ((1 : Nat) : Int) (by first | assumption | omega) (by first | assumption | omega) (by first | assumption | omega)) q1322 q1323 q66 q1324 (zSub.ix [0, 1, 2, 3] rfl) dX2_image_3 rfl (kk := fun u_1 hu3 => ?_)
  obtain ⟨u0_2, rfl⟩ : ∃ z_, z_ = u_1 := ⟨_, rfl⟩
  have hu3 : (u0_2 = 1 ∧ ((0 : Nat) : Int) ≤ kc ∧ kc ≤ ((1 : Nat) : Int)) ∨ (u0_2 = 0 ∧ ¬ (((0 : Nat) : Int) ≤ kc ∧ kc ≤ ((1 : Nat) : Int))) := hu3
  show Z κ 6 [(0, .ref o), (1, .int (iZ (kc)))] [.int (iZ ((u0_2 : Nat) : Int))] [(o, zO 2 fs), (aS, zI (kG κ) 819 st), (aI, zI (kG κ) 1638 im), (aK, zB (kG κ) 2 kp)] 0 0
  refine z_if_ne hk 12 dX2_image_6 (kt := fun h6 => ?_) (kf := fun h6 => ?_) 
  · skip
    refine z_to (lv' := [(0, .ref o), (1, .int (iZ ((kc.toNat : Nat) : Int)))]) rfl (by rw [show ((kc.toNat : Nat) : Int) = kc from by omega]) rfl rfl ?_
    refine z_iconst (z := ((0 : Nat) : Int)) hk dX2_image_12 (kk := ?_)
    refine z_istore_n hk [(2, .int (iZ ((0 : Nat) : Int))), (0, .ref o), (1, .int (iZ ((kc.toNat : Nat) : Int)))] dX2_image_13 (kk := ?_)
    have L14 : ∀ (f_ : Nat) (i : Nat) (im2 : Nat → Nat), (i ≤ 819) → (im2 = pP im st (819 * kc.toNat) i) → 819 - i < f_ → Z κ 14 [(2, .int (iZ ((i : Nat) : Int))), (0, .ref o), (1, .int (iZ ((kc.toNat : Nat) : Int)))] [] [(o, zO 2 fs), (aS, zI (kG κ) 819 st), (aI, zI (kG κ) 1638 im2), (aK, zB (kG κ) 2 kp)] 0 0 := by
      intro f_
      induction f_ with
      | zero => intro i im2 hi him hm_; exact absurd hm_ (Nat.not_lt_zero _)
      | succ f_ ih14 =>
        intro i im2 hi him hm_
        refine z_iload_n hk dX2_image_14 0 rfl (kk := ?_)
        refine z_sipush (z := ((819 : Nat) : Int)) hk dX2_image_15 (kk := ?_)
        refine z_icmp_ge hk 45 dX2_image_18 (kt := fun h18 => ?_) (kf := fun h18 => ?_) 
        · skip
          refine z_aload_n hk dX2_image_45 1 rfl (kk := ?_)
          refine z_get hk in_X2 0 2 q1282 dX2_image_46 rfl hF2 (kk := ?_)
          refine z_iload_n hk dX2_image_49 2 rfl (kk := ?_)
          refine z_iconst (z := ((1 : Nat) : Int)) hk dX2_image_50 (kk := ?_)
          refine z_zast (i := kc.toNat) hk 3 [(o, zO 2 fs), (aS, zI (kG κ) 819 st), (aI, zI (kG κ) 1638 im2), (aK, zB (kG κ) 2 (va_up kp kc.toNat 1))] dX2_image_51 rfl  (kk := ?_) 
          refine z_iconst (z := ((1 : Nat) : Int)) hk dX2_image_52 (kk := ?_)
          exact z_iret hk hR_ (((1 : Nat) : Int), im2, va_up kp kc.toNat 1) dX2_image_53 rfl rfl (by (try dsimp only); exact Or.inr ⟨by omega, rfl, by rw [him, show i = 819 from by omega], rfl⟩) (zSub.ix [0, 1, 2, 3] rfl)
        · skip
          refine z_aload_n hk dX2_image_21 1 rfl (kk := ?_)
          refine z_get hk in_X2 0 1 q1281 dX2_image_22 rfl hF1 (kk := ?_)
          refine z_sipush (z := ((819 : Nat) : Int)) hk dX2_image_25 (kk := ?_)
          refine z_iload_n hk dX2_image_28 2 rfl (kk := ?_)
          refine z_imul (z := ((819 * kc.toNat : Nat) : Int)) hk dX2_image_29 (Int.natCast_mul _ _).symm (kk := ?_)
          refine z_iload_n hk dX2_image_30 0 rfl (kk := ?_)
          refine z_iadd (z := (((819 * kc.toNat) + i : Nat) : Int)) hk dX2_image_31 (Int.natCast_add _ _).symm (kk := ?_)
          refine z_aload_n hk dX2_image_32 1 rfl (kk := ?_)
          refine z_get hk in_X2 0 0 q1280 dX2_image_33 rfl hF0 (kk := ?_)
          refine z_iload_n hk dX2_image_36 0 rfl (kk := ?_)
          refine z_iald (i := i) hk 1 dX2_image_37 rfl (kk := ?_) 
          refine z_iast (i := (819 * kc.toNat) + i) hk 2 [(o, zO 2 fs), (aS, zI (kG κ) 819 st), (aI, zI (kG κ) 1638 (va_up im2 ((819 * kc.toNat) + i) (st i))), (aK, zB (kG κ) 2 kp)] dX2_image_38 rfl  (kk := ?_) 
          refine z_iinc hk (z' := ((i + 1 : Nat) : Int)) [(2, .int (iZ ((i + 1 : Nat) : Int))), (0, .ref o), (1, .int (iZ ((kc.toNat : Nat) : Int)))] dX2_image_39 0 rfl (kk := ?_)
          refine z_goto hk 14 dX2_image_42 (kk := ?_)
          exact ih14  (i + 1) (va_up im2 ((819 * kc.toNat) + i) (st i)) (by first | assumption | omega) (by rw [him]; exact pP_up rfl) (by omega)
    exact L14 (819 - 0 + 1) 0 im (by first | assumption | omega) (by exact (pP_0 _ _ _).symm) (Nat.lt_succ_self _)
  · skip
    refine z_bipush (z := -2) hk dX2_image_9 (kk := ?_)
    exact z_iret hk hR_ (-2, im, kp) dX2_image_11 rfl rfl (by (try dsimp only); exact Or.inl ⟨by omega, rfl, rfl, rfl⟩) (zSub.ix [0, 1, 2, 3] rfl)

set_option maxHeartbeats 600000 in
theorem ct_X2_restore (l_ : Launch) (G : zG) (o : Nat) (fs : List Value) (aS : Nat) (aI : Nat) (aK : Nat) (st : Nat → Nat) (im : Nat → Nat) (kp : Nat → Nat) (kc : Int) (hF0 : fs[0]? = some (.ref aS)) (hF1 : fs[1]? = some (.ref aI)) (hF2 : fs[2]? = some (.ref aK)) (hk0 : -2147483648 ≤ kc ∧ kc ≤ 2147483647) (hkp : ∀ j, kp j < 2) :
    Ct l_ G yX2_restore cX2_restore 3 (some .int) 2 0 0 [.ref o, .int (iZ (kc))] [(o, zO 2 fs), (aS, zI G 819 st), (aI, zI G 1638 im), (aK, zB G 2 kp)]
      (fun u : Int × (Nat → Nat) => some (.int (iZ (u.1)))) (fun u : Int × (Nat → Nat) => (¬ (0 ≤ kc ∧ kc ≤ 1) ∧ u.1 = -2 ∧ u.2 = st) ∨ ((0 ≤ kc ∧ kc ≤ 1) ∧ kp kc.toNat = 0 ∧ u.1 = -3 ∧ u.2 = st) ∨ ((0 ≤ kc ∧ kc ≤ 1) ∧ kp kc.toNat = 1 ∧ u.1 = 1 ∧ u.2 = pP st (fun j => im (819 * kc.toNat + j)) 0 819)) (fun u : Int × (Nat → Nat) => [(o, zO 2 fs), (aS, zI G 819 u.2), (aI, zI G 1638 im), (aK, zB G 2 kp)]) := by
  refine Ct.of (by decide) (Nat.le_of_ble_eq_true rfl) ?_
  intro κ hl_ hG_ hk hR_
  subst hl_
  subst hG_
  show Z κ 0 [(0, .ref o), (1, .int (iZ (kc)))] [] [(o, zO 2 fs), (aS, zI (kG κ) 819 st), (aI, zI (kG κ) 1638 im), (aK, zB (kG κ) 2 kp)] 0 0
  refine z_iload_n hk dX2_restore_0 1 rfl (kk := ?_)
  refine z_iconst (z := ((0 : Nat) : Int)) hk dX2_restore_1 (kk := ?_)
  refine z_iconst (z := ((1 : Nat) : Int)) hk dX2_restore_2 (kk := ?_)
  refine z_callS hk [.int (iZ (kc)), .int (iZ ((0 : Nat) : Int)), .int (iZ ((1 : Nat) : Int))] 3 [(o, zO 2 fs), (aS, zI (kG κ) 819 st), (aI, zI (kG κ) 1638 im), (aK, zB (kG κ) 2 kp)] (ct_X2_in (kL κ) (kG κ) kc ((0 : Nat) : Int) ((1 : Nat) : Int) (by first | assumption | omega) (by first | assumption | omega) (by first | assumption | omega)) q1322 q1323 q66 q1324 (zSub.ix [0, 1, 2, 3] rfl) dX2_restore_3 rfl (kk := fun u_1 hu3 => ?_)
  obtain ⟨u0_2, rfl⟩ : ∃ z_, z_ = u_1 := ⟨_, rfl⟩
  have hu3 : (u0_2 = 1 ∧ ((0 : Nat) : Int) ≤ kc ∧ kc ≤ ((1 : Nat) : Int)) ∨ (u0_2 = 0 ∧ ¬ (((0 : Nat) : Int) ≤ kc ∧ kc ≤ ((1 : Nat) : Int))) := hu3
  show Z κ 6 [(0, .ref o), (1, .int (iZ (kc)))] [.int (iZ ((u0_2 : Nat) : Int))] [(o, zO 2 fs), (aS, zI (kG κ) 819 st), (aI, zI (kG κ) 1638 im), (aK, zB (kG κ) 2 kp)] 0 0
  refine z_if_ne hk 12 dX2_restore_6 (kt := fun h6 => ?_) (kf := fun h6 => ?_) 
  · skip
    refine z_to (lv' := [(0, .ref o), (1, .int (iZ ((kc.toNat : Nat) : Int)))]) rfl (by rw [show ((kc.toNat : Nat) : Int) = kc from by omega]) rfl rfl ?_
    refine z_aload_n hk dX2_restore_12 0 rfl (kk := ?_)
    refine z_get hk in_X2 0 2 q1282 dX2_restore_13 rfl hF2 (kk := ?_)
    refine z_iload_n hk dX2_restore_16 1 rfl (kk := ?_)
    refine z_zald (i := kc.toNat) hk 3 dX2_restore_17 rfl (kk := ?_) 
    have hf17 := hkp kc.toNat
    refine z_if_ne hk 24 dX2_restore_18 (kt := fun h18 => ?_) (kf := fun h18 => ?_) 
    · skip
      refine z_iconst (z := ((0 : Nat) : Int)) hk dX2_restore_24 (kk := ?_)
      refine z_istore_n hk [(2, .int (iZ ((0 : Nat) : Int))), (0, .ref o), (1, .int (iZ ((kc.toNat : Nat) : Int)))] dX2_restore_25 (kk := ?_)
      have L26 : ∀ (f_ : Nat) (i : Nat) (s2 : Nat → Nat), (i ≤ 819) → (s2 = pP st (fun j => im (819 * kc.toNat + j)) 0 i) → 819 - i < f_ → Z κ 26 [(2, .int (iZ ((i : Nat) : Int))), (0, .ref o), (1, .int (iZ ((kc.toNat : Nat) : Int)))] [] [(o, zO 2 fs), (aS, zI (kG κ) 819 s2), (aI, zI (kG κ) 1638 im), (aK, zB (kG κ) 2 kp)] 0 0 := by
        intro f_
        induction f_ with
        | zero => intro i s2 hi hs2 hm_; exact absurd hm_ (Nat.not_lt_zero _)
        | succ f_ ih26 =>
          intro i s2 hi hs2 hm_
          refine z_iload_n hk dX2_restore_26 0 rfl (kk := ?_)
          refine z_sipush (z := ((819 : Nat) : Int)) hk dX2_restore_27 (kk := ?_)
          refine z_icmp_ge hk 57 dX2_restore_30 (kt := fun h30 => ?_) (kf := fun h30 => ?_) 
          · skip
            refine z_iconst (z := ((1 : Nat) : Int)) hk dX2_restore_57 (kk := ?_)
            exact z_iret hk hR_ (((1 : Nat) : Int), s2) dX2_restore_58 rfl rfl (by (try dsimp only); exact Or.inr (Or.inr ⟨by omega, by omega, rfl, by rw [hs2, show i = 819 from by omega]⟩)) (zSub.ix [0, 1, 2, 3] rfl)
          · skip
            refine z_aload_n hk dX2_restore_33 1 rfl (kk := ?_)
            refine z_get hk in_X2 0 0 q1280 dX2_restore_34 rfl hF0 (kk := ?_)
            refine z_iload_n hk dX2_restore_37 0 rfl (kk := ?_)
            refine z_aload_n hk dX2_restore_38 1 rfl (kk := ?_)
            refine z_get hk in_X2 0 1 q1281 dX2_restore_39 rfl hF1 (kk := ?_)
            refine z_sipush (z := ((819 : Nat) : Int)) hk dX2_restore_42 (kk := ?_)
            refine z_iload_n hk dX2_restore_45 2 rfl (kk := ?_)
            refine z_imul (z := ((819 * kc.toNat : Nat) : Int)) hk dX2_restore_46 (Int.natCast_mul _ _).symm (kk := ?_)
            refine z_iload_n hk dX2_restore_47 0 rfl (kk := ?_)
            refine z_iadd (z := (((819 * kc.toNat) + i : Nat) : Int)) hk dX2_restore_48 (Int.natCast_add _ _).symm (kk := ?_)
            refine z_iald (i := (819 * kc.toNat) + i) hk 2 dX2_restore_49 rfl (kk := ?_) 
            refine z_iast (i := i) hk 1 [(o, zO 2 fs), (aS, zI (kG κ) 819 (va_up s2 i (im ((819 * kc.toNat) + i)))), (aI, zI (kG κ) 1638 im), (aK, zB (kG κ) 2 kp)] dX2_restore_50 rfl  (kk := ?_) 
            refine z_iinc hk (z' := ((i + 1 : Nat) : Int)) [(2, .int (iZ ((i + 1 : Nat) : Int))), (0, .ref o), (1, .int (iZ ((kc.toNat : Nat) : Int)))] dX2_restore_51 0 rfl (kk := ?_)
            refine z_goto hk 26 dX2_restore_54 (kk := ?_)
            exact ih26  (i + 1) (va_up s2 i (im ((819 * kc.toNat) + i))) (by first | assumption | omega) (by rw [hs2]; exact pP_up0 rfl) (by omega)
      exact L26 (819 - 0 + 1) 0 st (by first | assumption | omega) (by exact (pP_0 _ _ _).symm) (Nat.lt_succ_self _)
    · skip
      refine z_bipush (z := -3) hk dX2_restore_21 (kk := ?_)
      exact z_iret hk hR_ (-3, st) dX2_restore_23 rfl rfl (by (try dsimp only); exact Or.inr (Or.inl ⟨by omega, by omega, rfl, rfl⟩)) (zSub.ix [0, 1, 2, 3] rfl)
  · skip
    refine z_bipush (z := -2) hk dX2_restore_9 (kk := ?_)
    exact z_iret hk hR_ (-2, st) dX2_restore_11 rfl rfl (by (try dsimp only); exact Or.inl ⟨by omega, rfl, rfl⟩) (zSub.ix [0, 1, 2, 3] rfl)

set_option maxHeartbeats 600000 in
theorem ct_X2_count (l_ : Launch) (G : zG) (o : Nat) (aS : Nat) (aI : Nat) (aK : Nat) (aP : Nat) (aT : Nat) (aO : Nat) (aQ : Nat) (aR : Nat) (aF : Nat) (aL : Nat) (said : Nat) (kp : Nat) (st : Nat → Nat) (kp_ : Nat → Nat) (n : Nat) (m : Nat) (w : Nat → Nat) (lk : Nat → Nat) (what : Int) (hwh : -2147483648 ≤ what ∧ what ≤ 2147483647) (hn : st 48 = n) (hn48 : n ≤ 48) (hm : st 55 = m) (hww : ∀ l, l < 16 → st (56 + l) = w l ∧ w l ≤ 99) (hlk : ∀ q, q < 256 → st (72 + q) = lk q ∧ lk q ≤ 1) (hs : said ≤ 48) (hb : ∀ j, st j < 100) (hkp : ∀ j, kp_ j < 2) :
    Ct l_ G yX2_count cX2_count 2 (some .int) 3 0 0 [.ref o, .int (iZ (what))] [(o, zO 2 [.ref aS, .ref aI, .ref aK, .ref aP, .int (iZ ((said : Nat) : Int)), .ref aT, .ref aO, .ref aQ, .ref aR, .ref aF, .ref aL, .int (iZ ((kp : Nat) : Int))]), (aS, zI G 819 st), (aK, zB G 2 kp_)]
      (fun _u : Unit => some (.int (iZ (aCount what w lk n m said (st 328) (kp_ 0) (kp_ 1))))) (fun _u : Unit => True) (fun _u : Unit => [(o, zO 2 [.ref aS, .ref aI, .ref aK, .ref aP, .int (iZ ((said : Nat) : Int)), .ref aT, .ref aO, .ref aQ, .ref aR, .ref aF, .ref aL, .int (iZ ((kp : Nat) : Int))]), (aS, zI G 819 st), (aK, zB G 2 kp_)]) := by
  refine Ct.of (by decide) (Nat.le_of_ble_eq_true rfl) ?_
  intro κ hl_ hG_ hk hR_
  subst hl_
  subst hG_
  show Z κ 0 [(0, .ref o), (1, .int (iZ (what)))] [] [(o, zO 2 [.ref aS, .ref aI, .ref aK, .ref aP, .int (iZ ((said : Nat) : Int)), .ref aT, .ref aO, .ref aQ, .ref aR, .ref aF, .ref aL, .int (iZ ((kp : Nat) : Int))]), (aS, zI (kG κ) 819 st), (aK, zB (kG κ) 2 kp_)] 0 0
  refine z_iload_n hk dX2_count_0 1 rfl (kk := ?_)
  refine z_bipush (z := ((10 : Nat) : Int)) hk dX2_count_1 (kk := ?_)
  refine z_bipush (z := ((25 : Nat) : Int)) hk dX2_count_3 (kk := ?_)
  refine z_callS hk [.int (iZ (what)), .int (iZ ((10 : Nat) : Int)), .int (iZ ((25 : Nat) : Int))] 3 [(o, zO 2 [.ref aS, .ref aI, .ref aK, .ref aP, .int (iZ ((said : Nat) : Int)), .ref aT, .ref aO, .ref aQ, .ref aR, .ref aF, .ref aL, .int (iZ ((kp : Nat) : Int))]), (aS, zI (kG κ) 819 st), (aK, zB (kG κ) 2 kp_)] (ct_X2_in (kL κ) (kG κ) what ((10 : Nat) : Int) ((25 : Nat) : Int) (by first | assumption | omega) (by first | assumption | omega) (by first | assumption | omega)) q1322 q1323 q66 q1324 (zSub.ix [0, 1, 2] rfl) dX2_count_5 rfl (kk := fun u_1 hu5 => ?_)
  obtain ⟨u0_2, rfl⟩ : ∃ z_, z_ = u_1 := ⟨_, rfl⟩
  have hu5 : (u0_2 = 1 ∧ ((10 : Nat) : Int) ≤ what ∧ what ≤ ((25 : Nat) : Int)) ∨ (u0_2 = 0 ∧ ¬ (((10 : Nat) : Int) ≤ what ∧ what ≤ ((25 : Nat) : Int))) := hu5
  show Z κ 8 [(0, .ref o), (1, .int (iZ (what)))] [.int (iZ ((u0_2 : Nat) : Int))] [(o, zO 2 [.ref aS, .ref aI, .ref aK, .ref aP, .int (iZ ((said : Nat) : Int)), .ref aT, .ref aO, .ref aQ, .ref aR, .ref aF, .ref aL, .int (iZ ((kp : Nat) : Int))]), (aS, zI (kG κ) 819 st), (aK, zB (kG κ) 2 kp_)] 0 0
  refine z_if_eq hk 24 dX2_count_8 (kt := fun h8 => ?_) (kf := fun h8 => ?_) 
  · skip
    refine z_iload_n hk dX2_count_24 1 rfl (kk := ?_)
    by_cases hsw25 : 0 ≤ what ∧ what ≤ 5
    · have hsv25 : what = 0 ∨ what = 1 ∨ what = 2 ∨ what = 3 ∨ what = 4 ∨ what = 5 := by omega
      rcases hsv25 with hv25 | hv25 | hv25 | hv25 | hv25 | hv25
      · refine z_swIn hk 64 dX2_count_25 hsw25.1 hsw25.2 (by rw [hv25]; rfl) (kk := ?_)
        refine z_aload_n hk dX2_count_64 0 rfl (kk := ?_)
        refine z_callV hk [] 0 [(aK, zB (kG κ) 2 kp_)] (ct_X2_many (kL κ) (kG κ) o [.ref aS, .ref aI, .ref aK, .ref aP, .int (iZ ((said : Nat) : Int)), .ref aT, .ref aO, .ref aQ, .ref aR, .ref aF, .ref aL, .int (iZ ((kp : Nat) : Int))] aS st n rfl (by first | assumption | omega)) q1352 q1354 qs30 q66 q1355 (zSub.ix [0, 1, 2] rfl) 0 2 rfl dX2_count_65 rfl (kk := fun _ _ => ?_)
        show Z κ 68 [(0, .ref o), (1, .int (iZ (what)))] [.int (iZ ((n : Nat) : Int))] [(o, zO 2 [.ref aS, .ref aI, .ref aK, .ref aP, .int (iZ ((said : Nat) : Int)), .ref aT, .ref aO, .ref aQ, .ref aR, .ref aF, .ref aL, .int (iZ ((kp : Nat) : Int))]), (aS, zI (kG κ) 819 st), (aK, zB (kG κ) 2 kp_)] 0 0
        exact z_iret hk hR_ () dX2_count_68 rfl (by unfold aCount; rw [if_neg (by omega), if_pos (by omega)]) (by trivial) (zSub.ix [0, 1, 2] rfl)
      · refine z_swIn hk 69 dX2_count_25 hsw25.1 hsw25.2 (by rw [hv25]; rfl) (kk := ?_)
        refine z_aload_n hk dX2_count_69 0 rfl (kk := ?_)
        refine z_get hk in_X2 0 0 q1280 dX2_count_70 rfl rfl (kk := ?_)
        refine z_bipush (z := ((55 : Nat) : Int)) hk dX2_count_73 (kk := ?_)
        refine z_iald (i := 55) hk 1 dX2_count_75 rfl (kk := ?_) 
        have hf75 := hb 55
        exact z_iret hk hR_ () dX2_count_76 rfl (by unfold aCount; rw [if_neg (by omega), if_neg (by omega), if_pos (by omega), hm]) (by trivial) (zSub.ix [0, 1, 2] rfl)
      · refine z_swIn hk 77 dX2_count_25 hsw25.1 hsw25.2 (by rw [hv25]; rfl) (kk := ?_)
        refine z_aload_n hk dX2_count_77 0 rfl (kk := ?_)
        refine z_get hk in_X2 0 4 q1284 dX2_count_78 rfl rfl (kk := ?_)
        exact z_iret hk hR_ () dX2_count_81 rfl (by unfold aCount; rw [if_neg (by omega), if_neg (by omega), if_neg (by omega), if_pos (by omega)]) (by trivial) (zSub.ix [0, 1, 2] rfl)
      · refine z_swIn hk 82 dX2_count_25 hsw25.1 hsw25.2 (by rw [hv25]; rfl) (kk := ?_)
        refine z_aload_n hk dX2_count_82 0 rfl (kk := ?_)
        refine z_get hk in_X2 0 0 q1280 dX2_count_83 rfl rfl (kk := ?_)
        refine z_sipush (z := ((328 : Nat) : Int)) hk dX2_count_86 (kk := ?_)
        refine z_iald (i := 328) hk 1 dX2_count_89 rfl (kk := ?_) 
        have hf89 := hb 328
        exact z_iret hk hR_ () dX2_count_90 rfl (by unfold aCount; rw [if_neg (by omega), if_neg (by omega), if_neg (by omega), if_neg (by omega), if_pos (by omega)]) (by trivial) (zSub.ix [0, 1, 2] rfl)
      · refine z_swIn hk 91 dX2_count_25 hsw25.1 hsw25.2 (by rw [hv25]; rfl) (kk := ?_)
        refine z_aload_n hk dX2_count_91 0 rfl (kk := ?_)
        refine z_callV hk [] 0 [(aK, zB (kG κ) 2 kp_)] (ct_X2_liked (kL κ) (kG κ) o [.ref aS, .ref aI, .ref aK, .ref aP, .int (iZ ((said : Nat) : Int)), .ref aT, .ref aO, .ref aQ, .ref aR, .ref aF, .ref aL, .int (iZ ((kp : Nat) : Int))] aS st rfl (by first | assumption | omega)) q1344 q1346 qs29 q66 q1347 (zSub.ix [0, 1, 2] rfl) 0 2 rfl dX2_count_92 rfl (kk := fun _ _ => ?_)
        show Z κ 95 [(0, .ref o), (1, .int (iZ (what)))] [.int (iZ (((pS (fun j => st (72 + j)) 256) : Nat) : Int))] [(o, zO 2 [.ref aS, .ref aI, .ref aK, .ref aP, .int (iZ ((said : Nat) : Int)), .ref aT, .ref aO, .ref aQ, .ref aR, .ref aF, .ref aL, .int (iZ ((kp : Nat) : Int))]), (aS, zI (kG κ) 819 st), (aK, zB (kG κ) 2 kp_)] 0 0
        exact z_iret hk hR_ () dX2_count_95 rfl (by unfold aCount; rw [if_neg (by omega), if_neg (by omega), if_neg (by omega), if_neg (by omega), if_neg (by omega), if_pos (by omega), pS_cong (fun j hj => (hlk j hj).1)]) (by trivial) (zSub.ix [0, 1, 2] rfl)
      · refine z_swIn hk 96 dX2_count_25 hsw25.1 hsw25.2 (by rw [hv25]; rfl) (kk := ?_)
        refine z_aload_n hk dX2_count_96 0 rfl (kk := ?_)
        refine z_get hk in_X2 0 2 q1282 dX2_count_97 rfl rfl (kk := ?_)
        refine z_iconst (z := ((0 : Nat) : Int)) hk dX2_count_100 (kk := ?_)
        refine z_zald (i := 0) hk 2 dX2_count_101 rfl (kk := ?_) 
        have hf101 := hkp 0
        refine z_if_eq hk 109 dX2_count_102 (kt := fun h102 => ?_) (kf := fun h102 => ?_) 
        · skip
          refine z_iconst (z := ((0 : Nat) : Int)) hk dX2_count_109 (kk := ?_)
          refine z_aload_n hk dX2_count_110 0 rfl (kk := ?_)
          refine z_get hk in_X2 0 2 q1282 dX2_count_111 rfl rfl (kk := ?_)
          refine z_iconst (z := ((1 : Nat) : Int)) hk dX2_count_114 (kk := ?_)
          refine z_zald (i := 1) hk 2 dX2_count_115 rfl (kk := ?_) 
          have hf115 := hkp 1
          refine z_if_eq hk 123 dX2_count_116 (kt := fun h116 => ?_) (kf := fun h116 => ?_) 
          · skip
            refine z_iconst (z := ((0 : Nat) : Int)) hk dX2_count_123 (kk := ?_)
            refine z_iadd (z := ((0 : Nat) : Int)) hk dX2_count_124 (by omega) (kk := ?_)
            exact z_iret hk hR_ () dX2_count_125 rfl (by unfold aCount; rw [if_neg (by omega), if_neg (by omega), if_neg (by omega), if_neg (by omega), if_neg (by omega), if_neg (by omega), if_pos (by omega)]; first | (rw [show kp_ 0 = 0 from by omega, show kp_ 1 = 0 from by omega]; done) | (rw [show kp_ 0 = 1 from by omega, show kp_ 1 = 0 from by omega]; done) | (rw [show kp_ 0 = 0 from by omega, show kp_ 1 = 1 from by omega]; done) | (rw [show kp_ 0 = 1 from by omega, show kp_ 1 = 1 from by omega]; done)) (by trivial) (zSub.ix [0, 1, 2] rfl)
          · skip
            refine z_iconst (z := ((2 : Nat) : Int)) hk dX2_count_119 (kk := ?_)
            refine z_goto hk 124 dX2_count_120 (kk := ?_)
            refine z_iadd (z := ((2 : Nat) : Int)) hk dX2_count_124 (by omega) (kk := ?_)
            exact z_iret hk hR_ () dX2_count_125 rfl (by unfold aCount; rw [if_neg (by omega), if_neg (by omega), if_neg (by omega), if_neg (by omega), if_neg (by omega), if_neg (by omega), if_pos (by omega)]; first | (rw [show kp_ 0 = 0 from by omega, show kp_ 1 = 0 from by omega]; done) | (rw [show kp_ 0 = 1 from by omega, show kp_ 1 = 0 from by omega]; done) | (rw [show kp_ 0 = 0 from by omega, show kp_ 1 = 1 from by omega]; done) | (rw [show kp_ 0 = 1 from by omega, show kp_ 1 = 1 from by omega]; done)) (by trivial) (zSub.ix [0, 1, 2] rfl)
        · skip
          refine z_iconst (z := ((1 : Nat) : Int)) hk dX2_count_105 (kk := ?_)
          refine z_goto hk 110 dX2_count_106 (kk := ?_)
          refine z_aload_n hk dX2_count_110 0 rfl (kk := ?_)
          refine z_get hk in_X2 0 2 q1282 dX2_count_111 rfl rfl (kk := ?_)
          refine z_iconst (z := ((1 : Nat) : Int)) hk dX2_count_114 (kk := ?_)
          refine z_zald (i := 1) hk 2 dX2_count_115 rfl (kk := ?_) 
          have hf115 := hkp 1
          refine z_if_eq hk 123 dX2_count_116 (kt := fun h116 => ?_) (kf := fun h116 => ?_) 
          · skip
            refine z_iconst (z := ((0 : Nat) : Int)) hk dX2_count_123 (kk := ?_)
            refine z_iadd (z := ((1 : Nat) : Int)) hk dX2_count_124 (by omega) (kk := ?_)
            exact z_iret hk hR_ () dX2_count_125 rfl (by unfold aCount; rw [if_neg (by omega), if_neg (by omega), if_neg (by omega), if_neg (by omega), if_neg (by omega), if_neg (by omega), if_pos (by omega)]; first | (rw [show kp_ 0 = 0 from by omega, show kp_ 1 = 0 from by omega]; done) | (rw [show kp_ 0 = 1 from by omega, show kp_ 1 = 0 from by omega]; done) | (rw [show kp_ 0 = 0 from by omega, show kp_ 1 = 1 from by omega]; done) | (rw [show kp_ 0 = 1 from by omega, show kp_ 1 = 1 from by omega]; done)) (by trivial) (zSub.ix [0, 1, 2] rfl)
          · skip
            refine z_iconst (z := ((2 : Nat) : Int)) hk dX2_count_119 (kk := ?_)
            refine z_goto hk 124 dX2_count_120 (kk := ?_)
            refine z_iadd (z := ((3 : Nat) : Int)) hk dX2_count_124 (by omega) (kk := ?_)
            exact z_iret hk hR_ () dX2_count_125 rfl (by unfold aCount; rw [if_neg (by omega), if_neg (by omega), if_neg (by omega), if_neg (by omega), if_neg (by omega), if_neg (by omega), if_pos (by omega)]; first | (rw [show kp_ 0 = 0 from by omega, show kp_ 1 = 0 from by omega]; done) | (rw [show kp_ 0 = 1 from by omega, show kp_ 1 = 0 from by omega]; done) | (rw [show kp_ 0 = 0 from by omega, show kp_ 1 = 1 from by omega]; done) | (rw [show kp_ 0 = 1 from by omega, show kp_ 1 = 1 from by omega]; done)) (by trivial) (zSub.ix [0, 1, 2] rfl)
    · refine z_swOut hk 126 dX2_count_25 (by omega) (kk := ?_)
      refine z_bipush (z := -2) hk dX2_count_126 (kk := ?_)
      exact z_iret hk hR_ () dX2_count_128 rfl (by unfold aCount; rw [if_neg (by omega), if_neg (by omega), if_neg (by omega), if_neg (by omega), if_neg (by omega), if_neg (by omega), if_neg (by omega)]) (by trivial) (zSub.ix [0, 1, 2] rfl)
  · skip
    refine z_aload_n hk dX2_count_11 0 rfl (kk := ?_)
    refine z_get hk in_X2 0 0 q1280 dX2_count_12 rfl rfl (kk := ?_)
    refine z_bipush (z := ((56 : Nat) : Int)) hk dX2_count_15 (kk := ?_)
    refine z_iload_n hk dX2_count_17 1 rfl (kk := ?_)
    refine z_iadd (z := ((56 : Nat) : Int) + what) hk dX2_count_18 (kk := ?_)
    refine z_bipush (z := ((10 : Nat) : Int)) hk dX2_count_19 (kk := ?_)
    refine z_isub (z := ((56 : Nat) : Int) + what - ((10 : Nat) : Int)) hk dX2_count_21 (kk := ?_)
    refine z_topN (56 + (what.toNat - 10)) (by omega) ?_
    refine z_iald (i := 56 + (what.toNat - 10)) hk 1 dX2_count_22 rfl (kk := ?_) 
    have hf22 := hb (56 + (what.toNat - 10))
    exact z_iret hk hR_ () dX2_count_23 rfl (by unfold aCount; rw [if_pos (by omega), (hww _ (by omega)).1]) (by trivial) (zSub.ix [0, 1, 2] rfl)

set_option maxHeartbeats 600000 in
theorem ct_X2_init (l_ : Launch) (G : zG) (o : Nat) :
    Ct l_ G yX2_init cX2_init 1 none 2 10 2769 [.ref o] [(o, zO 2 [.null, .null, .null, .null, .int (iZ ((0 : Nat) : Int)), .null, .null, .null, .null, .null, .null, .int (iZ ((0 : Nat) : Int))])]
      (fun u : Nat × Nat × Nat × Nat × Nat × Nat × Nat × Nat × Nat × Nat => none) (fun u : Nat × Nat × Nat × Nat × Nat × Nat × Nat × Nat × Nat × Nat => True) (fun u : Nat × Nat × Nat × Nat × Nat × Nat × Nat × Nat × Nat × Nat => [(o, zO 2 [.ref u.1, .ref u.2.1, .ref u.2.2.1, .ref u.2.2.2.1, .int (iZ ((0 : Nat) : Int)), .ref u.2.2.2.2.1, .ref u.2.2.2.2.2.1, .ref u.2.2.2.2.2.2.1, .ref u.2.2.2.2.2.2.2.1, .ref u.2.2.2.2.2.2.2.2.1, .ref u.2.2.2.2.2.2.2.2.2, .int (iZ ((0 : Nat) : Int))]), (u.1, zI G 819 (va_up (fun _ => 0) 55 1)), (u.2.1, zI G 1638 (fun _ => 0)), (u.2.2.1, zB G 2 (fun _ => 0)), (u.2.2.2.1, zI G 48 (fun _ => 0)), (u.2.2.2.2.1, zI G 48 (fun _ => 0)), (u.2.2.2.2.2.1, zI G 48 (fun _ => 0)), (u.2.2.2.2.2.2.1, zI G 16 (fun _ => 0)), (u.2.2.2.2.2.2.2.1, zI G 6 (fun _ => 0)), (u.2.2.2.2.2.2.2.2.1, zI G 48 (fun _ => 0)), (u.2.2.2.2.2.2.2.2.2, zI G 96 (fun _ => 0))]) := by
  refine Ct.of (by decide) (Nat.le_of_ble_eq_true rfl) ?_
  intro κ hl_ hG_ hk hR_
  subst hl_
  subst hG_
  show Z κ 0 [(0, .ref o)] [] [(o, zO 2 [.null, .null, .null, .null, .int (iZ ((0 : Nat) : Int)), .null, .null, .null, .null, .null, .null, .int (iZ ((0 : Nat) : Int))])] 0 0
  refine z_aload_n hk dX2_init_0 0 rfl (kk := ?_)
  refine z_objInit hk q1279 q102 q103 dX2_init_1 (kk := ?_)
  refine z_aload_n hk dX2_init_4 0 rfl (kk := ?_)
  refine z_sipush (z := ((819 : Nat) : Int)) hk dX2_init_5 (kk := ?_)
  refine z_newi (n := 819) hk dX2_init_8 q133 (kk := fun q_1 => ?_) 
  show Z κ 10 [(0, .ref o)] [.ref q_1, .ref o] [(o, zO 2 [.null, .null, .null, .null, .int (iZ ((0 : Nat) : Int)), .null, .null, .null, .null, .null, .null, .int (iZ ((0 : Nat) : Int))]), (q_1, zI (kG κ) 819 (fun _ => 0))] 1 819
  refine z_putF hk in_X2 tyX2 tyX2_ok nmX2 0 0 [(o, zO 2 [.ref q_1, .null, .null, .null, .int (iZ ((0 : Nat) : Int)), .null, .null, .null, .null, .null, .null, .int (iZ ((0 : Nat) : Int))]), (q_1, zI (kG κ) 819 (fun _ => 0))] q1280 dX2_init_10 rfl (kk := ?_)
  refine z_aload_n hk dX2_init_13 0 rfl (kk := ?_)
  refine z_sipush (z := ((1638 : Nat) : Int)) hk dX2_init_14 (kk := ?_)
  refine z_newi (n := 1638) hk dX2_init_17 q133 (kk := fun q_2 => ?_) 
  show Z κ 19 [(0, .ref o)] [.ref q_2, .ref o] [(o, zO 2 [.ref q_1, .null, .null, .null, .int (iZ ((0 : Nat) : Int)), .null, .null, .null, .null, .null, .null, .int (iZ ((0 : Nat) : Int))]), (q_1, zI (kG κ) 819 (fun _ => 0)), (q_2, zI (kG κ) 1638 (fun _ => 0))] 2 2457
  refine z_putF hk in_X2 tyX2 tyX2_ok nmX2 0 1 [(o, zO 2 [.ref q_1, .ref q_2, .null, .null, .int (iZ ((0 : Nat) : Int)), .null, .null, .null, .null, .null, .null, .int (iZ ((0 : Nat) : Int))]), (q_1, zI (kG κ) 819 (fun _ => 0)), (q_2, zI (kG κ) 1638 (fun _ => 0))] q1281 dX2_init_19 rfl (kk := ?_)
  refine z_aload_n hk dX2_init_22 0 rfl (kk := ?_)
  refine z_iconst (z := ((2 : Nat) : Int)) hk dX2_init_23 (kk := ?_)
  refine z_newz (n := 2) hk dX2_init_24 q1317 (kk := fun q_3 => ?_) 
  show Z κ 26 [(0, .ref o)] [.ref q_3, .ref o] [(o, zO 2 [.ref q_1, .ref q_2, .null, .null, .int (iZ ((0 : Nat) : Int)), .null, .null, .null, .null, .null, .null, .int (iZ ((0 : Nat) : Int))]), (q_1, zI (kG κ) 819 (fun _ => 0)), (q_2, zI (kG κ) 1638 (fun _ => 0)), (q_3, zB (kG κ) 2 (fun _ => 0))] 3 2459
  refine z_putF hk in_X2 tyX2 tyX2_ok nmX2 0 2 [(o, zO 2 [.ref q_1, .ref q_2, .ref q_3, .null, .int (iZ ((0 : Nat) : Int)), .null, .null, .null, .null, .null, .null, .int (iZ ((0 : Nat) : Int))]), (q_1, zI (kG κ) 819 (fun _ => 0)), (q_2, zI (kG κ) 1638 (fun _ => 0)), (q_3, zB (kG κ) 2 (fun _ => 0))] q1282 dX2_init_26 rfl (kk := ?_)
  refine z_aload_n hk dX2_init_29 0 rfl (kk := ?_)
  refine z_bipush (z := ((48 : Nat) : Int)) hk dX2_init_30 (kk := ?_)
  refine z_newi (n := 48) hk dX2_init_32 q133 (kk := fun q_4 => ?_) 
  show Z κ 34 [(0, .ref o)] [.ref q_4, .ref o] [(o, zO 2 [.ref q_1, .ref q_2, .ref q_3, .null, .int (iZ ((0 : Nat) : Int)), .null, .null, .null, .null, .null, .null, .int (iZ ((0 : Nat) : Int))]), (q_1, zI (kG κ) 819 (fun _ => 0)), (q_2, zI (kG κ) 1638 (fun _ => 0)), (q_3, zB (kG κ) 2 (fun _ => 0)), (q_4, zI (kG κ) 48 (fun _ => 0))] 4 2507
  refine z_putF hk in_X2 tyX2 tyX2_ok nmX2 0 3 [(o, zO 2 [.ref q_1, .ref q_2, .ref q_3, .ref q_4, .int (iZ ((0 : Nat) : Int)), .null, .null, .null, .null, .null, .null, .int (iZ ((0 : Nat) : Int))]), (q_1, zI (kG κ) 819 (fun _ => 0)), (q_2, zI (kG κ) 1638 (fun _ => 0)), (q_3, zB (kG κ) 2 (fun _ => 0)), (q_4, zI (kG κ) 48 (fun _ => 0))] q1283 dX2_init_34 rfl (kk := ?_)
  refine z_aload_n hk dX2_init_37 0 rfl (kk := ?_)
  refine z_bipush (z := ((48 : Nat) : Int)) hk dX2_init_38 (kk := ?_)
  refine z_newi (n := 48) hk dX2_init_40 q133 (kk := fun q_5 => ?_) 
  show Z κ 42 [(0, .ref o)] [.ref q_5, .ref o] [(o, zO 2 [.ref q_1, .ref q_2, .ref q_3, .ref q_4, .int (iZ ((0 : Nat) : Int)), .null, .null, .null, .null, .null, .null, .int (iZ ((0 : Nat) : Int))]), (q_1, zI (kG κ) 819 (fun _ => 0)), (q_2, zI (kG κ) 1638 (fun _ => 0)), (q_3, zB (kG κ) 2 (fun _ => 0)), (q_4, zI (kG κ) 48 (fun _ => 0)), (q_5, zI (kG κ) 48 (fun _ => 0))] 5 2555
  refine z_putF hk in_X2 tyX2 tyX2_ok nmX2 0 5 [(o, zO 2 [.ref q_1, .ref q_2, .ref q_3, .ref q_4, .int (iZ ((0 : Nat) : Int)), .ref q_5, .null, .null, .null, .null, .null, .int (iZ ((0 : Nat) : Int))]), (q_1, zI (kG κ) 819 (fun _ => 0)), (q_2, zI (kG κ) 1638 (fun _ => 0)), (q_3, zB (kG κ) 2 (fun _ => 0)), (q_4, zI (kG κ) 48 (fun _ => 0)), (q_5, zI (kG κ) 48 (fun _ => 0))] q1285 dX2_init_42 rfl (kk := ?_)
  refine z_aload_n hk dX2_init_45 0 rfl (kk := ?_)
  refine z_bipush (z := ((48 : Nat) : Int)) hk dX2_init_46 (kk := ?_)
  refine z_newi (n := 48) hk dX2_init_48 q133 (kk := fun q_6 => ?_) 
  show Z κ 50 [(0, .ref o)] [.ref q_6, .ref o] [(o, zO 2 [.ref q_1, .ref q_2, .ref q_3, .ref q_4, .int (iZ ((0 : Nat) : Int)), .ref q_5, .null, .null, .null, .null, .null, .int (iZ ((0 : Nat) : Int))]), (q_1, zI (kG κ) 819 (fun _ => 0)), (q_2, zI (kG κ) 1638 (fun _ => 0)), (q_3, zB (kG κ) 2 (fun _ => 0)), (q_4, zI (kG κ) 48 (fun _ => 0)), (q_5, zI (kG κ) 48 (fun _ => 0)), (q_6, zI (kG κ) 48 (fun _ => 0))] 6 2603
  refine z_putF hk in_X2 tyX2 tyX2_ok nmX2 0 6 [(o, zO 2 [.ref q_1, .ref q_2, .ref q_3, .ref q_4, .int (iZ ((0 : Nat) : Int)), .ref q_5, .ref q_6, .null, .null, .null, .null, .int (iZ ((0 : Nat) : Int))]), (q_1, zI (kG κ) 819 (fun _ => 0)), (q_2, zI (kG κ) 1638 (fun _ => 0)), (q_3, zB (kG κ) 2 (fun _ => 0)), (q_4, zI (kG κ) 48 (fun _ => 0)), (q_5, zI (kG κ) 48 (fun _ => 0)), (q_6, zI (kG κ) 48 (fun _ => 0))] q1286 dX2_init_50 rfl (kk := ?_)
  refine z_aload_n hk dX2_init_53 0 rfl (kk := ?_)
  refine z_bipush (z := ((16 : Nat) : Int)) hk dX2_init_54 (kk := ?_)
  refine z_newi (n := 16) hk dX2_init_56 q133 (kk := fun q_7 => ?_) 
  show Z κ 58 [(0, .ref o)] [.ref q_7, .ref o] [(o, zO 2 [.ref q_1, .ref q_2, .ref q_3, .ref q_4, .int (iZ ((0 : Nat) : Int)), .ref q_5, .ref q_6, .null, .null, .null, .null, .int (iZ ((0 : Nat) : Int))]), (q_1, zI (kG κ) 819 (fun _ => 0)), (q_2, zI (kG κ) 1638 (fun _ => 0)), (q_3, zB (kG κ) 2 (fun _ => 0)), (q_4, zI (kG κ) 48 (fun _ => 0)), (q_5, zI (kG κ) 48 (fun _ => 0)), (q_6, zI (kG κ) 48 (fun _ => 0)), (q_7, zI (kG κ) 16 (fun _ => 0))] 7 2619
  refine z_putF hk in_X2 tyX2 tyX2_ok nmX2 0 7 [(o, zO 2 [.ref q_1, .ref q_2, .ref q_3, .ref q_4, .int (iZ ((0 : Nat) : Int)), .ref q_5, .ref q_6, .ref q_7, .null, .null, .null, .int (iZ ((0 : Nat) : Int))]), (q_1, zI (kG κ) 819 (fun _ => 0)), (q_2, zI (kG κ) 1638 (fun _ => 0)), (q_3, zB (kG κ) 2 (fun _ => 0)), (q_4, zI (kG κ) 48 (fun _ => 0)), (q_5, zI (kG κ) 48 (fun _ => 0)), (q_6, zI (kG κ) 48 (fun _ => 0)), (q_7, zI (kG κ) 16 (fun _ => 0))] q1287 dX2_init_58 rfl (kk := ?_)
  refine z_aload_n hk dX2_init_61 0 rfl (kk := ?_)
  refine z_bipush (z := ((6 : Nat) : Int)) hk dX2_init_62 (kk := ?_)
  refine z_newi (n := 6) hk dX2_init_64 q133 (kk := fun q_8 => ?_) 
  show Z κ 66 [(0, .ref o)] [.ref q_8, .ref o] [(o, zO 2 [.ref q_1, .ref q_2, .ref q_3, .ref q_4, .int (iZ ((0 : Nat) : Int)), .ref q_5, .ref q_6, .ref q_7, .null, .null, .null, .int (iZ ((0 : Nat) : Int))]), (q_1, zI (kG κ) 819 (fun _ => 0)), (q_2, zI (kG κ) 1638 (fun _ => 0)), (q_3, zB (kG κ) 2 (fun _ => 0)), (q_4, zI (kG κ) 48 (fun _ => 0)), (q_5, zI (kG κ) 48 (fun _ => 0)), (q_6, zI (kG κ) 48 (fun _ => 0)), (q_7, zI (kG κ) 16 (fun _ => 0)), (q_8, zI (kG κ) 6 (fun _ => 0))] 8 2625
  refine z_putF hk in_X2 tyX2 tyX2_ok nmX2 0 8 [(o, zO 2 [.ref q_1, .ref q_2, .ref q_3, .ref q_4, .int (iZ ((0 : Nat) : Int)), .ref q_5, .ref q_6, .ref q_7, .ref q_8, .null, .null, .int (iZ ((0 : Nat) : Int))]), (q_1, zI (kG κ) 819 (fun _ => 0)), (q_2, zI (kG κ) 1638 (fun _ => 0)), (q_3, zB (kG κ) 2 (fun _ => 0)), (q_4, zI (kG κ) 48 (fun _ => 0)), (q_5, zI (kG κ) 48 (fun _ => 0)), (q_6, zI (kG κ) 48 (fun _ => 0)), (q_7, zI (kG κ) 16 (fun _ => 0)), (q_8, zI (kG κ) 6 (fun _ => 0))] q1288 dX2_init_66 rfl (kk := ?_)
  refine z_aload_n hk dX2_init_69 0 rfl (kk := ?_)
  refine z_bipush (z := ((48 : Nat) : Int)) hk dX2_init_70 (kk := ?_)
  refine z_newi (n := 48) hk dX2_init_72 q133 (kk := fun q_9 => ?_) 
  show Z κ 74 [(0, .ref o)] [.ref q_9, .ref o] [(o, zO 2 [.ref q_1, .ref q_2, .ref q_3, .ref q_4, .int (iZ ((0 : Nat) : Int)), .ref q_5, .ref q_6, .ref q_7, .ref q_8, .null, .null, .int (iZ ((0 : Nat) : Int))]), (q_1, zI (kG κ) 819 (fun _ => 0)), (q_2, zI (kG κ) 1638 (fun _ => 0)), (q_3, zB (kG κ) 2 (fun _ => 0)), (q_4, zI (kG κ) 48 (fun _ => 0)), (q_5, zI (kG κ) 48 (fun _ => 0)), (q_6, zI (kG κ) 48 (fun _ => 0)), (q_7, zI (kG κ) 16 (fun _ => 0)), (q_8, zI (kG κ) 6 (fun _ => 0)), (q_9, zI (kG κ) 48 (fun _ => 0))] 9 2673
  refine z_putF hk in_X2 tyX2 tyX2_ok nmX2 0 9 [(o, zO 2 [.ref q_1, .ref q_2, .ref q_3, .ref q_4, .int (iZ ((0 : Nat) : Int)), .ref q_5, .ref q_6, .ref q_7, .ref q_8, .ref q_9, .null, .int (iZ ((0 : Nat) : Int))]), (q_1, zI (kG κ) 819 (fun _ => 0)), (q_2, zI (kG κ) 1638 (fun _ => 0)), (q_3, zB (kG κ) 2 (fun _ => 0)), (q_4, zI (kG κ) 48 (fun _ => 0)), (q_5, zI (kG κ) 48 (fun _ => 0)), (q_6, zI (kG κ) 48 (fun _ => 0)), (q_7, zI (kG κ) 16 (fun _ => 0)), (q_8, zI (kG κ) 6 (fun _ => 0)), (q_9, zI (kG κ) 48 (fun _ => 0))] q1289 dX2_init_74 rfl (kk := ?_)
  refine z_aload_n hk dX2_init_77 0 rfl (kk := ?_)
  refine z_bipush (z := ((96 : Nat) : Int)) hk dX2_init_78 (kk := ?_)
  refine z_newi (n := 96) hk dX2_init_80 q133 (kk := fun q_10 => ?_) 
  show Z κ 82 [(0, .ref o)] [.ref q_10, .ref o] [(o, zO 2 [.ref q_1, .ref q_2, .ref q_3, .ref q_4, .int (iZ ((0 : Nat) : Int)), .ref q_5, .ref q_6, .ref q_7, .ref q_8, .ref q_9, .null, .int (iZ ((0 : Nat) : Int))]), (q_1, zI (kG κ) 819 (fun _ => 0)), (q_2, zI (kG κ) 1638 (fun _ => 0)), (q_3, zB (kG κ) 2 (fun _ => 0)), (q_4, zI (kG κ) 48 (fun _ => 0)), (q_5, zI (kG κ) 48 (fun _ => 0)), (q_6, zI (kG κ) 48 (fun _ => 0)), (q_7, zI (kG κ) 16 (fun _ => 0)), (q_8, zI (kG κ) 6 (fun _ => 0)), (q_9, zI (kG κ) 48 (fun _ => 0)), (q_10, zI (kG κ) 96 (fun _ => 0))] 10 2769
  refine z_putF hk in_X2 tyX2 tyX2_ok nmX2 0 10 [(o, zO 2 [.ref q_1, .ref q_2, .ref q_3, .ref q_4, .int (iZ ((0 : Nat) : Int)), .ref q_5, .ref q_6, .ref q_7, .ref q_8, .ref q_9, .ref q_10, .int (iZ ((0 : Nat) : Int))]), (q_1, zI (kG κ) 819 (fun _ => 0)), (q_2, zI (kG κ) 1638 (fun _ => 0)), (q_3, zB (kG κ) 2 (fun _ => 0)), (q_4, zI (kG κ) 48 (fun _ => 0)), (q_5, zI (kG κ) 48 (fun _ => 0)), (q_6, zI (kG κ) 48 (fun _ => 0)), (q_7, zI (kG κ) 16 (fun _ => 0)), (q_8, zI (kG κ) 6 (fun _ => 0)), (q_9, zI (kG κ) 48 (fun _ => 0)), (q_10, zI (kG κ) 96 (fun _ => 0))] q1290 dX2_init_82 rfl (kk := ?_)
  refine z_aload_n hk dX2_init_85 0 rfl (kk := ?_)
  refine z_get hk in_X2 0 0 q1280 dX2_init_86 rfl rfl (kk := ?_)
  refine z_bipush (z := ((55 : Nat) : Int)) hk dX2_init_89 (kk := ?_)
  refine z_iconst (z := ((1 : Nat) : Int)) hk dX2_init_91 (kk := ?_)
  refine z_iast (i := 55) hk 1 [(o, zO 2 [.ref q_1, .ref q_2, .ref q_3, .ref q_4, .int (iZ ((0 : Nat) : Int)), .ref q_5, .ref q_6, .ref q_7, .ref q_8, .ref q_9, .ref q_10, .int (iZ ((0 : Nat) : Int))]), (q_1, zI (kG κ) 819 (va_up (fun _ => 0) 55 1)), (q_2, zI (kG κ) 1638 (fun _ => 0)), (q_3, zB (kG κ) 2 (fun _ => 0)), (q_4, zI (kG κ) 48 (fun _ => 0)), (q_5, zI (kG κ) 48 (fun _ => 0)), (q_6, zI (kG κ) 48 (fun _ => 0)), (q_7, zI (kG κ) 16 (fun _ => 0)), (q_8, zI (kG κ) 6 (fun _ => 0)), (q_9, zI (kG κ) 48 (fun _ => 0)), (q_10, zI (kG κ) 96 (fun _ => 0))] dX2_init_92 rfl  (kk := ?_) 
  exact z_vret hk hR_ (q_1, q_2, q_3, q_4, q_5, q_6, q_7, q_8, q_9, q_10) dX2_init_93 rfl rfl (by trivial) (zSub.ix [0, 1, 2, 3, 4, 5, 6, 7, 8, 9, 10] rfl)
