set_option maxHeartbeats 600000 in
theorem ct_X2_in (l_ : Launch) (G : zG) (v : Int) (a : Int) (b : Int) (hv : -2147483648 ≤ v ∧ v ≤ 2147483647) (ha : -2147483648 ≤ a ∧ a ≤ 2147483647) (hb : -2147483648 ≤ b ∧ b ≤ 2147483647) :
    Ct l_ G yX2_in cX2_in 3 (some .boolean) 1 0 0 [.int (iZ (v)), .int (iZ (a)), .int (iZ (b))] []
      (fun u : Nat => some (.int (iZ ((u : Nat) : Int)))) (fun u : Nat => (u = 1 ∧ a ≤ v ∧ v ≤ b) ∨ (u = 0 ∧ ¬ (a ≤ v ∧ v ≤ b))) (fun u : Nat => []) := by
  refine Ct.of (by decide) (Nat.le_of_ble_eq_true rfl) ?_
  intro κ hl_ hG_ hk hR_
  subst hl_
  subst hG_
  show Z κ 0 [(0, .int (iZ (v))), (1, .int (iZ (a))), (2, .int (iZ (b)))] [] [] 0 0
  refine z_iload_n hk dX2_in_0 0 rfl (kk := ?_)
  refine z_iload_n hk dX2_in_1 1 rfl (kk := ?_)
  refine z_icmp_lt hk 14 dX2_in_2 (kt := fun h2 => ?_) (kf := fun h2 => ?_) 
  · skip
    refine z_iconst (z := ((0 : Nat) : Int)) hk dX2_in_14 (kk := ?_)
    exact z_zret hk hR_ 0 (by omega) dX2_in_15 rfl rfl (by first | assumption | omega) (zSub.ix [] rfl)
  · skip
    refine z_iload_n hk dX2_in_5 0 rfl (kk := ?_)
    refine z_iload_n hk dX2_in_6 2 rfl (kk := ?_)
    refine z_icmp_gt hk 14 dX2_in_7 (kt := fun h7 => ?_) (kf := fun h7 => ?_) 
    · skip
      refine z_iconst (z := ((0 : Nat) : Int)) hk dX2_in_14 (kk := ?_)
      exact z_zret hk hR_ 0 (by omega) dX2_in_15 rfl rfl (by first | assumption | omega) (zSub.ix [] rfl)
    · skip
      refine z_iconst (z := ((1 : Nat) : Int)) hk dX2_in_10 (kk := ?_)
      refine z_goto hk 15 dX2_in_11 (kk := ?_)
      exact z_zret hk hR_ 1 (by omega) dX2_in_15 rfl rfl (by first | assumption | omega) (zSub.ix [] rfl)

set_option maxHeartbeats 600000 in
theorem ct_X2_isLetter (l_ : Launch) (G : zG) (v : Int) (hv : -2147483648 ≤ v ∧ v ≤ 2147483647) :
    Ct l_ G yX2_isLetter cX2_isLetter 1 (some .boolean) 2 0 0 [.int (iZ (v))] []
      (fun u : Nat => some (.int (iZ ((u : Nat) : Int)))) (fun u : Nat => (u = 1 ∧ 0 ≤ v ∧ v ≤ 15) ∨ (u = 0 ∧ ¬ (0 ≤ v ∧ v ≤ 15))) (fun u : Nat => []) := by
  refine Ct.of (by decide) (Nat.le_of_ble_eq_true rfl) ?_
  intro κ hl_ hG_ hk hR_
  subst hl_
  subst hG_
  show Z κ 0 [(0, .int (iZ (v)))] [] [] 0 0
  refine z_iload_n hk dX2_isLetter_0 0 rfl (kk := ?_)
  refine z_iconst (z := ((0 : Nat) : Int)) hk dX2_isLetter_1 (kk := ?_)
  refine z_bipush (z := ((15 : Nat) : Int)) hk dX2_isLetter_2 (kk := ?_)
  refine z_callS hk [.int (iZ (v)), .int (iZ ((0 : Nat) : Int)), .int (iZ ((15 : Nat) : Int))] 3 [] (ct_X2_in (kL κ) (kG κ) v ((0 : Nat) : Int) ((15 : Nat) : Int) (by first | assumption | omega) (by first | assumption | omega) (by first | assumption | omega)) q1322 q1323 q66 q1324 (zSub.ix [] rfl) dX2_isLetter_4 rfl (kk := fun u_1 hu4 => ?_)
  obtain ⟨u0_2, rfl⟩ : ∃ z_, z_ = u_1 := ⟨_, rfl⟩
  have hu4 : (u0_2 = 1 ∧ ((0 : Nat) : Int) ≤ v ∧ v ≤ ((15 : Nat) : Int)) ∨ (u0_2 = 0 ∧ ¬ (((0 : Nat) : Int) ≤ v ∧ v ≤ ((15 : Nat) : Int))) := hu4
  show Z κ 7 [(0, .int (iZ (v)))] [.int (iZ ((u0_2 : Nat) : Int))] [] 0 0
  exact z_zret hk hR_ u0_2 (by omega) dX2_isLetter_7 rfl rfl (by first | assumption | omega) (zSub.ix [] rfl)

set_option maxHeartbeats 600000 in
theorem ct_X2_many (l_ : Launch) (G : zG) (o : Nat) (fs : List Value) (aS : Nat) (st : Nat → Nat) (n : Nat) (hF0 : fs[0]? = some (.ref aS)) (hn : st 48 = n) :
    Ct l_ G yX2_many cX2_many 1 (some .int) 1 0 0 [.ref o] [(o, zO 2 fs), (aS, zI G 819 st)]
      (fun _u : Unit => some (.int (iZ ((n : Nat) : Int)))) (fun _u : Unit => True) (fun _u : Unit => [(o, zO 2 fs), (aS, zI G 819 st)]) := by
  refine Ct.of (by decide) (Nat.le_of_ble_eq_true rfl) ?_
  intro κ hl_ hG_ hk hR_
  subst hl_
  subst hG_
  show Z κ 0 [(0, .ref o)] [] [(o, zO 2 fs), (aS, zI (kG κ) 819 st)] 0 0
  refine z_aload_n hk dX2_many_0 0 rfl (kk := ?_)
  refine z_get hk in_X2 0 0 q1280 dX2_many_1 rfl hF0 (kk := ?_)
  refine z_bipush (z := ((48 : Nat) : Int)) hk dX2_many_4 (kk := ?_)
  refine z_iald (i := 48) hk 1 dX2_many_6 rfl (kk := ?_) 
  exact z_iret hk hR_ () dX2_many_7 rfl (by rw [hn]) (by trivial) (zSub.ix [0, 1] rfl)

set_option maxHeartbeats 600000 in
theorem ct_X2_sameAt (l_ : Launch) (G : zG) (o : Nat) (fs : List Value) (aS : Nat) (st : Nat → Nat) (n : Nat) (t : Nat → Nat) (dd : Nat) (hF0 : fs[0]? = some (.ref aS)) (hn : st 48 = n) (hn48 : n ≤ 48) (ht : ∀ j, j < n → st j = t j ∧ t j < 16) (hd : 1 ≤ dd ∧ dd ≤ 47) (hb : ∀ j, st j < 100) :
    Ct l_ G yX2_sameAt cX2_sameAt 4 (some .int) 2 0 0 [.ref o, .int (iZ ((dd : Nat) : Int))] [(o, zO 2 fs), (aS, zI G 819 st)]
      (fun _u : Unit => some (.int (iZ (((aSame t n dd) : Nat) : Int)))) (fun _u : Unit => True) (fun _u : Unit => [(o, zO 2 fs), (aS, zI G 819 st)]) := by
  refine Ct.of (by decide) (Nat.le_of_ble_eq_true rfl) ?_
  intro κ hl_ hG_ hk hR_
  subst hl_
  subst hG_
  show Z κ 0 [(0, .ref o), (1, .int (iZ ((dd : Nat) : Int)))] [] [(o, zO 2 fs), (aS, zI (kG κ) 819 st)] 0 0
  refine z_iconst (z := ((0 : Nat) : Int)) hk dX2_sameAt_0 (kk := ?_)
  refine z_istore_n hk [(2, .int (iZ ((0 : Nat) : Int))), (0, .ref o), (1, .int (iZ ((dd : Nat) : Int)))] dX2_sameAt_1 (kk := ?_)
  refine z_iconst (z := ((0 : Nat) : Int)) hk dX2_sameAt_2 (kk := ?_)
  refine z_istore_n hk [(3, .int (iZ ((0 : Nat) : Int))), (2, .int (iZ ((0 : Nat) : Int))), (0, .ref o), (1, .int (iZ ((dd : Nat) : Int)))] dX2_sameAt_3 (kk := ?_)
  have L4 : ∀ (f_ : Nat) (i : Nat) (r : Nat), (i ≤ n - dd) → (r = pC (fun i => decide (t i = t (i + dd))) i) → n - i < f_ → Z κ 4 [(3, .int (iZ ((i : Nat) : Int))), (2, .int (iZ ((r : Nat) : Int))), (0, .ref o), (1, .int (iZ ((dd : Nat) : Int)))] [] [(o, zO 2 fs), (aS, zI (kG κ) 819 st)] 0 0 := by
    intro f_
    induction f_ with
    | zero => intro i r hi hr hm_; exact absurd hm_ (Nat.not_lt_zero _)
    | succ f_ ih4 =>
      intro i r hi hr hm_
      refine z_iload_n hk dX2_sameAt_4 0 rfl (kk := ?_)
      refine z_iload_n hk dX2_sameAt_5 3 rfl (kk := ?_)
      refine z_iadd (z := ((i + dd : Nat) : Int)) hk dX2_sameAt_6 (Int.natCast_add _ _).symm (kk := ?_)
      refine z_aload_n hk dX2_sameAt_7 2 rfl (kk := ?_)
      refine z_callV hk [] 0 [] (ct_X2_many (kL κ) (kG κ) o fs aS st n hF0 (by first | assumption | omega)) q1352 q1354 qs30 q66 q1355 (zSub.ix [0, 1] rfl) 0 2 rfl dX2_sameAt_8 rfl (kk := fun _ _ => ?_)
      show Z κ 11 [(3, .int (iZ ((i : Nat) : Int))), (2, .int (iZ ((r : Nat) : Int))), (0, .ref o), (1, .int (iZ ((dd : Nat) : Int)))] [.int (iZ ((n : Nat) : Int)), .int (iZ ((i + dd : Nat) : Int))] [(o, zO 2 fs), (aS, zI (kG κ) 819 st)] 0 0
      refine z_icmp_ge hk 49 dX2_sameAt_11 (kt := fun h11 => ?_) (kf := fun h11 => ?_) 
      · skip
        refine z_iload_n hk dX2_sameAt_49 1 rfl (kk := ?_)
        exact z_iret hk hR_ () dX2_sameAt_50 rfl (by rw [aSame, hr, show i = n - dd from by omega]) (by trivial) (zSub.ix [0, 1] rfl)
      · skip
        refine z_iload_n hk dX2_sameAt_14 1 rfl (kk := ?_)
        refine z_aload_n hk dX2_sameAt_15 2 rfl (kk := ?_)
        refine z_get hk in_X2 0 0 q1280 dX2_sameAt_16 rfl hF0 (kk := ?_)
        refine z_iconst (z := ((0 : Nat) : Int)) hk dX2_sameAt_19 (kk := ?_)
        refine z_iload_n hk dX2_sameAt_20 0 rfl (kk := ?_)
        refine z_iadd (z := ((i : Nat) : Int)) hk dX2_sameAt_21 (by omega) (kk := ?_)
        refine z_iald (i := i) hk 1 dX2_sameAt_22 rfl (kk := ?_) 
        have hf22 := hb i
        refine z_aload_n hk dX2_sameAt_23 2 rfl (kk := ?_)
        refine z_get hk in_X2 0 0 q1280 dX2_sameAt_24 rfl hF0 (kk := ?_)
        refine z_iconst (z := ((0 : Nat) : Int)) hk dX2_sameAt_27 (kk := ?_)
        refine z_iload_n hk dX2_sameAt_28 0 rfl (kk := ?_)
        refine z_iadd (z := ((i : Nat) : Int)) hk dX2_sameAt_29 (by omega) (kk := ?_)
        refine z_iload_n hk dX2_sameAt_30 3 rfl (kk := ?_)
        refine z_iadd (z := ((i + dd : Nat) : Int)) hk dX2_sameAt_31 (Int.natCast_add _ _).symm (kk := ?_)
        refine z_iald (i := i + dd) hk 1 dX2_sameAt_32 rfl (kk := ?_) 
        have hf32 := hb (i + dd)
        have g1 := ht i (by omega)
        have g2 := ht (i + dd) (by omega)
        refine z_icmp_ne hk 40 dX2_sameAt_33 (kt := fun h33 => ?_) (kf := fun h33 => ?_) 
        · skip
          refine z_iconst (z := ((0 : Nat) : Int)) hk dX2_sameAt_40 (kk := ?_)
          refine z_iadd (z := ((r : Nat) : Int)) hk dX2_sameAt_41 (by omega) (kk := ?_)
          refine z_istore_n hk [(2, .int (iZ ((r : Nat) : Int))), (3, .int (iZ ((i : Nat) : Int))), (0, .ref o), (1, .int (iZ ((dd : Nat) : Int)))] dX2_sameAt_42 (kk := ?_)
          refine z_iinc hk (z' := ((i + 1 : Nat) : Int)) [(3, .int (iZ ((i + 1 : Nat) : Int))), (2, .int (iZ ((r : Nat) : Int))), (0, .ref o), (1, .int (iZ ((dd : Nat) : Int)))] dX2_sameAt_43 1 rfl (kk := ?_)
          refine z_goto hk 4 dX2_sameAt_46 (kk := ?_)
          exact ih4  (i + 1) r (by first | assumption | omega) (by first | exact pC_yes hr (decide_eq_true (by omega)) | exact pC_no hr (decide_eq_false (by omega))) (by omega)
        · skip
          refine z_iconst (z := ((1 : Nat) : Int)) hk dX2_sameAt_36 (kk := ?_)
          refine z_goto hk 41 dX2_sameAt_37 (kk := ?_)
          refine z_iadd (z := ((r + 1 : Nat) : Int)) hk dX2_sameAt_41 (Int.natCast_add _ _).symm (kk := ?_)
          refine z_istore_n hk [(2, .int (iZ ((r + 1 : Nat) : Int))), (3, .int (iZ ((i : Nat) : Int))), (0, .ref o), (1, .int (iZ ((dd : Nat) : Int)))] dX2_sameAt_42 (kk := ?_)
          refine z_iinc hk (z' := ((i + 1 : Nat) : Int)) [(3, .int (iZ ((i + 1 : Nat) : Int))), (2, .int (iZ ((r + 1 : Nat) : Int))), (0, .ref o), (1, .int (iZ ((dd : Nat) : Int)))] dX2_sameAt_43 1 rfl (kk := ?_)
          refine z_goto hk 4 dX2_sameAt_46 (kk := ?_)
          exact ih4  (i + 1) (r + 1) (by first | assumption | omega) (by first | exact pC_yes hr (decide_eq_true (by omega)) | exact pC_no hr (decide_eq_false (by omega))) (by omega)
  exact L4 (n - 0 + 1) 0 0 (by first | assumption | omega) (by rfl) (Nat.lt_succ_self _)

set_option maxHeartbeats 600000 in
theorem ct_X2_say (l_ : Launch) (G : zG) (o : Nat) (aS : Nat) (aI : Nat) (aK : Nat) (aP : Nat) (aT : Nat) (aO : Nat) (aQ : Nat) (aR : Nat) (aF : Nat) (aL : Nat) (said : Nat) (kp : Nat) (pad : Nat → Nat) (v : Int) (hv : -2147483648 ≤ v ∧ v ≤ 2147483647) (hs : said ≤ 48) :
    Ct l_ G yX2_say cX2_say 2 (some .int) 2 0 0 [.ref o, .int (iZ (v))] [(o, zO 2 [.ref aS, .ref aI, .ref aK, .ref aP, .int (iZ ((said : Nat) : Int)), .ref aT, .ref aO, .ref aQ, .ref aR, .ref aF, .ref aL, .int (iZ ((kp : Nat) : Int))]), (aP, zI G 48 pad)]
      (fun u : Int × Nat × (Nat → Nat) => some (.int (iZ (u.1)))) (fun u : Int × Nat × (Nat → Nat) => (¬ (33 ≤ v ∧ v ≤ 126) ∧ u.1 = -2 ∧ u.2.1 = said ∧ u.2.2 = pad) ∨ ((33 ≤ v ∧ v ≤ 126) ∧ said = 48 ∧ u.1 = -4 ∧ u.2.1 = said ∧ u.2.2 = pad) ∨ ((33 ≤ v ∧ v ≤ 126) ∧ said < 48 ∧ u.1 = said + 1 ∧ u.2.1 = said + 1 ∧ u.2.2 = va_up pad said v.toNat)) (fun u : Int × Nat × (Nat → Nat) => [(o, zO 2 [.ref aS, .ref aI, .ref aK, .ref aP, .int (iZ ((u.2.1 : Nat) : Int)), .ref aT, .ref aO, .ref aQ, .ref aR, .ref aF, .ref aL, .int (iZ ((kp : Nat) : Int))]), (aP, zI G 48 u.2.2)]) := by
  refine Ct.of (by decide) (Nat.le_of_ble_eq_true rfl) ?_
  intro κ hl_ hG_ hk hR_
  subst hl_
  subst hG_
  show Z κ 0 [(0, .ref o), (1, .int (iZ (v)))] [] [(o, zO 2 [.ref aS, .ref aI, .ref aK, .ref aP, .int (iZ ((said : Nat) : Int)), .ref aT, .ref aO, .ref aQ, .ref aR, .ref aF, .ref aL, .int (iZ ((kp : Nat) : Int))]), (aP, zI (kG κ) 48 pad)] 0 0
  refine z_iload_n hk dX2_say_0 1 rfl (kk := ?_)
  refine z_bipush (z := ((33 : Nat) : Int)) hk dX2_say_1 (kk := ?_)
  refine z_bipush (z := ((126 : Nat) : Int)) hk dX2_say_3 (kk := ?_)
  refine z_callS hk [.int (iZ (v)), .int (iZ ((33 : Nat) : Int)), .int (iZ ((126 : Nat) : Int))] 3 [(o, zO 2 [.ref aS, .ref aI, .ref aK, .ref aP, .int (iZ ((said : Nat) : Int)), .ref aT, .ref aO, .ref aQ, .ref aR, .ref aF, .ref aL, .int (iZ ((kp : Nat) : Int))]), (aP, zI (kG κ) 48 pad)] (ct_X2_in (kL κ) (kG κ) v ((33 : Nat) : Int) ((126 : Nat) : Int) (by first | assumption | omega) (by first | assumption | omega) (by first | assumption | omega)) q1322 q1323 q66 q1324 (zSub.ix [0, 1] rfl) dX2_say_5 rfl (kk := fun u_1 hu5 => ?_)
  obtain ⟨u0_2, rfl⟩ : ∃ z_, z_ = u_1 := ⟨_, rfl⟩
  have hu5 : (u0_2 = 1 ∧ ((33 : Nat) : Int) ≤ v ∧ v ≤ ((126 : Nat) : Int)) ∨ (u0_2 = 0 ∧ ¬ (((33 : Nat) : Int) ≤ v ∧ v ≤ ((126 : Nat) : Int))) := hu5
  show Z κ 8 [(0, .ref o), (1, .int (iZ (v)))] [.int (iZ ((u0_2 : Nat) : Int))] [(o, zO 2 [.ref aS, .ref aI, .ref aK, .ref aP, .int (iZ ((said : Nat) : Int)), .ref aT, .ref aO, .ref aQ, .ref aR, .ref aF, .ref aL, .int (iZ ((kp : Nat) : Int))]), (aP, zI (kG κ) 48 pad)] 0 0
  refine z_if_ne hk 14 dX2_say_8 (kt := fun h8 => ?_) (kf := fun h8 => ?_) 
  · skip
    refine z_aload_n hk dX2_say_14 0 rfl (kk := ?_)
    refine z_get hk in_X2 0 4 q1284 dX2_say_15 rfl rfl (kk := ?_)
    refine z_bipush (z := ((48 : Nat) : Int)) hk dX2_say_18 (kk := ?_)
    refine z_icmp_ne hk 26 dX2_say_20 (kt := fun h20 => ?_) (kf := fun h20 => ?_) 
    · skip
      refine z_aload_n hk dX2_say_26 0 rfl (kk := ?_)
      refine z_get hk in_X2 0 3 q1283 dX2_say_27 rfl rfl (kk := ?_)
      refine z_aload_n hk dX2_say_30 0 rfl (kk := ?_)
      refine z_get hk in_X2 0 4 q1284 dX2_say_31 rfl rfl (kk := ?_)
      refine z_iload_n hk dX2_say_34 1 rfl (kk := ?_)
      refine z_topN (v.toNat) (by omega) ?_
      refine z_iast (i := said) hk 1 [(o, zO 2 [.ref aS, .ref aI, .ref aK, .ref aP, .int (iZ ((said : Nat) : Int)), .ref aT, .ref aO, .ref aQ, .ref aR, .ref aF, .ref aL, .int (iZ ((kp : Nat) : Int))]), (aP, zI (kG κ) 48 (va_up pad said v.toNat))] dX2_say_35 rfl  (kk := ?_) 
      refine z_aload_n hk dX2_say_36 0 rfl (kk := ?_)
      refine z_dup hk dX2_say_37 (kk := ?_)
      refine z_get hk in_X2 0 4 q1284 dX2_say_38 rfl rfl (kk := ?_)
      refine z_iconst (z := ((1 : Nat) : Int)) hk dX2_say_41 (kk := ?_)
      refine z_iadd (z := ((said + 1 : Nat) : Int)) hk dX2_say_42 (Int.natCast_add _ _).symm (kk := ?_)
      refine z_put hk in_X2 tyX2 tyX2_ok nmX2 0 4 [(o, zO 2 [.ref aS, .ref aI, .ref aK, .ref aP, .int (iZ ((said + 1 : Nat) : Int)), .ref aT, .ref aO, .ref aQ, .ref aR, .ref aF, .ref aL, .int (iZ ((kp : Nat) : Int))]), (aP, zI (kG κ) 48 (va_up pad said v.toNat))] q1284 dX2_say_43 rfl (kk := ?_)
      refine z_aload_n hk dX2_say_46 0 rfl (kk := ?_)
      refine z_get hk in_X2 0 4 q1284 dX2_say_47 rfl rfl (kk := ?_)
      exact z_iret hk hR_ (((said + 1 : Nat) : Int), said + 1, va_up pad said v.toNat) dX2_say_50 rfl rfl (by (try dsimp only); exact Or.inr (Or.inr ⟨by omega, by omega, by omega, rfl, rfl⟩)) (zSub.ix [0, 1] rfl)
    · skip
      refine z_bipush (z := -4) hk dX2_say_23 (kk := ?_)
      exact z_iret hk hR_ (-4, said, pad) dX2_say_25 rfl rfl (by (try dsimp only); exact Or.inr (Or.inl ⟨by omega, by omega, rfl, rfl, rfl⟩)) (zSub.ix [0, 1] rfl)
  · skip
    refine z_bipush (z := -2) hk dX2_say_11 (kk := ?_)
    exact z_iret hk hR_ (-2, said, pad) dX2_say_13 rfl rfl (by (try dsimp only); exact Or.inl ⟨by omega, rfl, rfl, rfl⟩) (zSub.ix [0, 1] rfl)

set_option maxHeartbeats 600000 in
theorem ct_X2_wipe (l_ : Launch) (G : zG) (o : Nat) (aS : Nat) (aI : Nat) (aK : Nat) (aP : Nat) (aT : Nat) (aO : Nat) (aQ : Nat) (aR : Nat) (aF : Nat) (aL : Nat) (said : Nat) (kp : Nat) (hs : said ≤ 48) :
    Ct l_ G yX2_wipe cX2_wipe 2 (some .int) 1 0 0 [.ref o] [(o, zO 2 [.ref aS, .ref aI, .ref aK, .ref aP, .int (iZ ((said : Nat) : Int)), .ref aT, .ref aO, .ref aQ, .ref aR, .ref aF, .ref aL, .int (iZ ((kp : Nat) : Int))])]
      (fun _u : Unit => some (.int (iZ ((said : Nat) : Int)))) (fun _u : Unit => True) (fun _u : Unit => [(o, zO 2 [.ref aS, .ref aI, .ref aK, .ref aP, .int (iZ ((0 : Nat) : Int)), .ref aT, .ref aO, .ref aQ, .ref aR, .ref aF, .ref aL, .int (iZ ((kp : Nat) : Int))])]) := by
  refine Ct.of (by decide) (Nat.le_of_ble_eq_true rfl) ?_
  intro κ hl_ hG_ hk hR_
  subst hl_
  subst hG_
  show Z κ 0 [(0, .ref o)] [] [(o, zO 2 [.ref aS, .ref aI, .ref aK, .ref aP, .int (iZ ((said : Nat) : Int)), .ref aT, .ref aO, .ref aQ, .ref aR, .ref aF, .ref aL, .int (iZ ((kp : Nat) : Int))])] 0 0
  refine z_aload_n hk dX2_wipe_0 0 rfl (kk := ?_)
  refine z_get hk in_X2 0 4 q1284 dX2_wipe_1 rfl rfl (kk := ?_)
  refine z_istore_n hk [(1, .int (iZ ((said : Nat) : Int))), (0, .ref o)] dX2_wipe_4 (kk := ?_)
  refine z_aload_n hk dX2_wipe_5 1 rfl (kk := ?_)
  refine z_iconst (z := ((0 : Nat) : Int)) hk dX2_wipe_6 (kk := ?_)
  refine z_put hk in_X2 tyX2 tyX2_ok nmX2 0 4 [(o, zO 2 [.ref aS, .ref aI, .ref aK, .ref aP, .int (iZ ((0 : Nat) : Int)), .ref aT, .ref aO, .ref aQ, .ref aR, .ref aF, .ref aL, .int (iZ ((kp : Nat) : Int))])] q1284 dX2_wipe_7 rfl (kk := ?_)
  refine z_iload_n hk dX2_wipe_10 0 rfl (kk := ?_)
  exact z_iret hk hR_ () dX2_wipe_11 rfl rfl (by trivial) (zSub.ix [0] rfl)

set_option maxHeartbeats 600000 in
theorem ct_X2_take (l_ : Launch) (G : zG) (o : Nat) (aS : Nat) (aI : Nat) (aK : Nat) (aP : Nat) (aT : Nat) (aO : Nat) (aQ : Nat) (aR : Nat) (aF : Nat) (aL : Nat) (said : Nat) (kp : Nat) (st : Nat → Nat) (pad : Nat → Nat) (what : Int) (hv : -2147483648 ≤ what ∧ what ≤ 2147483647) (hs : said ≤ 48) (hp : ∀ j, pad j < 127) (hb : ∀ j, st j < 100) :
    Ct l_ G yX2_take cX2_take 4 (some .int) 2 0 0 [.ref o, .int (iZ (what))] [(o, zO 2 [.ref aS, .ref aI, .ref aK, .ref aP, .int (iZ ((said : Nat) : Int)), .ref aT, .ref aO, .ref aQ, .ref aR, .ref aF, .ref aL, .int (iZ ((kp : Nat) : Int))]), (aS, zI G 819 st), (aP, zI G 48 pad)]
      (fun u : Int × Nat × (Nat → Nat) => some (.int (iZ (u.1)))) (fun u : Int × Nat × (Nat → Nat) => (¬ (0 ≤ what ∧ what ≤ 1) ∧ u.1 = -2 ∧ u.2.1 = said ∧ u.2.2 = st) ∨ ((0 ≤ what ∧ what ≤ 1) ∧ ¬ tkOK what said pad ∧ u.1 = -7 ∧ u.2.1 = said ∧ u.2.2 = st) ∨ (what = 0 ∧ tkOK what said pad ∧ u.1 = said ∧ u.2.1 = 0 ∧ u.2.2 = va_up (pP st (fun j => pad j - 97) 0 said) 48 said) ∨ (what = 1 ∧ tkOK what said pad ∧ u.1 = said ∧ u.2.1 = 0 ∧ u.2.2 = va_up (pP st (fun j => pad j - 97) 49 said) 55 said)) (fun u : Int × Nat × (Nat → Nat) => [(o, zO 2 [.ref aS, .ref aI, .ref aK, .ref aP, .int (iZ ((u.2.1 : Nat) : Int)), .ref aT, .ref aO, .ref aQ, .ref aR, .ref aF, .ref aL, .int (iZ ((kp : Nat) : Int))]), (aS, zI G 819 u.2.2), (aP, zI G 48 pad)]) := by
  refine Ct.of (by decide) (Nat.le_of_ble_eq_true rfl) ?_
  intro κ hl_ hG_ hk hR_
  subst hl_
  subst hG_
  show Z κ 0 [(0, .ref o), (1, .int (iZ (what)))] [] [(o, zO 2 [.ref aS, .ref aI, .ref aK, .ref aP, .int (iZ ((said : Nat) : Int)), .ref aT, .ref aO, .ref aQ, .ref aR, .ref aF, .ref aL, .int (iZ ((kp : Nat) : Int))]), (aS, zI (kG κ) 819 st), (aP, zI (kG κ) 48 pad)] 0 0
  refine z_iload_n hk dX2_take_0 1 rfl (kk := ?_)
  refine z_iconst (z := ((0 : Nat) : Int)) hk dX2_take_1 (kk := ?_)
  refine z_iconst (z := ((1 : Nat) : Int)) hk dX2_take_2 (kk := ?_)
  refine z_callS hk [.int (iZ (what)), .int (iZ ((0 : Nat) : Int)), .int (iZ ((1 : Nat) : Int))] 3 [(o, zO 2 [.ref aS, .ref aI, .ref aK, .ref aP, .int (iZ ((said : Nat) : Int)), .ref aT, .ref aO, .ref aQ, .ref aR, .ref aF, .ref aL, .int (iZ ((kp : Nat) : Int))]), (aS, zI (kG κ) 819 st), (aP, zI (kG κ) 48 pad)] (ct_X2_in (kL κ) (kG κ) what ((0 : Nat) : Int) ((1 : Nat) : Int) (by first | assumption | omega) (by first | assumption | omega) (by first | assumption | omega)) q1322 q1323 q66 q1324 (zSub.ix [0, 1, 2] rfl) dX2_take_3 rfl (kk := fun u_1 hu3 => ?_)
  obtain ⟨u0_2, rfl⟩ : ∃ z_, z_ = u_1 := ⟨_, rfl⟩
  have hu3 : (u0_2 = 1 ∧ ((0 : Nat) : Int) ≤ what ∧ what ≤ ((1 : Nat) : Int)) ∨ (u0_2 = 0 ∧ ¬ (((0 : Nat) : Int) ≤ what ∧ what ≤ ((1 : Nat) : Int))) := hu3
  show Z κ 6 [(0, .ref o), (1, .int (iZ (what)))] [.int (iZ ((u0_2 : Nat) : Int))] [(o, zO 2 [.ref aS, .ref aI, .ref aK, .ref aP, .int (iZ ((said : Nat) : Int)), .ref aT, .ref aO, .ref aQ, .ref aR, .ref aF, .ref aL, .int (iZ ((kp : Nat) : Int))]), (aS, zI (kG κ) 819 st), (aP, zI (kG κ) 48 pad)] 0 0
  refine z_if_ne hk 12 dX2_take_6 (kt := fun h6 => ?_) (kf := fun h6 => ?_) 
  · skip
    have J34 : ∀ (b0 : Nat), ((b0 = 1 ∧ (what = 0 ∨ (1 ≤ said ∧ said ≤ 6))) ∨ (b0 = 0 ∧ ¬ (what = 0 ∨ (1 ≤ said ∧ said ≤ 6)))) → Z κ 34 [(0, .ref o), (1, .int (iZ (what)))] [.int (iZ ((b0 : Nat) : Int))] [(o, zO 2 [.ref aS, .ref aI, .ref aK, .ref aP, .int (iZ ((said : Nat) : Int)), .ref aT, .ref aO, .ref aQ, .ref aR, .ref aF, .ref aL, .int (iZ ((kp : Nat) : Int))]), (aS, zI (kG κ) 819 st), (aP, zI (kG κ) 48 pad)] 0 0 := by
      intro b0 hb0
      refine z_istore_n hk [(2, .int (iZ ((b0 : Nat) : Int))), (0, .ref o), (1, .int (iZ (what)))] dX2_take_34 (kk := ?_)
      refine z_iconst (z := ((0 : Nat) : Int)) hk dX2_take_35 (kk := ?_)
      refine z_istore_n hk [(3, .int (iZ ((0 : Nat) : Int))), (2, .int (iZ ((b0 : Nat) : Int))), (0, .ref o), (1, .int (iZ (what)))] dX2_take_36 (kk := ?_)
      have L37 : ∀ (f_ : Nat) (i : Nat) (b : Nat), (i ≤ said) → ((b = 1 ∧ (what = 0 ∨ (1 ≤ said ∧ said ≤ 6)) ∧ pC (gL pad) i = i) ∨ (b = 0 ∧ ¬ ((what = 0 ∨ (1 ≤ said ∧ said ≤ 6)) ∧ pC (gL pad) i = i))) → said - i < f_ → Z κ 37 [(3, .int (iZ ((i : Nat) : Int))), (2, .int (iZ ((b : Nat) : Int))), (0, .ref o), (1, .int (iZ (what)))] [] [(o, zO 2 [.ref aS, .ref aI, .ref aK, .ref aP, .int (iZ ((said : Nat) : Int)), .ref aT, .ref aO, .ref aQ, .ref aR, .ref aF, .ref aL, .int (iZ ((kp : Nat) : Int))]), (aS, zI (kG κ) 819 st), (aP, zI (kG κ) 48 pad)] 0 0 := by
        intro f_
        induction f_ with
        | zero => intro i b hi hbb hm_; exact absurd hm_ (Nat.not_lt_zero _)
        | succ f_ ih37 =>
          intro i b hi hbb hm_
          refine z_iload_n hk dX2_take_37 0 rfl (kk := ?_)
          refine z_aload_n hk dX2_take_38 2 rfl (kk := ?_)
          refine z_get hk in_X2 0 4 q1284 dX2_take_39 rfl rfl (kk := ?_)
          refine z_icmp_ge hk 77 dX2_take_42 (kt := fun h42 => ?_) (kf := fun h42 => ?_) 
          · skip
            refine z_iload_n hk dX2_take_77 1 rfl (kk := ?_)
            refine z_if_ne hk 84 dX2_take_78 (kt := fun h78 => ?_) (kf := fun h78 => ?_) 
            · skip
              have hok : pC (gL pad) said = said := by have hi2 : i = said := (by omega); rw [hi2] at hbb; omega
              have hC0 : what = 0 ∨ (1 ≤ said ∧ said ≤ 6) := by omega
              obtain ⟨bs, hbs⟩ : ∃ bs : Nat, (what = 0 ∧ bs = 0) ∨ (what = 1 ∧ bs = 49) := by
                    rcases (show what = 0 ∨ what = 1 by omega) with h | h
                    · exact ⟨0, Or.inl ⟨h, rfl⟩⟩
                    · exact ⟨49, Or.inr ⟨h, rfl⟩⟩
              refine z_iconst (z := ((0 : Nat) : Int)) hk dX2_take_84 (kk := ?_)
              refine z_istore_n hk [(3, .int (iZ ((0 : Nat) : Int))), (2, .int (iZ ((b : Nat) : Int))), (0, .ref o), (1, .int (iZ (what)))] dX2_take_85 (kk := ?_)
              have L86 : ∀ (f_ : Nat) (i : Nat) (s2 : Nat → Nat), (i ≤ said) → (s2 = pP st (fun j => pad j - 97) bs i) → said - i < f_ → Z κ 86 [(3, .int (iZ ((i : Nat) : Int))), (2, .int (iZ ((b : Nat) : Int))), (0, .ref o), (1, .int (iZ (what)))] [] [(o, zO 2 [.ref aS, .ref aI, .ref aK, .ref aP, .int (iZ ((said : Nat) : Int)), .ref aT, .ref aO, .ref aQ, .ref aR, .ref aF, .ref aL, .int (iZ ((kp : Nat) : Int))]), (aS, zI (kG κ) 819 s2), (aP, zI (kG κ) 48 pad)] 0 0 := by
                intro f_
                induction f_ with
                | zero => intro i s2 hi hs2 hm_; exact absurd hm_ (Nat.not_lt_zero _)
                | succ f_ ih86 =>
                  intro i s2 hi hs2 hm_
                  refine z_iload_n hk dX2_take_86 0 rfl (kk := ?_)
                  refine z_aload_n hk dX2_take_87 2 rfl (kk := ?_)
                  refine z_get hk in_X2 0 4 q1284 dX2_take_88 rfl rfl (kk := ?_)
                  refine z_icmp_ge hk 126 dX2_take_91 (kt := fun h91 => ?_) (kf := fun h91 => ?_) 
                  · skip
                    refine z_aload_n hk dX2_take_126 2 rfl (kk := ?_)
                    refine z_get hk in_X2 0 0 q1280 dX2_take_127 rfl rfl (kk := ?_)
                    refine z_iload_n hk dX2_take_130 3 rfl (kk := ?_)
                    refine z_if_ne hk 139 dX2_take_131 (kt := fun h131 => ?_) (kf := fun h131 => ?_) 
                    · skip
                      refine z_bipush (z := ((55 : Nat) : Int)) hk dX2_take_139 (kk := ?_)
                      refine z_aload_n hk dX2_take_141 2 rfl (kk := ?_)
                      refine z_get hk in_X2 0 4 q1284 dX2_take_142 rfl rfl (kk := ?_)
                      refine z_iast (i := 55) hk 1 [(o, zO 2 [.ref aS, .ref aI, .ref aK, .ref aP, .int (iZ ((said : Nat) : Int)), .ref aT, .ref aO, .ref aQ, .ref aR, .ref aF, .ref aL, .int (iZ ((kp : Nat) : Int))]), (aS, zI (kG κ) 819 (va_up s2 55 said)), (aP, zI (kG κ) 48 pad)] dX2_take_145 rfl  (kk := ?_) 
                      refine z_aload_n hk dX2_take_146 2 rfl (kk := ?_)
                      refine z_get hk in_X2 0 4 q1284 dX2_take_147 rfl rfl (kk := ?_)
                      refine z_istore_n hk [(3, .int (iZ ((said : Nat) : Int))), (2, .int (iZ ((b : Nat) : Int))), (0, .ref o), (1, .int (iZ (what)))] dX2_take_150 (kk := ?_)
                      refine z_aload_n hk dX2_take_151 2 rfl (kk := ?_)
                      refine z_iconst (z := ((0 : Nat) : Int)) hk dX2_take_152 (kk := ?_)
                      refine z_put hk in_X2 tyX2 tyX2_ok nmX2 0 4 [(o, zO 2 [.ref aS, .ref aI, .ref aK, .ref aP, .int (iZ ((0 : Nat) : Int)), .ref aT, .ref aO, .ref aQ, .ref aR, .ref aF, .ref aL, .int (iZ ((kp : Nat) : Int))]), (aS, zI (kG κ) 819 (va_up s2 55 said)), (aP, zI (kG κ) 48 pad)] q1284 dX2_take_153 rfl (kk := ?_)
                      refine z_iload_n hk dX2_take_156 0 rfl (kk := ?_)
                      exact z_iret hk hR_ (((said : Nat) : Int), 0, va_up s2 55 said) dX2_take_157 rfl rfl (by (try dsimp only); have hi2 : i = said := (by omega); subst hi2; have hk0 : tkOK what i pad := ⟨by omega, hok⟩; rcases hbs with ⟨h1, hbs⟩ | ⟨h1, hbs⟩ <;> subst hbs <;> rw [hs2] <;> first | (exact Or.inr (Or.inr (Or.inl ⟨h1, hk0, rfl, rfl, rfl⟩))) | (exact Or.inr (Or.inr (Or.inr ⟨h1, hk0, rfl, rfl, rfl⟩))) | omega) (zSub.ix [0, 1, 2] rfl)
                    · skip
                      refine z_bipush (z := ((48 : Nat) : Int)) hk dX2_take_134 (kk := ?_)
                      refine z_goto hk 141 dX2_take_136 (kk := ?_)
                      refine z_aload_n hk dX2_take_141 2 rfl (kk := ?_)
                      refine z_get hk in_X2 0 4 q1284 dX2_take_142 rfl rfl (kk := ?_)
                      refine z_iast (i := 48) hk 1 [(o, zO 2 [.ref aS, .ref aI, .ref aK, .ref aP, .int (iZ ((said : Nat) : Int)), .ref aT, .ref aO, .ref aQ, .ref aR, .ref aF, .ref aL, .int (iZ ((kp : Nat) : Int))]), (aS, zI (kG κ) 819 (va_up s2 48 said)), (aP, zI (kG κ) 48 pad)] dX2_take_145 rfl  (kk := ?_) 
                      refine z_aload_n hk dX2_take_146 2 rfl (kk := ?_)
                      refine z_get hk in_X2 0 4 q1284 dX2_take_147 rfl rfl (kk := ?_)
                      refine z_istore_n hk [(3, .int (iZ ((said : Nat) : Int))), (2, .int (iZ ((b : Nat) : Int))), (0, .ref o), (1, .int (iZ (what)))] dX2_take_150 (kk := ?_)
                      refine z_aload_n hk dX2_take_151 2 rfl (kk := ?_)
                      refine z_iconst (z := ((0 : Nat) : Int)) hk dX2_take_152 (kk := ?_)
                      refine z_put hk in_X2 tyX2 tyX2_ok nmX2 0 4 [(o, zO 2 [.ref aS, .ref aI, .ref aK, .ref aP, .int (iZ ((0 : Nat) : Int)), .ref aT, .ref aO, .ref aQ, .ref aR, .ref aF, .ref aL, .int (iZ ((kp : Nat) : Int))]), (aS, zI (kG κ) 819 (va_up s2 48 said)), (aP, zI (kG κ) 48 pad)] q1284 dX2_take_153 rfl (kk := ?_)
                      refine z_iload_n hk dX2_take_156 0 rfl (kk := ?_)
                      exact z_iret hk hR_ (((said : Nat) : Int), 0, va_up s2 48 said) dX2_take_157 rfl rfl (by (try dsimp only); have hi2 : i = said := (by omega); subst hi2; have hk0 : tkOK what i pad := ⟨by omega, hok⟩; rcases hbs with ⟨h1, hbs⟩ | ⟨h1, hbs⟩ <;> subst hbs <;> rw [hs2] <;> first | (exact Or.inr (Or.inr (Or.inl ⟨h1, hk0, rfl, rfl, rfl⟩))) | (exact Or.inr (Or.inr (Or.inr ⟨h1, hk0, rfl, rfl, rfl⟩))) | omega) (zSub.ix [0, 1, 2] rfl)
                  · skip
                    refine z_aload_n hk dX2_take_94 2 rfl (kk := ?_)
                    refine z_get hk in_X2 0 0 q1280 dX2_take_95 rfl rfl (kk := ?_)
                    refine z_iload_n hk dX2_take_98 3 rfl (kk := ?_)
                    refine z_if_ne hk 106 dX2_take_99 (kt := fun h99 => ?_) (kf := fun h99 => ?_) 
                    · skip
                      refine z_bipush (z := ((49 : Nat) : Int)) hk dX2_take_106 (kk := ?_)
                      refine z_iload_n hk dX2_take_108 0 rfl (kk := ?_)
                      refine z_iadd (z := ((49 + i : Nat) : Int)) hk dX2_take_109 (Int.natCast_add _ _).symm (kk := ?_)
                      refine z_aload_n hk dX2_take_110 2 rfl (kk := ?_)
                      refine z_get hk in_X2 0 3 q1283 dX2_take_111 rfl rfl (kk := ?_)
                      refine z_iload_n hk dX2_take_114 0 rfl (kk := ?_)
                      refine z_iald (i := i) hk 2 dX2_take_115 rfl (kk := ?_) 
                      have hf115 := hp i
                      refine z_bipush (z := ((97 : Nat) : Int)) hk dX2_take_116 (kk := ?_)
                      refine z_isub (z := ((pad i : Nat) : Int) - ((97 : Nat) : Int)) hk dX2_take_118 (kk := ?_)
                      refine z_topN (pad i - 97) (by have := gL_all (hok) (show i < said by omega); omega) ?_
                      refine z_iast (i := 49 + i) hk 1 [(o, zO 2 [.ref aS, .ref aI, .ref aK, .ref aP, .int (iZ ((said : Nat) : Int)), .ref aT, .ref aO, .ref aQ, .ref aR, .ref aF, .ref aL, .int (iZ ((kp : Nat) : Int))]), (aS, zI (kG κ) 819 (va_up s2 (49 + i) (pad i - 97))), (aP, zI (kG κ) 48 pad)] dX2_take_119 rfl  (kk := ?_) 
                      refine z_iinc hk (z' := ((i + 1 : Nat) : Int)) [(3, .int (iZ ((i + 1 : Nat) : Int))), (2, .int (iZ ((b : Nat) : Int))), (0, .ref o), (1, .int (iZ (what)))] dX2_take_120 0 rfl (kk := ?_)
                      refine z_goto hk 86 dX2_take_123 (kk := ?_)
                      exact ih86  (i + 1) (va_up s2 (49 + i) (pad i - 97)) (by first | assumption | omega) (by first | (have hb0 : bs = 0 := (by omega); rw [hs2, hb0]; exact pP_up0 rfl) | (have hb0 : bs = 49 := (by omega); rw [hs2, hb0]; exact pP_up rfl)) (by omega)
                    · skip
                      refine z_iconst (z := ((0 : Nat) : Int)) hk dX2_take_102 (kk := ?_)
                      refine z_goto hk 108 dX2_take_103 (kk := ?_)
                      refine z_iload_n hk dX2_take_108 0 rfl (kk := ?_)
                      refine z_iadd (z := ((i : Nat) : Int)) hk dX2_take_109 (by omega) (kk := ?_)
                      refine z_aload_n hk dX2_take_110 2 rfl (kk := ?_)
                      refine z_get hk in_X2 0 3 q1283 dX2_take_111 rfl rfl (kk := ?_)
                      refine z_iload_n hk dX2_take_114 0 rfl (kk := ?_)
                      refine z_iald (i := i) hk 2 dX2_take_115 rfl (kk := ?_) 
                      have hf115 := hp i
                      refine z_bipush (z := ((97 : Nat) : Int)) hk dX2_take_116 (kk := ?_)
                      refine z_isub (z := ((pad i : Nat) : Int) - ((97 : Nat) : Int)) hk dX2_take_118 (kk := ?_)
                      refine z_topN (pad i - 97) (by have := gL_all (hok) (show i < said by omega); omega) ?_
                      refine z_iast (i := i) hk 1 [(o, zO 2 [.ref aS, .ref aI, .ref aK, .ref aP, .int (iZ ((said : Nat) : Int)), .ref aT, .ref aO, .ref aQ, .ref aR, .ref aF, .ref aL, .int (iZ ((kp : Nat) : Int))]), (aS, zI (kG κ) 819 (va_up s2 i (pad i - 97))), (aP, zI (kG κ) 48 pad)] dX2_take_119 rfl  (kk := ?_) 
                      refine z_iinc hk (z' := ((i + 1 : Nat) : Int)) [(3, .int (iZ ((i + 1 : Nat) : Int))), (2, .int (iZ ((b : Nat) : Int))), (0, .ref o), (1, .int (iZ (what)))] dX2_take_120 0 rfl (kk := ?_)
                      refine z_goto hk 86 dX2_take_123 (kk := ?_)
                      exact ih86  (i + 1) (va_up s2 i (pad i - 97)) (by first | assumption | omega) (by first | (have hb0 : bs = 0 := (by omega); rw [hs2, hb0]; exact pP_up0 rfl) | (have hb0 : bs = 49 := (by omega); rw [hs2, hb0]; exact pP_up rfl)) (by omega)
              exact L86 (said - 0 + 1) 0 st (by first | assumption | omega) (by rw [pP_0]) (Nat.lt_succ_self _)
            · skip
              refine z_bipush (z := -7) hk dX2_take_81 (kk := ?_)
              exact z_iret hk hR_ (-7, said, st) dX2_take_83 rfl rfl (by (try dsimp only); exact Or.inr (Or.inl ⟨by omega, fun h => by have hi2 : i = said := (by omega); rw [hi2] at hbb; have h1 := h.1; have h2 := h.2; omega, rfl, rfl, rfl⟩)) (zSub.ix [0, 1, 2] rfl)
          · skip
            refine z_iload_n hk dX2_take_45 1 rfl (kk := ?_)
            refine z_if_eq hk 69 dX2_take_46 (kt := fun h46 => ?_) (kf := fun h46 => ?_) 
            · skip
              have g1 := pC_s (gL pad) i
              have g2 := pC_le (gL pad) i
              have g3 : (if gL pad i = true then 1 else 0) ≤ 1 := by split <;> omega
              refine z_iconst (z := ((0 : Nat) : Int)) hk dX2_take_69 (kk := ?_)
              refine z_istore_n hk [(2, .int (iZ ((0 : Nat) : Int))), (3, .int (iZ ((i : Nat) : Int))), (0, .ref o), (1, .int (iZ (what)))] dX2_take_70 (kk := ?_)
              refine z_iinc hk (z' := ((i + 1 : Nat) : Int)) [(3, .int (iZ ((i + 1 : Nat) : Int))), (2, .int (iZ ((0 : Nat) : Int))), (0, .ref o), (1, .int (iZ (what)))] dX2_take_71 1 rfl (kk := ?_)
              refine z_goto hk 37 dX2_take_74 (kk := ?_)
              exact ih37  (i + 1) 0 (by first | assumption | omega) (by first | omega | (simp at g1; omega)) (by omega)
            · skip
              refine z_aload_n hk dX2_take_49 2 rfl (kk := ?_)
              refine z_get hk in_X2 0 3 q1283 dX2_take_50 rfl rfl (kk := ?_)
              refine z_iload_n hk dX2_take_53 0 rfl (kk := ?_)
              refine z_iald (i := i) hk 2 dX2_take_54 rfl (kk := ?_) 
              have hf54 := hp i
              refine z_bipush (z := ((97 : Nat) : Int)) hk dX2_take_55 (kk := ?_)
              refine z_bipush (z := ((112 : Nat) : Int)) hk dX2_take_57 (kk := ?_)
              refine z_callS hk [.int (iZ ((pad i : Nat) : Int)), .int (iZ ((97 : Nat) : Int)), .int (iZ ((112 : Nat) : Int))] 3 [(o, zO 2 [.ref aS, .ref aI, .ref aK, .ref aP, .int (iZ ((said : Nat) : Int)), .ref aT, .ref aO, .ref aQ, .ref aR, .ref aF, .ref aL, .int (iZ ((kp : Nat) : Int))]), (aS, zI (kG κ) 819 st), (aP, zI (kG κ) 48 pad)] (ct_X2_in (kL κ) (kG κ) ((pad i : Nat) : Int) ((97 : Nat) : Int) ((112 : Nat) : Int) (by first | assumption | omega) (by first | assumption | omega) (by first | assumption | omega)) q1322 q1323 q66 q1324 (zSub.ix [0, 1, 2] rfl) dX2_take_59 rfl (kk := fun u_3 hu59 => ?_)
              obtain ⟨u0_4, rfl⟩ : ∃ z_, z_ = u_3 := ⟨_, rfl⟩
              have hu59 : (u0_4 = 1 ∧ ((97 : Nat) : Int) ≤ ((pad i : Nat) : Int) ∧ ((pad i : Nat) : Int) ≤ ((112 : Nat) : Int)) ∨ (u0_4 = 0 ∧ ¬ (((97 : Nat) : Int) ≤ ((pad i : Nat) : Int) ∧ ((pad i : Nat) : Int) ≤ ((112 : Nat) : Int))) := hu59
              show Z κ 62 [(3, .int (iZ ((i : Nat) : Int))), (2, .int (iZ ((b : Nat) : Int))), (0, .ref o), (1, .int (iZ (what)))] [.int (iZ ((u0_4 : Nat) : Int))] [(o, zO 2 [.ref aS, .ref aI, .ref aK, .ref aP, .int (iZ ((said : Nat) : Int)), .ref aT, .ref aO, .ref aQ, .ref aR, .ref aF, .ref aL, .int (iZ ((kp : Nat) : Int))]), (aS, zI (kG κ) 819 st), (aP, zI (kG κ) 48 pad)] 0 0
              refine z_if_eq hk 69 dX2_take_62 (kt := fun h62 => ?_) (kf := fun h62 => ?_) 
              · skip
                have g1 := pC_s (gL pad) i
                rw [gL_f (by omega)] at g1
                refine z_iconst (z := ((0 : Nat) : Int)) hk dX2_take_69 (kk := ?_)
                refine z_istore_n hk [(2, .int (iZ ((0 : Nat) : Int))), (3, .int (iZ ((i : Nat) : Int))), (0, .ref o), (1, .int (iZ (what)))] dX2_take_70 (kk := ?_)
                refine z_iinc hk (z' := ((i + 1 : Nat) : Int)) [(3, .int (iZ ((i + 1 : Nat) : Int))), (2, .int (iZ ((0 : Nat) : Int))), (0, .ref o), (1, .int (iZ (what)))] dX2_take_71 1 rfl (kk := ?_)
                refine z_goto hk 37 dX2_take_74 (kk := ?_)
                exact ih37  (i + 1) 0 (by first | assumption | omega) (by first | omega | (simp at g1; omega)) (by omega)
              · skip
                have g1 := pC_s (gL pad) i
                rw [gL_t (by omega)] at g1
                refine z_iconst (z := ((1 : Nat) : Int)) hk dX2_take_65 (kk := ?_)
                refine z_goto hk 70 dX2_take_66 (kk := ?_)
                refine z_istore_n hk [(2, .int (iZ ((1 : Nat) : Int))), (3, .int (iZ ((i : Nat) : Int))), (0, .ref o), (1, .int (iZ (what)))] dX2_take_70 (kk := ?_)
                refine z_iinc hk (z' := ((i + 1 : Nat) : Int)) [(3, .int (iZ ((i + 1 : Nat) : Int))), (2, .int (iZ ((1 : Nat) : Int))), (0, .ref o), (1, .int (iZ (what)))] dX2_take_71 1 rfl (kk := ?_)
                refine z_goto hk 37 dX2_take_74 (kk := ?_)
                exact ih37  (i + 1) 1 (by first | assumption | omega) (by first | omega | (simp at g1; omega)) (by omega)
      exact L37 (said - 0 + 1) 0 b0 (by first | assumption | omega) (by have g : pC (gL pad) 0 = 0 := rfl; omega) (Nat.lt_succ_self _)
    refine z_iload_n hk dX2_take_12 1 rfl (kk := ?_)
    refine z_if_eq hk 29 dX2_take_13 (kt := fun h13 => ?_) (kf := fun h13 => ?_) 
    · skip
      refine z_iconst (z := ((1 : Nat) : Int)) hk dX2_take_29 (kk := ?_)
      refine z_goto hk 34 dX2_take_30 (kk := ?_)
      exact J34 1 (by first | assumption | omega)
    · skip
      refine z_aload_n hk dX2_take_16 0 rfl (kk := ?_)
      refine z_get hk in_X2 0 4 q1284 dX2_take_17 rfl rfl (kk := ?_)
      refine z_iconst (z := ((1 : Nat) : Int)) hk dX2_take_20 (kk := ?_)
      refine z_bipush (z := ((6 : Nat) : Int)) hk dX2_take_21 (kk := ?_)
      refine z_callS hk [.int (iZ ((said : Nat) : Int)), .int (iZ ((1 : Nat) : Int)), .int (iZ ((6 : Nat) : Int))] 3 [(o, zO 2 [.ref aS, .ref aI, .ref aK, .ref aP, .int (iZ ((said : Nat) : Int)), .ref aT, .ref aO, .ref aQ, .ref aR, .ref aF, .ref aL, .int (iZ ((kp : Nat) : Int))]), (aS, zI (kG κ) 819 st), (aP, zI (kG κ) 48 pad)] (ct_X2_in (kL κ) (kG κ) ((said : Nat) : Int) ((1 : Nat) : Int) ((6 : Nat) : Int) (by first | assumption | omega) (by first | assumption | omega) (by first | assumption | omega)) q1322 q1323 q66 q1324 (zSub.ix [0, 1, 2] rfl) dX2_take_23 rfl (kk := fun u_5 hu23 => ?_)
      obtain ⟨u0_6, rfl⟩ : ∃ z_, z_ = u_5 := ⟨_, rfl⟩
      have hu23 : (u0_6 = 1 ∧ ((1 : Nat) : Int) ≤ ((said : Nat) : Int) ∧ ((said : Nat) : Int) ≤ ((6 : Nat) : Int)) ∨ (u0_6 = 0 ∧ ¬ (((1 : Nat) : Int) ≤ ((said : Nat) : Int) ∧ ((said : Nat) : Int) ≤ ((6 : Nat) : Int))) := hu23
      show Z κ 26 [(0, .ref o), (1, .int (iZ (what)))] [.int (iZ ((u0_6 : Nat) : Int))] [(o, zO 2 [.ref aS, .ref aI, .ref aK, .ref aP, .int (iZ ((said : Nat) : Int)), .ref aT, .ref aO, .ref aQ, .ref aR, .ref aF, .ref aL, .int (iZ ((kp : Nat) : Int))]), (aS, zI (kG κ) 819 st), (aP, zI (kG κ) 48 pad)] 0 0
      refine z_if_eq hk 33 dX2_take_26 (kt := fun h26 => ?_) (kf := fun h26 => ?_) 
      · skip
        refine z_iconst (z := ((0 : Nat) : Int)) hk dX2_take_33 (kk := ?_)
        exact J34 0 (by first | assumption | omega)
      · skip
        refine z_iconst (z := ((1 : Nat) : Int)) hk dX2_take_29 (kk := ?_)
        refine z_goto hk 34 dX2_take_30 (kk := ?_)
        exact J34 1 (by first | assumption | omega)
  · skip
    refine z_bipush (z := -2) hk dX2_take_9 (kk := ?_)
    exact z_iret hk hR_ (-2, said, st) dX2_take_11 rfl rfl (by (try dsimp only); exact Or.inl ⟨by omega, rfl, rfl, rfl⟩) (zSub.ix [0, 1, 2] rfl)

set_option maxHeartbeats 600000 in
theorem ct_X2_worth (l_ : Launch) (G : zG) (o : Nat) (fs : List Value) (aS : Nat) (st : Nat → Nat) (l0 : Int) (v : Int) (hF0 : fs[0]? = some (.ref aS)) (hl : -2147483648 ≤ l0 ∧ l0 ≤ 2147483647) (hv : -2147483648 ≤ v ∧ v ≤ 2147483647) (hb : ∀ j, st j < 100) :
    Ct l_ G yX2_worth cX2_worth 4 (some .int) 3 0 0 [.ref o, .int (iZ (l0)), .int (iZ (v))] [(o, zO 2 fs), (aS, zI G 819 st)]
      (fun u : Int × (Nat → Nat) => some (.int (iZ (u.1)))) (fun u : Int × (Nat → Nat) => ((0 ≤ l0 ∧ l0 ≤ 15 ∧ 0 ≤ v ∧ v ≤ 99) ∧ u.1 = (st (56 + l0.toNat) : Int) ∧ u.2 = va_up st (56 + l0.toNat) v.toNat) ∨ (¬ (0 ≤ l0 ∧ l0 ≤ 15 ∧ 0 ≤ v ∧ v ≤ 99) ∧ u.1 = -2 ∧ u.2 = st)) (fun u : Int × (Nat → Nat) => [(o, zO 2 fs), (aS, zI G 819 u.2)]) := by
  refine Ct.of (by decide) (Nat.le_of_ble_eq_true rfl) ?_
  intro κ hl_ hG_ hk hR_
  subst hl_
  subst hG_
  show Z κ 0 [(0, .ref o), (1, .int (iZ (l0))), (2, .int (iZ (v)))] [] [(o, zO 2 fs), (aS, zI (kG κ) 819 st)] 0 0
  refine z_iload_n hk dX2_worth_0 1 rfl (kk := ?_)
  refine z_callS hk [.int (iZ (l0))] 1 [(o, zO 2 fs), (aS, zI (kG κ) 819 st)] (ct_X2_isLetter (kL κ) (kG κ) l0 (by first | assumption | omega)) q1337 q1338 q66 q1339 (zSub.ix [0, 1] rfl) dX2_worth_1 rfl (kk := fun u_1 hu1 => ?_)
  obtain ⟨u0_2, rfl⟩ : ∃ z_, z_ = u_1 := ⟨_, rfl⟩
  have hu1 : (u0_2 = 1 ∧ 0 ≤ l0 ∧ l0 ≤ 15) ∨ (u0_2 = 0 ∧ ¬ (0 ≤ l0 ∧ l0 ≤ 15)) := hu1
  show Z κ 4 [(0, .ref o), (1, .int (iZ (l0))), (2, .int (iZ (v)))] [.int (iZ ((u0_2 : Nat) : Int))] [(o, zO 2 fs), (aS, zI (kG κ) 819 st)] 0 0
  refine z_if_eq hk 17 dX2_worth_4 (kt := fun h4 => ?_) (kf := fun h4 => ?_) 
  · skip
    refine z_bipush (z := -2) hk dX2_worth_17 (kk := ?_)
    exact z_iret hk hR_ (-2, st) dX2_worth_19 rfl rfl (by (try dsimp only); exact Or.inr ⟨by omega, rfl, rfl⟩) (zSub.ix [0, 1] rfl)
  · skip
    refine z_iload_n hk dX2_worth_7 2 rfl (kk := ?_)
    refine z_iconst (z := ((0 : Nat) : Int)) hk dX2_worth_8 (kk := ?_)
    refine z_bipush (z := ((99 : Nat) : Int)) hk dX2_worth_9 (kk := ?_)
    refine z_callS hk [.int (iZ (v)), .int (iZ ((0 : Nat) : Int)), .int (iZ ((99 : Nat) : Int))] 3 [(o, zO 2 fs), (aS, zI (kG κ) 819 st)] (ct_X2_in (kL κ) (kG κ) v ((0 : Nat) : Int) ((99 : Nat) : Int) (by first | assumption | omega) (by first | assumption | omega) (by first | assumption | omega)) q1322 q1323 q66 q1324 (zSub.ix [0, 1] rfl) dX2_worth_11 rfl (kk := fun u_3 hu11 => ?_)
    obtain ⟨u0_4, rfl⟩ : ∃ z_, z_ = u_3 := ⟨_, rfl⟩
    have hu11 : (u0_4 = 1 ∧ ((0 : Nat) : Int) ≤ v ∧ v ≤ ((99 : Nat) : Int)) ∨ (u0_4 = 0 ∧ ¬ (((0 : Nat) : Int) ≤ v ∧ v ≤ ((99 : Nat) : Int))) := hu11
    show Z κ 14 [(0, .ref o), (1, .int (iZ (l0))), (2, .int (iZ (v)))] [.int (iZ ((u0_4 : Nat) : Int))] [(o, zO 2 fs), (aS, zI (kG κ) 819 st)] 0 0
    refine z_if_ne hk 20 dX2_worth_14 (kt := fun h14 => ?_) (kf := fun h14 => ?_) 
    · skip
      refine z_aload_n hk dX2_worth_20 0 rfl (kk := ?_)
      refine z_get hk in_X2 0 0 q1280 dX2_worth_21 rfl hF0 (kk := ?_)
      refine z_bipush (z := ((56 : Nat) : Int)) hk dX2_worth_24 (kk := ?_)
      refine z_iload_n hk dX2_worth_26 1 rfl (kk := ?_)
      refine z_iadd (z := ((56 : Nat) : Int) + l0) hk dX2_worth_27 (kk := ?_)
      refine z_topN (56 + l0.toNat) (by omega) ?_
      refine z_iald (i := 56 + l0.toNat) hk 1 dX2_worth_28 rfl (kk := ?_) 
      refine z_istore_n hk [(3, .int (iZ ((st (56 + l0.toNat) : Nat) : Int))), (0, .ref o), (1, .int (iZ (l0))), (2, .int (iZ (v)))] dX2_worth_29 (kk := ?_)
      refine z_aload_n hk dX2_worth_30 1 rfl (kk := ?_)
      refine z_get hk in_X2 0 0 q1280 dX2_worth_31 rfl hF0 (kk := ?_)
      refine z_bipush (z := ((56 : Nat) : Int)) hk dX2_worth_34 (kk := ?_)
      refine z_iload_n hk dX2_worth_36 2 rfl (kk := ?_)
      refine z_iadd (z := ((56 : Nat) : Int) + l0) hk dX2_worth_37 (kk := ?_)
      refine z_topN (56 + l0.toNat) (by omega) ?_
      refine z_iload_n hk dX2_worth_38 3 rfl (kk := ?_)
      refine z_topN (v.toNat) (by omega) ?_
      refine z_iast (i := 56 + l0.toNat) hk 1 [(o, zO 2 fs), (aS, zI (kG κ) 819 (va_up st (56 + l0.toNat) v.toNat))] dX2_worth_39 rfl  (kk := ?_) 
      refine z_iload_n hk dX2_worth_40 0 rfl (kk := ?_)
      exact z_iret hk hR_ (((st (56 + l0.toNat) : Nat) : Int), va_up st (56 + l0.toNat) v.toNat) dX2_worth_41 rfl rfl (by (try dsimp only); exact Or.inl ⟨by omega, rfl, rfl⟩) (zSub.ix [0, 1] rfl)
    · skip
      refine z_bipush (z := -2) hk dX2_worth_17 (kk := ?_)
      exact z_iret hk hR_ (-2, st) dX2_worth_19 rfl rfl (by (try dsimp only); exact Or.inr ⟨by omega, rfl, rfl⟩) (zSub.ix [0, 1] rfl)

set_option maxHeartbeats 600000 in
theorem ct_X2_liked (l_ : Launch) (G : zG) (o : Nat) (fs : List Value) (aS : Nat) (st : Nat → Nat) (hF0 : fs[0]? = some (.ref aS)) (hb : ∀ j, st j < 100) :
    Ct l_ G yX2_liked cX2_liked 3 (some .int) 1 0 0 [.ref o] [(o, zO 2 fs), (aS, zI G 819 st)]
      (fun _u : Unit => some (.int (iZ (((pS (fun j => st (72 + j)) 256) : Nat) : Int)))) (fun _u : Unit => True) (fun _u : Unit => [(o, zO 2 fs), (aS, zI G 819 st)]) := by
  refine Ct.of (by decide) (Nat.le_of_ble_eq_true rfl) ?_
  intro κ hl_ hG_ hk hR_
  subst hl_
  subst hG_
  show Z κ 0 [(0, .ref o)] [] [(o, zO 2 fs), (aS, zI (kG κ) 819 st)] 0 0
  refine z_iconst (z := ((0 : Nat) : Int)) hk dX2_liked_0 (kk := ?_)
  refine z_istore_n hk [(1, .int (iZ ((0 : Nat) : Int))), (0, .ref o)] dX2_liked_1 (kk := ?_)
  refine z_iconst (z := ((0 : Nat) : Int)) hk dX2_liked_2 (kk := ?_)
  refine z_istore_n hk [(2, .int (iZ ((0 : Nat) : Int))), (1, .int (iZ ((0 : Nat) : Int))), (0, .ref o)] dX2_liked_3 (kk := ?_)
  have L4 : ∀ (f_ : Nat) (i : Nat) (r : Nat), (i ≤ 256) → (r = pS (fun j => st (72 + j)) i) → 256 - i < f_ → Z κ 4 [(2, .int (iZ ((i : Nat) : Int))), (1, .int (iZ ((r : Nat) : Int))), (0, .ref o)] [] [(o, zO 2 fs), (aS, zI (kG κ) 819 st)] 0 0 := by
    intro f_
    induction f_ with
    | zero => intro i r hi hr hm_; exact absurd hm_ (Nat.not_lt_zero _)
    | succ f_ ih4 =>
      intro i r hi hr hm_
      refine z_iload_n hk dX2_liked_4 0 rfl (kk := ?_)
      refine z_sipush (z := ((256 : Nat) : Int)) hk dX2_liked_5 (kk := ?_)
      refine z_icmp_ge hk 29 dX2_liked_8 (kt := fun h8 => ?_) (kf := fun h8 => ?_) 
      · skip
        refine z_iload_n hk dX2_liked_29 1 rfl (kk := ?_)
        exact z_iret hk hR_ () dX2_liked_30 rfl (by rw [hr, show i = 256 from by omega]) (by trivial) (zSub.ix [0, 1] rfl)
      · skip
        refine z_iload_n hk dX2_liked_11 1 rfl (kk := ?_)
        refine z_aload_n hk dX2_liked_12 2 rfl (kk := ?_)
        refine z_get hk in_X2 0 0 q1280 dX2_liked_13 rfl hF0 (kk := ?_)
        refine z_bipush (z := ((72 : Nat) : Int)) hk dX2_liked_16 (kk := ?_)
        refine z_iload_n hk dX2_liked_18 0 rfl (kk := ?_)
        refine z_iadd (z := ((72 + i : Nat) : Int)) hk dX2_liked_19 (Int.natCast_add _ _).symm (kk := ?_)
        refine z_iald (i := 72 + i) hk 1 dX2_liked_20 rfl (kk := ?_) 
        have hf20 := hb (72 + i)
        refine z_iadd (z := ((r + (st (72 + i)) : Nat) : Int)) hk dX2_liked_21 (Int.natCast_add _ _).symm (kk := ?_)
        refine z_istore_n hk [(1, .int (iZ ((r + (st (72 + i)) : Nat) : Int))), (2, .int (iZ ((i : Nat) : Int))), (0, .ref o)] dX2_liked_22 (kk := ?_)
        refine z_iinc hk (z' := ((i + 1 : Nat) : Int)) [(2, .int (iZ ((i + 1 : Nat) : Int))), (1, .int (iZ ((r + (st (72 + i)) : Nat) : Int))), (0, .ref o)] dX2_liked_23 1 rfl (kk := ?_)
        refine z_goto hk 4 dX2_liked_26 (kk := ?_)
        exact ih4  (i + 1) (r + (st (72 + i))) (by first | assumption | omega) (by rw [pS_s, ← hr]) (by omega)
  exact L4 (256 - 0 + 1) 0 0 (by first | assumption | omega) (by rfl) (Nat.lt_succ_self _)

set_option maxHeartbeats 600000 in
theorem ct_X2_like (l_ : Launch) (G : zG) (o : Nat) (fs : List Value) (aS : Nat) (st : Nat → Nat) (x : Int) (y : Int) (z : Int) (hF0 : fs[0]? = some (.ref aS)) (hx : -2147483648 ≤ x ∧ x ≤ 2147483647) (hy : -2147483648 ≤ y ∧ y ≤ 2147483647) (hz : -2147483648 ≤ z ∧ z ≤ 2147483647) (hb : ∀ j, st j < 100) :
    Ct l_ G yX2_like cX2_like 4 (some .int) 3 0 0 [.ref o, .int (iZ (x)), .int (iZ (y)), .int (iZ (z))] [(o, zO 2 fs), (aS, zI G 819 st)]
      (fun u : Int × (Nat → Nat) => some (.int (iZ (u.1)))) (fun u : Int × (Nat → Nat) => ((0 ≤ x ∧ x ≤ 15 ∧ 0 ≤ y ∧ y ≤ 15 ∧ 0 ≤ z ∧ z ≤ 1) ∧ u.2 = va_up st (72 + 16 * x.toNat + y.toNat) z.toNat ∧ u.1 = (pS (fun j => u.2 (72 + j)) 256 : Nat)) ∨ (¬ (0 ≤ x ∧ x ≤ 15 ∧ 0 ≤ y ∧ y ≤ 15 ∧ 0 ≤ z ∧ z ≤ 1) ∧ u.1 = -2 ∧ u.2 = st)) (fun u : Int × (Nat → Nat) => [(o, zO 2 fs), (aS, zI G 819 u.2)]) := by
  refine Ct.of (by decide) (Nat.le_of_ble_eq_true rfl) ?_
  intro κ hl_ hG_ hk hR_
  subst hl_
  subst hG_
  show Z κ 0 [(0, .ref o), (1, .int (iZ (x))), (2, .int (iZ (y))), (3, .int (iZ (z)))] [] [(o, zO 2 fs), (aS, zI (kG κ) 819 st)] 0 0
  refine z_iload_n hk dX2_like_0 1 rfl (kk := ?_)
  refine z_callS hk [.int (iZ (x))] 1 [(o, zO 2 fs), (aS, zI (kG κ) 819 st)] (ct_X2_isLetter (kL κ) (kG κ) x (by first | assumption | omega)) q1337 q1338 q66 q1339 (zSub.ix [0, 1] rfl) dX2_like_1 rfl (kk := fun u_1 hu1 => ?_)
  obtain ⟨u0_2, rfl⟩ : ∃ z_, z_ = u_1 := ⟨_, rfl⟩
  have hu1 : (u0_2 = 1 ∧ 0 ≤ x ∧ x ≤ 15) ∨ (u0_2 = 0 ∧ ¬ (0 ≤ x ∧ x ≤ 15)) := hu1
  show Z κ 4 [(0, .ref o), (1, .int (iZ (x))), (2, .int (iZ (y))), (3, .int (iZ (z)))] [.int (iZ ((u0_2 : Nat) : Int))] [(o, zO 2 fs), (aS, zI (kG κ) 819 st)] 0 0
  refine z_if_eq hk 23 dX2_like_4 (kt := fun h4 => ?_) (kf := fun h4 => ?_) 
  · skip
    refine z_bipush (z := -2) hk dX2_like_23 (kk := ?_)
    exact z_iret hk hR_ (-2, st) dX2_like_25 rfl rfl (by (try dsimp only); exact Or.inr ⟨by omega, rfl, rfl⟩) (zSub.ix [0, 1] rfl)
  · skip
    refine z_iload_n hk dX2_like_7 2 rfl (kk := ?_)
    refine z_callS hk [.int (iZ (y))] 1 [(o, zO 2 fs), (aS, zI (kG κ) 819 st)] (ct_X2_isLetter (kL κ) (kG κ) y (by first | assumption | omega)) q1337 q1338 q66 q1339 (zSub.ix [0, 1] rfl) dX2_like_8 rfl (kk := fun u_3 hu8 => ?_)
    obtain ⟨u0_4, rfl⟩ : ∃ z_, z_ = u_3 := ⟨_, rfl⟩
    have hu8 : (u0_4 = 1 ∧ 0 ≤ y ∧ y ≤ 15) ∨ (u0_4 = 0 ∧ ¬ (0 ≤ y ∧ y ≤ 15)) := hu8
    show Z κ 11 [(0, .ref o), (1, .int (iZ (x))), (2, .int (iZ (y))), (3, .int (iZ (z)))] [.int (iZ ((u0_4 : Nat) : Int))] [(o, zO 2 fs), (aS, zI (kG κ) 819 st)] 0 0
    refine z_if_eq hk 23 dX2_like_11 (kt := fun h11 => ?_) (kf := fun h11 => ?_) 
    · skip
      refine z_bipush (z := -2) hk dX2_like_23 (kk := ?_)
      exact z_iret hk hR_ (-2, st) dX2_like_25 rfl rfl (by (try dsimp only); exact Or.inr ⟨by omega, rfl, rfl⟩) (zSub.ix [0, 1] rfl)
    · skip
      refine z_iload_n hk dX2_like_14 3 rfl (kk := ?_)
      refine z_iconst (z := ((0 : Nat) : Int)) hk dX2_like_15 (kk := ?_)
      refine z_iconst (z := ((1 : Nat) : Int)) hk dX2_like_16 (kk := ?_)
      refine z_callS hk [.int (iZ (z)), .int (iZ ((0 : Nat) : Int)), .int (iZ ((1 : Nat) : Int))] 3 [(o, zO 2 fs), (aS, zI (kG κ) 819 st)] (ct_X2_in (kL κ) (kG κ) z ((0 : Nat) : Int) ((1 : Nat) : Int) (by first | assumption | omega) (by first | assumption | omega) (by first | assumption | omega)) q1322 q1323 q66 q1324 (zSub.ix [0, 1] rfl) dX2_like_17 rfl (kk := fun u_5 hu17 => ?_)
      obtain ⟨u0_6, rfl⟩ : ∃ z_, z_ = u_5 := ⟨_, rfl⟩
      have hu17 : (u0_6 = 1 ∧ ((0 : Nat) : Int) ≤ z ∧ z ≤ ((1 : Nat) : Int)) ∨ (u0_6 = 0 ∧ ¬ (((0 : Nat) : Int) ≤ z ∧ z ≤ ((1 : Nat) : Int))) := hu17
      show Z κ 20 [(0, .ref o), (1, .int (iZ (x))), (2, .int (iZ (y))), (3, .int (iZ (z)))] [.int (iZ ((u0_6 : Nat) : Int))] [(o, zO 2 fs), (aS, zI (kG κ) 819 st)] 0 0
      refine z_if_ne hk 26 dX2_like_20 (kt := fun h20 => ?_) (kf := fun h20 => ?_) 
      · skip
        refine z_aload_n hk dX2_like_26 0 rfl (kk := ?_)
        refine z_get hk in_X2 0 0 q1280 dX2_like_27 rfl hF0 (kk := ?_)
        refine z_bipush (z := ((72 : Nat) : Int)) hk dX2_like_30 (kk := ?_)
        refine z_bipush (z := ((16 : Nat) : Int)) hk dX2_like_32 (kk := ?_)
        refine z_iload_n hk dX2_like_34 1 rfl (kk := ?_)
        refine z_imul (z := ((16 : Nat) : Int) * x) hk dX2_like_35 (kk := ?_)
        refine z_iadd (z := ((72 : Nat) : Int) + (((16 : Nat) : Int) * x)) hk dX2_like_36 (kk := ?_)
        refine z_iload_n hk dX2_like_37 2 rfl (kk := ?_)
        refine z_iadd (z := ((72 : Nat) : Int) + (((16 : Nat) : Int) * x) + y) hk dX2_like_38 (kk := ?_)
        refine z_topN (72 + 16 * x.toNat + y.toNat) (by omega) ?_
        refine z_iload_n hk dX2_like_39 3 rfl (kk := ?_)
        refine z_topN (z.toNat) (by omega) ?_
        refine z_iast (i := 72 + 16 * x.toNat + y.toNat) hk 1 [(o, zO 2 fs), (aS, zI (kG κ) 819 (va_up st (72 + 16 * x.toNat + y.toNat) z.toNat))] dX2_like_40 rfl  (kk := ?_) 
        refine z_aload_n hk dX2_like_41 0 rfl (kk := ?_)
        refine z_callV hk [] 0 [] (ct_X2_liked (kL κ) (kG κ) o fs aS (va_up st (72 + 16 * x.toNat + y.toNat) z.toNat) hF0 (fun j => by unfold va_up; split; omega; exact hb j)) q1344 q1346 qs29 q66 q1347 (zSub.ix [0, 1] rfl) 0 2 rfl dX2_like_42 rfl (kk := fun _ _ => ?_)
        show Z κ 45 [(0, .ref o), (1, .int (iZ (x))), (2, .int (iZ (y))), (3, .int (iZ (z)))] [.int (iZ (((pS (fun j => (va_up st (72 + 16 * x.toNat + y.toNat) z.toNat) (72 + j)) 256) : Nat) : Int))] [(o, zO 2 fs), (aS, zI (kG κ) 819 (va_up st (72 + 16 * x.toNat + y.toNat) z.toNat))] 0 0
        exact z_iret hk hR_ ((((pS (fun j => (va_up st (72 + 16 * x.toNat + y.toNat) z.toNat) (72 + j)) 256) : Nat) : Int), (va_up st (72 + 16 * x.toNat + y.toNat) z.toNat)) dX2_like_45 rfl rfl (by (try dsimp only); exact Or.inl ⟨by omega, rfl, rfl⟩) (zSub.ix [0, 1] rfl)
      · skip
        refine z_bipush (z := -2) hk dX2_like_23 (kk := ?_)
        exact z_iret hk hR_ (-2, st) dX2_like_25 rfl rfl (by (try dsimp only); exact Or.inr ⟨by omega, rfl, rfl⟩) (zSub.ix [0, 1] rfl)

set_option maxHeartbeats 600000 in
theorem ct_X2_times (l_ : Launch) (G : zG) (o : Nat) (fs : List Value) (aS : Nat) (st : Nat → Nat) (n : Nat) (t : Nat → Nat) (l0 : Int) (hF0 : fs[0]? = some (.ref aS)) (hn : st 48 = n) (hn48 : n ≤ 48) (ht : ∀ j, j < n → st j = t j ∧ t j < 16) (hl : -2147483648 ≤ l0 ∧ l0 ≤ 2147483647) (hb : ∀ j, st j < 100) :
    Ct l_ G yX2_times cX2_times 4 (some .int) 3 0 0 [.ref o, .int (iZ (l0))] [(o, zO 2 fs), (aS, zI G 819 st)]
      (fun _u : Unit => some (.int (iZ (if 0 ≤ l0 ∧ l0 ≤ 15 then (aTimes t n l0 : Int) else -2)))) (fun _u : Unit => True) (fun _u : Unit => [(o, zO 2 fs), (aS, zI G 819 st)]) := by
  refine Ct.of (by decide) (Nat.le_of_ble_eq_true rfl) ?_
  intro κ hl_ hG_ hk hR_
  subst hl_
  subst hG_
  show Z κ 0 [(0, .ref o), (1, .int (iZ (l0)))] [] [(o, zO 2 fs), (aS, zI (kG κ) 819 st)] 0 0
  refine z_iload_n hk dX2_times_0 1 rfl (kk := ?_)
  refine z_callS hk [.int (iZ (l0))] 1 [(o, zO 2 fs), (aS, zI (kG κ) 819 st)] (ct_X2_isLetter (kL κ) (kG κ) l0 (by first | assumption | omega)) q1337 q1338 q66 q1339 (zSub.ix [0, 1] rfl) dX2_times_1 rfl (kk := fun u_1 hu1 => ?_)
  obtain ⟨u0_2, rfl⟩ : ∃ z_, z_ = u_1 := ⟨_, rfl⟩
  have hu1 : (u0_2 = 1 ∧ 0 ≤ l0 ∧ l0 ≤ 15) ∨ (u0_2 = 0 ∧ ¬ (0 ≤ l0 ∧ l0 ≤ 15)) := hu1
  show Z κ 4 [(0, .ref o), (1, .int (iZ (l0)))] [.int (iZ ((u0_2 : Nat) : Int))] [(o, zO 2 fs), (aS, zI (kG κ) 819 st)] 0 0
  refine z_if_ne hk 10 dX2_times_4 (kt := fun h4 => ?_) (kf := fun h4 => ?_) 
  · skip
    refine z_iconst (z := ((0 : Nat) : Int)) hk dX2_times_10 (kk := ?_)
    refine z_istore_n hk [(2, .int (iZ ((0 : Nat) : Int))), (0, .ref o), (1, .int (iZ (l0)))] dX2_times_11 (kk := ?_)
    refine z_iconst (z := ((0 : Nat) : Int)) hk dX2_times_12 (kk := ?_)
    refine z_istore_n hk [(3, .int (iZ ((0 : Nat) : Int))), (2, .int (iZ ((0 : Nat) : Int))), (0, .ref o), (1, .int (iZ (l0)))] dX2_times_13 (kk := ?_)
    have L14 : ∀ (f_ : Nat) (i : Nat) (r : Nat), (i ≤ n) → (r = pC (fun i => decide ((t i : Int) = l0)) i) → n - i < f_ → Z κ 14 [(3, .int (iZ ((i : Nat) : Int))), (2, .int (iZ ((r : Nat) : Int))), (0, .ref o), (1, .int (iZ (l0)))] [] [(o, zO 2 fs), (aS, zI (kG κ) 819 st)] 0 0 := by
      intro f_
      induction f_ with
      | zero => intro i r hi hr hm_; exact absurd hm_ (Nat.not_lt_zero _)
      | succ f_ ih14 =>
        intro i r hi hr hm_
        refine z_iload_n hk dX2_times_14 0 rfl (kk := ?_)
        refine z_aload_n hk dX2_times_15 2 rfl (kk := ?_)
        refine z_callV hk [] 0 [] (ct_X2_many (kL κ) (kG κ) o fs aS st n hF0 (by first | assumption | omega)) q1352 q1354 qs30 q66 q1355 (zSub.ix [0, 1] rfl) 0 2 rfl dX2_times_16 rfl (kk := fun _ _ => ?_)
        show Z κ 19 [(3, .int (iZ ((i : Nat) : Int))), (2, .int (iZ ((r : Nat) : Int))), (0, .ref o), (1, .int (iZ (l0)))] [.int (iZ ((n : Nat) : Int)), .int (iZ ((i : Nat) : Int))] [(o, zO 2 fs), (aS, zI (kG κ) 819 st)] 0 0
        refine z_icmp_ge hk 48 dX2_times_19 (kt := fun h19 => ?_) (kf := fun h19 => ?_) 
        · skip
          refine z_iload_n hk dX2_times_48 1 rfl (kk := ?_)
          exact z_iret hk hR_ () dX2_times_49 rfl (by rw [if_pos (by omega), aTimes, hr, show i = n from by omega]) (by trivial) (zSub.ix [0, 1] rfl)
        · skip
          refine z_iload_n hk dX2_times_22 1 rfl (kk := ?_)
          refine z_aload_n hk dX2_times_23 2 rfl (kk := ?_)
          refine z_get hk in_X2 0 0 q1280 dX2_times_24 rfl hF0 (kk := ?_)
          refine z_iconst (z := ((0 : Nat) : Int)) hk dX2_times_27 (kk := ?_)
          refine z_iload_n hk dX2_times_28 0 rfl (kk := ?_)
          refine z_iadd (z := ((i : Nat) : Int)) hk dX2_times_29 (by omega) (kk := ?_)
          refine z_iald (i := i) hk 1 dX2_times_30 rfl (kk := ?_) 
          have hf30 := hb i
          refine z_iload_n hk dX2_times_31 3 rfl (kk := ?_)
          have g1 := ht i (by omega)
          refine z_icmp_ne hk 39 dX2_times_32 (kt := fun h32 => ?_) (kf := fun h32 => ?_) 
          · skip
            refine z_iconst (z := ((0 : Nat) : Int)) hk dX2_times_39 (kk := ?_)
            refine z_iadd (z := ((r : Nat) : Int)) hk dX2_times_40 (by omega) (kk := ?_)
            refine z_istore_n hk [(2, .int (iZ ((r : Nat) : Int))), (3, .int (iZ ((i : Nat) : Int))), (0, .ref o), (1, .int (iZ (l0)))] dX2_times_41 (kk := ?_)
            refine z_iinc hk (z' := ((i + 1 : Nat) : Int)) [(3, .int (iZ ((i + 1 : Nat) : Int))), (2, .int (iZ ((r : Nat) : Int))), (0, .ref o), (1, .int (iZ (l0)))] dX2_times_42 1 rfl (kk := ?_)
            refine z_goto hk 14 dX2_times_45 (kk := ?_)
            exact ih14  (i + 1) r (by first | assumption | omega) (by first | exact pC_yes hr (decide_eq_true (by omega)) | exact pC_no hr (decide_eq_false (by omega))) (by omega)
          · skip
            refine z_iconst (z := ((1 : Nat) : Int)) hk dX2_times_35 (kk := ?_)
            refine z_goto hk 40 dX2_times_36 (kk := ?_)
            refine z_iadd (z := ((r + 1 : Nat) : Int)) hk dX2_times_40 (Int.natCast_add _ _).symm (kk := ?_)
            refine z_istore_n hk [(2, .int (iZ ((r + 1 : Nat) : Int))), (3, .int (iZ ((i : Nat) : Int))), (0, .ref o), (1, .int (iZ (l0)))] dX2_times_41 (kk := ?_)
            refine z_iinc hk (z' := ((i + 1 : Nat) : Int)) [(3, .int (iZ ((i + 1 : Nat) : Int))), (2, .int (iZ ((r + 1 : Nat) : Int))), (0, .ref o), (1, .int (iZ (l0)))] dX2_times_42 1 rfl (kk := ?_)
            refine z_goto hk 14 dX2_times_45 (kk := ?_)
            exact ih14  (i + 1) (r + 1) (by first | assumption | omega) (by first | exact pC_yes hr (decide_eq_true (by omega)) | exact pC_no hr (decide_eq_false (by omega))) (by omega)
    exact L14 (n - 0 + 1) 0 0 (by first | assumption | omega) (by rfl) (Nat.lt_succ_self _)
  · skip
    refine z_bipush (z := -2) hk dX2_times_7 (kk := ?_)
    exact z_iret hk hR_ () dX2_times_9 rfl (by rw [if_neg (by omega)]) (by trivial) (zSub.ix [0, 1] rfl)

set_option maxHeartbeats 600000 in
theorem ct_X2_same (l_ : Launch) (G : zG) (o : Nat) (fs : List Value) (aS : Nat) (st : Nat → Nat) (n : Nat) (t : Nat → Nat) (dd : Int) (hF0 : fs[0]? = some (.ref aS)) (hn : st 48 = n) (hn48 : n ≤ 48) (ht : ∀ j, j < n → st j = t j ∧ t j < 16) (hd : -2147483648 ≤ dd ∧ dd ≤ 2147483647) (hb : ∀ j, st j < 100) :
    Ct l_ G yX2_same cX2_same 2 (some .int) 3 0 0 [.ref o, .int (iZ (dd))] [(o, zO 2 fs), (aS, zI G 819 st)]
      (fun _u : Unit => some (.int (iZ (if 1 ≤ dd ∧ dd ≤ 47 then (aSame t n dd.toNat : Int) else -2)))) (fun _u : Unit => True) (fun _u : Unit => [(o, zO 2 fs), (aS, zI G 819 st)]) := by
  refine Ct.of (by decide) (Nat.le_of_ble_eq_true rfl) ?_
  intro κ hl_ hG_ hk hR_
  subst hl_
  subst hG_
  show Z κ 0 [(0, .ref o), (1, .int (iZ (dd)))] [] [(o, zO 2 fs), (aS, zI (kG κ) 819 st)] 0 0
  refine z_iload_n hk dX2_same_0 1 rfl (kk := ?_)
  refine z_iconst (z := ((1 : Nat) : Int)) hk dX2_same_1 (kk := ?_)
  refine z_bipush (z := ((47 : Nat) : Int)) hk dX2_same_2 (kk := ?_)
  refine z_callS hk [.int (iZ (dd)), .int (iZ ((1 : Nat) : Int)), .int (iZ ((47 : Nat) : Int))] 3 [(o, zO 2 fs), (aS, zI (kG κ) 819 st)] (ct_X2_in (kL κ) (kG κ) dd ((1 : Nat) : Int) ((47 : Nat) : Int) (by first | assumption | omega) (by first | assumption | omega) (by first | assumption | omega)) q1322 q1323 q66 q1324 (zSub.ix [0, 1] rfl) dX2_same_4 rfl (kk := fun u_1 hu4 => ?_)
  obtain ⟨u0_2, rfl⟩ : ∃ z_, z_ = u_1 := ⟨_, rfl⟩
  have hu4 : (u0_2 = 1 ∧ ((1 : Nat) : Int) ≤ dd ∧ dd ≤ ((47 : Nat) : Int)) ∨ (u0_2 = 0 ∧ ¬ (((1 : Nat) : Int) ≤ dd ∧ dd ≤ ((47 : Nat) : Int))) := hu4
  show Z κ 7 [(0, .ref o), (1, .int (iZ (dd)))] [.int (iZ ((u0_2 : Nat) : Int))] [(o, zO 2 fs), (aS, zI (kG κ) 819 st)] 0 0
  refine z_if_eq hk 18 dX2_same_7 (kt := fun h7 => ?_) (kf := fun h7 => ?_) 
  · skip
    refine z_bipush (z := -2) hk dX2_same_18 (kk := ?_)
    exact z_iret hk hR_ () dX2_same_20 rfl (by rw [if_neg (by omega)]) (by trivial) (zSub.ix [0, 1] rfl)
  · skip
    refine z_aload_n hk dX2_same_10 0 rfl (kk := ?_)
    refine z_iload_n hk dX2_same_11 1 rfl (kk := ?_)
    refine z_topN (dd.toNat) (by omega) ?_
    refine z_callV hk [.int (iZ ((dd.toNat : Nat) : Int))] 1 [] (ct_X2_sameAt (kL κ) (kG κ) o fs aS st n t dd.toNat hF0 (by first | assumption | omega) (by first | assumption | omega) (by first | assumption | omega) (by first | assumption | omega) (by first | assumption | omega)) q1435 q1437 qs45 q66 q1438 (zSub.ix [0, 1] rfl) 0 2 rfl dX2_same_12 rfl (kk := fun _ _ => ?_)
    show Z κ 15 [(0, .ref o), (1, .int (iZ (dd)))] [.int (iZ (((aSame t n dd.toNat) : Nat) : Int))] [(o, zO 2 fs), (aS, zI (kG κ) 819 st)] 0 0
    refine z_goto hk 20 dX2_same_15 (kk := ?_)
    exact z_iret hk hR_ () dX2_same_20 rfl (by rw [if_pos (by omega)]) (by trivial) (zSub.ix [0, 1] rfl)

set_option maxHeartbeats 600000 in
theorem ct_X2_length (l_ : Launch) (G : zG) (o : Nat) (fs : List Value) (aS : Nat) (st : Nat → Nat) (n : Nat) (t : Nat → Nat) (mm : Int) (hF0 : fs[0]? = some (.ref aS)) (hn : st 48 = n) (hn48 : n ≤ 48) (ht : ∀ j, j < n → st j = t j ∧ t j < 16) (hd : -2147483648 ≤ mm ∧ mm ≤ 2147483647) (hb : ∀ j, st j < 100) :
    Ct l_ G yX2_length cX2_length 5 (some .int) 3 0 0 [.ref o, .int (iZ (mm))] [(o, zO 2 fs), (aS, zI G 819 st)]
      (fun _u : Unit => some (.int (iZ (if 1 ≤ mm ∧ mm ≤ 20 then aLen t n (min mm.toNat (n - 1)) else -2)))) (fun _u : Unit => True) (fun _u : Unit => [(o, zO 2 fs), (aS, zI G 819 st)]) := by
  refine Ct.of (by decide) (Nat.le_of_ble_eq_true rfl) ?_
  intro κ hl_ hG_ hk hR_
  subst hl_
  subst hG_
  show Z κ 0 [(0, .ref o), (1, .int (iZ (mm)))] [] [(o, zO 2 fs), (aS, zI (kG κ) 819 st)] 0 0
  refine z_iload_n hk dX2_length_0 1 rfl (kk := ?_)
  refine z_iconst (z := ((1 : Nat) : Int)) hk dX2_length_1 (kk := ?_)
  refine z_bipush (z := ((20 : Nat) : Int)) hk dX2_length_2 (kk := ?_)
  refine z_callS hk [.int (iZ (mm)), .int (iZ ((1 : Nat) : Int)), .int (iZ ((20 : Nat) : Int))] 3 [(o, zO 2 fs), (aS, zI (kG κ) 819 st)] (ct_X2_in (kL κ) (kG κ) mm ((1 : Nat) : Int) ((20 : Nat) : Int) (by first | assumption | omega) (by first | assumption | omega) (by first | assumption | omega)) q1322 q1323 q66 q1324 (zSub.ix [0, 1] rfl) dX2_length_4 rfl (kk := fun u_1 hu4 => ?_)
  obtain ⟨u0_2, rfl⟩ : ∃ z_, z_ = u_1 := ⟨_, rfl⟩
  have hu4 : (u0_2 = 1 ∧ ((1 : Nat) : Int) ≤ mm ∧ mm ≤ ((20 : Nat) : Int)) ∨ (u0_2 = 0 ∧ ¬ (((1 : Nat) : Int) ≤ mm ∧ mm ≤ ((20 : Nat) : Int))) := hu4
  show Z κ 7 [(0, .ref o), (1, .int (iZ (mm)))] [.int (iZ ((u0_2 : Nat) : Int))] [(o, zO 2 fs), (aS, zI (kG κ) 819 st)] 0 0
  refine z_if_ne hk 13 dX2_length_7 (kt := fun h7 => ?_) (kf := fun h7 => ?_) 
  · skip
    refine z_bipush (z := -6) hk dX2_length_13 (kk := ?_)
    refine z_istore_n hk [(2, .int (iZ (-6))), (0, .ref o), (1, .int (iZ (mm)))] dX2_length_15 (kk := ?_)
    refine z_iconst (z := ((1 : Nat) : Int)) hk dX2_length_16 (kk := ?_)
    refine z_istore_n hk [(3, .int (iZ ((1 : Nat) : Int))), (2, .int (iZ (-6))), (0, .ref o), (1, .int (iZ (mm)))] dX2_length_17 (kk := ?_)
    have L18 : ∀ (f_ : Nat) (i : Nat) (b : Int), (1 ≤ i ∧ (i : Int) ≤ mm + 1 ∧ (i ≤ n ∨ i = 1)) → (b = aLen t n (i - 1)) → 21 - i < f_ → Z κ 18 [(3, .int (iZ ((i : Nat) : Int))), (2, .int (iZ (b))), (0, .ref o), (1, .int (iZ (mm)))] [] [(o, zO 2 fs), (aS, zI (kG κ) 819 st)] 0 0 := by
      intro f_
      induction f_ with
      | zero => intro i b hi hbl hm_; exact absurd hm_ (Nat.not_lt_zero _)
      | succ f_ ih18 =>
        intro i b hi hbl hm_
        have gb := aLen_rng t n (i - 1)
        rw [← hbl] at gb
        refine z_iload_n hk dX2_length_18 0 rfl (kk := ?_)
        refine z_iload_n hk dX2_length_19 3 rfl (kk := ?_)
        refine z_icmp_gt hk 86 dX2_length_20 (kt := fun h20 => ?_) (kf := fun h20 => ?_) 
        · skip
          refine z_iload_n hk dX2_length_86 1 rfl (kk := ?_)
          exact z_iret hk hR_ () dX2_length_87 rfl (by rw [if_pos (by omega), hbl, show min mm.toNat (n - 1) = i - 1 from by omega]) (by trivial) (zSub.ix [0, 1] rfl)
        · skip
          refine z_iload_n hk dX2_length_23 0 rfl (kk := ?_)
          refine z_aload_n hk dX2_length_24 2 rfl (kk := ?_)
          refine z_callV hk [] 0 [] (ct_X2_many (kL κ) (kG κ) o fs aS st n hF0 (by first | assumption | omega)) q1352 q1354 qs30 q66 q1355 (zSub.ix [0, 1] rfl) 0 2 rfl dX2_length_25 rfl (kk := fun _ _ => ?_)
          show Z κ 28 [(3, .int (iZ ((i : Nat) : Int))), (2, .int (iZ (b))), (0, .ref o), (1, .int (iZ (mm)))] [.int (iZ ((n : Nat) : Int)), .int (iZ ((i : Nat) : Int))] [(o, zO 2 fs), (aS, zI (kG κ) 819 st)] 0 0
          refine z_icmp_ge hk 86 dX2_length_28 (kt := fun h28 => ?_) (kf := fun h28 => ?_) 
          · skip
            refine z_iload_n hk dX2_length_86 1 rfl (kk := ?_)
            exact z_iret hk hR_ () dX2_length_87 rfl (by rw [if_pos (by omega), hbl, show min mm.toNat (n - 1) = i - 1 from by omega]) (by trivial) (zSub.ix [0, 1] rfl)
          · skip
            refine z_iload_n hk dX2_length_31 1 rfl (kk := ?_)
            refine z_if_lt hk 62 dX2_length_32 (kt := fun h32 => ?_) (kf := fun h32 => ?_) 
            · skip
              refine z_iconst (z := ((1 : Nat) : Int)) hk dX2_length_62 (kk := ?_)
              refine z_goto hk 67 dX2_length_63 (kk := ?_)
              refine z_istore hk [(4, .int (iZ ((1 : Nat) : Int))), (3, .int (iZ ((i : Nat) : Int))), (2, .int (iZ (b))), (0, .ref o), (1, .int (iZ (mm)))] dX2_length_67 (kk := ?_)
              refine z_iload hk dX2_length_69 0 rfl (kk := ?_)
              refine z_if_eq hk 78 dX2_length_71 (kt := fun h71 => ?_) (kf := fun h71 => ?_) 
              · skip
                exfalso; omega
              · skip
                refine z_iload_n hk dX2_length_74 1 rfl (kk := ?_)
                refine z_goto hk 79 dX2_length_75 (kk := ?_)
                refine z_istore_n hk [(2, .int (iZ ((i : Nat) : Int))), (4, .int (iZ ((1 : Nat) : Int))), (3, .int (iZ ((i : Nat) : Int))), (0, .ref o), (1, .int (iZ (mm)))] dX2_length_79 (kk := ?_)
                refine z_iinc hk (z' := ((i + 1 : Nat) : Int)) [(3, .int (iZ ((i + 1 : Nat) : Int))), (2, .int (iZ ((i : Nat) : Int))), (4, .int (iZ ((1 : Nat) : Int))), (0, .ref o), (1, .int (iZ (mm)))] dX2_length_80 2 rfl (kk := ?_)
                refine z_goto hk 18 dX2_length_83 (kk := ?_)
                refine z_lvs [0, 1, 3, 4] (lv' := [(3, .int (iZ ((i + 1 : Nat) : Int))), (2, .int (iZ ((i : Nat) : Int))), (0, .ref o), (1, .int (iZ (mm)))]) (kk := ?_)
                exact ih18  (i + 1) ((i : Nat) : Int) (by first | assumption | omega) (by show _ = aLen t n (i + 1 - 1); rw [show i + 1 - 1 = (i - 1) + 1 from by omega, aLen, ← hbl, lenStep, show i - 1 + 1 = i from by omega]; (try simp only [Int.toNat_natCast]); first | (rw [if_pos (by omega)]; done) | (rw [if_neg (by omega)]; done)) (by omega)
            · skip
              obtain ⟨b0, hb0⟩ : ∃ b0 : Nat, b = (b0 : Int) := ⟨b.toNat, by omega⟩
              subst hb0
              have g5 : aSame t n i ≤ n - i := pC_le _ _
              have g6 : aSame t n b0 ≤ n - b0 := pC_le _ _
              have g7 : aSame t n i * (n - b0) ≤ 48 * 48 := Nat.mul_le_mul (by omega) (by omega)
              have g8 : aSame t n b0 * (n - i) ≤ 48 * 48 := Nat.mul_le_mul (by omega) (by omega)
              refine z_aload_n hk dX2_length_35 2 rfl (kk := ?_)
              refine z_iload_n hk dX2_length_36 0 rfl (kk := ?_)
              refine z_callV hk [.int (iZ ((i : Nat) : Int))] 1 [] (ct_X2_sameAt (kL κ) (kG κ) o fs aS st n t i hF0 (by first | assumption | omega) (by first | assumption | omega) (by first | assumption | omega) (by first | assumption | omega) (by first | assumption | omega)) q1435 q1437 qs45 q66 q1438 (zSub.ix [0, 1] rfl) 0 2 rfl dX2_length_37 rfl (kk := fun _ _ => ?_)
              show Z κ 40 [(3, .int (iZ ((i : Nat) : Int))), (2, .int (iZ ((b0 : Nat) : Int))), (0, .ref o), (1, .int (iZ (mm)))] [.int (iZ (((aSame t n i) : Nat) : Int))] [(o, zO 2 fs), (aS, zI (kG κ) 819 st)] 0 0
              refine z_aload_n hk dX2_length_40 2 rfl (kk := ?_)
              refine z_callV hk [] 0 [] (ct_X2_many (kL κ) (kG κ) o fs aS st n hF0 (by first | assumption | omega)) q1352 q1354 qs30 q66 q1355 (zSub.ix [0, 1] rfl) 0 2 rfl dX2_length_41 rfl (kk := fun _ _ => ?_)
              show Z κ 44 [(3, .int (iZ ((i : Nat) : Int))), (2, .int (iZ ((b0 : Nat) : Int))), (0, .ref o), (1, .int (iZ (mm)))] [.int (iZ ((n : Nat) : Int)), .int (iZ (((aSame t n i) : Nat) : Int))] [(o, zO 2 fs), (aS, zI (kG κ) 819 st)] 0 0
              refine z_iload_n hk dX2_length_44 1 rfl (kk := ?_)
              refine z_isub (z := ((n : Nat) : Int) - ((b0 : Nat) : Int)) hk dX2_length_45 (kk := ?_)
              refine z_topN (n - b0) (by omega) ?_
              refine z_imul (z := (((aSame t n i) * (n - b0) : Nat) : Int)) hk dX2_length_46 (Int.natCast_mul _ _).symm (kk := ?_)
              refine z_aload_n hk dX2_length_47 2 rfl (kk := ?_)
              refine z_iload_n hk dX2_length_48 1 rfl (kk := ?_)
              refine z_callV hk [.int (iZ ((b0 : Nat) : Int))] 1 [] (ct_X2_sameAt (kL κ) (kG κ) o fs aS st n t b0 hF0 (by first | assumption | omega) (by first | assumption | omega) (by first | assumption | omega) (by first | assumption | omega) (by first | assumption | omega)) q1435 q1437 qs45 q66 q1438 (zSub.ix [0, 1] rfl) 0 2 rfl dX2_length_49 rfl (kk := fun _ _ => ?_)
              show Z κ 52 [(3, .int (iZ ((i : Nat) : Int))), (2, .int (iZ ((b0 : Nat) : Int))), (0, .ref o), (1, .int (iZ (mm)))] [.int (iZ (((aSame t n b0) : Nat) : Int)), .int (iZ (((aSame t n i) * (n - b0) : Nat) : Int))] [(o, zO 2 fs), (aS, zI (kG κ) 819 st)] 0 0
              refine z_aload_n hk dX2_length_52 2 rfl (kk := ?_)
              refine z_callV hk [] 0 [] (ct_X2_many (kL κ) (kG κ) o fs aS st n hF0 (by first | assumption | omega)) q1352 q1354 qs30 q66 q1355 (zSub.ix [0, 1] rfl) 0 2 rfl dX2_length_53 rfl (kk := fun _ _ => ?_)
              show Z κ 56 [(3, .int (iZ ((i : Nat) : Int))), (2, .int (iZ ((b0 : Nat) : Int))), (0, .ref o), (1, .int (iZ (mm)))] [.int (iZ ((n : Nat) : Int)), .int (iZ (((aSame t n b0) : Nat) : Int)), .int (iZ (((aSame t n i) * (n - b0) : Nat) : Int))] [(o, zO 2 fs), (aS, zI (kG κ) 819 st)] 0 0
              refine z_iload_n hk dX2_length_56 0 rfl (kk := ?_)
              refine z_isub (z := ((n : Nat) : Int) - ((i : Nat) : Int)) hk dX2_length_57 (kk := ?_)
              refine z_topN (n - i) (by omega) ?_
              refine z_imul (z := (((aSame t n b0) * (n - i) : Nat) : Int)) hk dX2_length_58 (Int.natCast_mul _ _).symm (kk := ?_)
              refine z_icmp_le hk 66 dX2_length_59 (kt := fun h59 => ?_) (kf := fun h59 => ?_) 
              · skip
                refine z_iconst (z := ((0 : Nat) : Int)) hk dX2_length_66 (kk := ?_)
                refine z_istore hk [(4, .int (iZ ((0 : Nat) : Int))), (3, .int (iZ ((i : Nat) : Int))), (2, .int (iZ ((b0 : Nat) : Int))), (0, .ref o), (1, .int (iZ (mm)))] dX2_length_67 (kk := ?_)
                refine z_iload hk dX2_length_69 0 rfl (kk := ?_)
                refine z_if_eq hk 78 dX2_length_71 (kt := fun h71 => ?_) (kf := fun h71 => ?_) 
                · skip
                  refine z_iload_n hk dX2_length_78 2 rfl (kk := ?_)
                  refine z_istore_n hk [(2, .int (iZ ((b0 : Nat) : Int))), (4, .int (iZ ((0 : Nat) : Int))), (3, .int (iZ ((i : Nat) : Int))), (0, .ref o), (1, .int (iZ (mm)))] dX2_length_79 (kk := ?_)
                  refine z_iinc hk (z' := ((i + 1 : Nat) : Int)) [(3, .int (iZ ((i + 1 : Nat) : Int))), (2, .int (iZ ((b0 : Nat) : Int))), (4, .int (iZ ((0 : Nat) : Int))), (0, .ref o), (1, .int (iZ (mm)))] dX2_length_80 2 rfl (kk := ?_)
                  refine z_goto hk 18 dX2_length_83 (kk := ?_)
                  refine z_lvs [0, 1, 3, 4] (lv' := [(3, .int (iZ ((i + 1 : Nat) : Int))), (2, .int (iZ ((b0 : Nat) : Int))), (0, .ref o), (1, .int (iZ (mm)))]) (kk := ?_)
                  exact ih18  (i + 1) ((b0 : Nat) : Int) (by first | assumption | omega) (by show _ = aLen t n (i + 1 - 1); rw [show i + 1 - 1 = (i - 1) + 1 from by omega, aLen, ← hbl, lenStep, show i - 1 + 1 = i from by omega]; (try simp only [Int.toNat_natCast]); first | (rw [if_pos (by omega)]; done) | (rw [if_neg (by omega)]; done)) (by omega)
                · skip
                  exfalso; omega
              · skip
                refine z_iconst (z := ((1 : Nat) : Int)) hk dX2_length_62 (kk := ?_)
                refine z_goto hk 67 dX2_length_63 (kk := ?_)
                refine z_istore hk [(4, .int (iZ ((1 : Nat) : Int))), (3, .int (iZ ((i : Nat) : Int))), (2, .int (iZ ((b0 : Nat) : Int))), (0, .ref o), (1, .int (iZ (mm)))] dX2_length_67 (kk := ?_)
                refine z_iload hk dX2_length_69 0 rfl (kk := ?_)
                refine z_if_eq hk 78 dX2_length_71 (kt := fun h71 => ?_) (kf := fun h71 => ?_) 
                · skip
                  exfalso; omega
                · skip
                  refine z_iload_n hk dX2_length_74 1 rfl (kk := ?_)
                  refine z_goto hk 79 dX2_length_75 (kk := ?_)
                  refine z_istore_n hk [(2, .int (iZ ((i : Nat) : Int))), (4, .int (iZ ((1 : Nat) : Int))), (3, .int (iZ ((i : Nat) : Int))), (0, .ref o), (1, .int (iZ (mm)))] dX2_length_79 (kk := ?_)
                  refine z_iinc hk (z' := ((i + 1 : Nat) : Int)) [(3, .int (iZ ((i + 1 : Nat) : Int))), (2, .int (iZ ((i : Nat) : Int))), (4, .int (iZ ((1 : Nat) : Int))), (0, .ref o), (1, .int (iZ (mm)))] dX2_length_80 2 rfl (kk := ?_)
                  refine z_goto hk 18 dX2_length_83 (kk := ?_)
                  refine z_lvs [0, 1, 3, 4] (lv' := [(3, .int (iZ ((i + 1 : Nat) : Int))), (2, .int (iZ ((i : Nat) : Int))), (0, .ref o), (1, .int (iZ (mm)))]) (kk := ?_)
                  exact ih18  (i + 1) ((i : Nat) : Int) (by first | assumption | omega) (by show _ = aLen t n (i + 1 - 1); rw [show i + 1 - 1 = (i - 1) + 1 from by omega, aLen, ← hbl, lenStep, show i - 1 + 1 = i from by omega]; (try simp only [Int.toNat_natCast]); first | (rw [if_pos (by omega)]; done) | (rw [if_neg (by omega)]; done)) (by omega)
    exact L18 (21 - 1 + 1) 1 (-6) (by first | assumption | omega) (by rfl) (Nat.lt_succ_self _)
  · skip
    refine z_bipush (z := -2) hk dX2_length_10 (kk := ?_)
    exact z_iret hk hR_ () dX2_length_12 rfl (by rw [if_neg (by omega)]) (by trivial) (zSub.ix [0, 1] rfl)
