set_option maxHeartbeats 600000 in
theorem ct_X2_step (l_ : Launch) (G : zG) (o : Nat) (fs : List Value) (aS : Nat) (aT : Nat) (aO : Nat) (aQ : Nat) (aR : Nat) (aF : Nat) (aL : Nat) (st : Nat → Nat) (n : Nat) (t : Nat → Nat) (m : Nat) (k : Nat → Nat) (tx : Nat → Nat) (oth : Nat → Nat) (sq : Nat → Nat) (oc : Nat → Nat) (frm : Nat → Nat) (ln : Nat → Nat) (way : Int) (by_ : Int) (hF0 : fs[0]? = some (.ref aS)) (hF5 : fs[5]? = some (.ref aT)) (hF6 : fs[6]? = some (.ref aO)) (hF7 : fs[7]? = some (.ref aQ)) (hF8 : fs[8]? = some (.ref aR)) (hF9 : fs[9]? = some (.ref aF)) (hF10 : fs[10]? = some (.ref aL)) (hn : st 48 = n) (hn48 : n ≤ 48) (ht : ∀ j, j < n → st j = t j ∧ t j < 16) (hm : st 55 = m) (hm6 : 1 ≤ m ∧ m ≤ 6) (hkk : ∀ j, j < m → st (49 + j) = k j ∧ k j < 16) (hw : -2147483648 ≤ way ∧ way ≤ 2147483647) (hby : by_ = 1 ∨ by_ = -1) (hb : ∀ j, st j < 100) (h10 : st 328 ≤ 10) :
    Ct l_ G yX2_step cX2_step 5 (some .int) 6 0 0 [.ref o, .int (iZ (way)), .int (iZ (by_))] [(o, zO 2 fs), (aS, zI G 819 st), (aT, zI G 48 tx), (aO, zI G 48 oth), (aQ, zI G 16 sq), (aR, zI G 6 oc), (aF, zI G 48 frm), (aL, zI G 96 ln)]
      (fun u : Int × (Nat → Nat) × (Nat → Nat) × (Nat → Nat) × (Nat → Nat) × (Nat → Nat) × (Nat → Nat) × (Nat → Nat) => some (.int (iZ (u.1)))) (fun u : Int × (Nat → Nat) × (Nat → Nat) × (Nat → Nat) × (Nat → Nat) × (Nat → Nat) × (Nat → Nat) × (Nat → Nat) => (¬ (0 ≤ way ∧ way ≤ 5) ∧ u.1 = -2 ∧ u.2.1 = st) ∨ ((0 ≤ way ∧ way ≤ 5) ∧ (way = 2 ∧ n % 2 = 1) ∧ u.1 = -3 ∧ u.2.1 = st) ∨ ((0 ≤ way ∧ way ≤ 5) ∧ ¬ (way = 2 ∧ n % 2 = 1) ∧ u.1 = (pC (fun j => decide (wyF way by_ t k n m j ≠ t j)) n : Nat) ∧ u.2.1 = pP (keepF st) (wyF way by_ t k n m) 0 n)) (fun u : Int × (Nat → Nat) × (Nat → Nat) × (Nat → Nat) × (Nat → Nat) × (Nat → Nat) × (Nat → Nat) × (Nat → Nat) => [(o, zO 2 fs), (aS, zI G 819 u.2.1), (aT, zI G 48 u.2.2.1), (aO, zI G 48 u.2.2.2.1), (aQ, zI G 16 u.2.2.2.2.1), (aR, zI G 6 u.2.2.2.2.2.1), (aF, zI G 48 u.2.2.2.2.2.2.1), (aL, zI G 96 u.2.2.2.2.2.2.2)]) := by
  refine Ct.of (by decide) (Nat.le_of_ble_eq_true rfl) ?_
  intro κ hl_ hG_ hk hR_
  subst hl_
  subst hG_
  show Z κ 0 [(0, .ref o), (1, .int (iZ (way))), (2, .int (iZ (by_)))] [] [(o, zO 2 fs), (aS, zI (kG κ) 819 st), (aT, zI (kG κ) 48 tx), (aO, zI (kG κ) 48 oth), (aQ, zI (kG κ) 16 sq), (aR, zI (kG κ) 6 oc), (aF, zI (kG κ) 48 frm), (aL, zI (kG κ) 96 ln)] 0 0
  obtain ⟨Wf, eWf⟩ : ∃ Wf : Nat → Nat, Wf = wyF way by_ t k n m := ⟨_, rfl⟩
  refine z_iload_n hk dX2_step_0 1 rfl (kk := ?_)
  refine z_iconst (z := ((0 : Nat) : Int)) hk dX2_step_1 (kk := ?_)
  refine z_iconst (z := ((5 : Nat) : Int)) hk dX2_step_2 (kk := ?_)
  refine z_callS hk [.int (iZ (way)), .int (iZ ((0 : Nat) : Int)), .int (iZ ((5 : Nat) : Int))] 3 [(o, zO 2 fs), (aS, zI (kG κ) 819 st), (aT, zI (kG κ) 48 tx), (aO, zI (kG κ) 48 oth), (aQ, zI (kG κ) 16 sq), (aR, zI (kG κ) 6 oc), (aF, zI (kG κ) 48 frm), (aL, zI (kG κ) 96 ln)] (ct_X2_in (kL κ) (kG κ) way ((0 : Nat) : Int) ((5 : Nat) : Int) (by first | assumption | omega) (by first | assumption | omega) (by first | assumption | omega)) q1322 q1323 q66 q1324 (zSub.ix [0, 1, 2, 3, 4, 5, 6, 7] rfl) dX2_step_3 rfl (kk := fun u_1 hu3 => ?_)
  obtain ⟨u0_2, rfl⟩ : ∃ z_, z_ = u_1 := ⟨_, rfl⟩
  have hu3 : (u0_2 = 1 ∧ ((0 : Nat) : Int) ≤ way ∧ way ≤ ((5 : Nat) : Int)) ∨ (u0_2 = 0 ∧ ¬ (((0 : Nat) : Int) ≤ way ∧ way ≤ ((5 : Nat) : Int))) := hu3
  show Z κ 6 [(0, .ref o), (1, .int (iZ (way))), (2, .int (iZ (by_)))] [.int (iZ ((u0_2 : Nat) : Int))] [(o, zO 2 fs), (aS, zI (kG κ) 819 st), (aT, zI (kG κ) 48 tx), (aO, zI (kG κ) 48 oth), (aQ, zI (kG κ) 16 sq), (aR, zI (kG κ) 6 oc), (aF, zI (kG κ) 48 frm), (aL, zI (kG κ) 96 ln)] 0 0
  refine z_if_ne hk 12 dX2_step_6 (kt := fun h6 => ?_) (kf := fun h6 => ?_) 
  · skip
    refine z_iload_n hk dX2_step_12 1 rfl (kk := ?_)
    refine z_iconst (z := ((2 : Nat) : Int)) hk dX2_step_13 (kk := ?_)
    refine z_icmp_ne hk 30 dX2_step_14 (kt := fun h14 => ?_) (kf := fun h14 => ?_) 
    · skip
      refine z_aload_n hk dX2_step_30 0 rfl (kk := ?_)
      refine z_iload_n hk dX2_step_31 1 rfl (kk := ?_)
      refine z_iload_n hk dX2_step_32 2 rfl (kk := ?_)
      refine z_callV hk [.int (iZ (way)), .int (iZ (by_))] 2 [] (ct_X2_goWay (kL κ) (kG κ) o fs aS aT aO aQ aR aF aL st n t m k tx oth sq oc frm ln way by_ hF0 hF5 hF6 hF7 hF8 hF9 hF10 (by first | assumption | omega) (by first | assumption | omega) (by first | assumption | omega) (by first | assumption | omega) (by first | assumption | omega) (by first | assumption | omega) (by first | assumption | omega) (by first | assumption | omega) (by first | assumption | omega) (by first | assumption | omega)) q1368 q1370 qs33 q66 q1371 (zSub.ix [0, 1, 2, 3, 4, 5, 6, 7] rfl) 0 2 rfl dX2_step_33 rfl (kk := fun u_3 hu33 => ?_)
      obtain ⟨tx2_4, o2_5, oc2_6, f2_7, l2_8⟩ := u_3
      have hu33 : ∀ j, j < n → o2_5 j = wyF way by_ t k n m j := hu33
      show Z κ 36 [(0, .ref o), (1, .int (iZ (way))), (2, .int (iZ (by_)))] [] [(o, zO 2 fs), (aS, zI (kG κ) 819 st), (aT, zI (kG κ) 48 tx2_4), (aO, zI (kG κ) 48 o2_5), (aQ, zI (kG κ) 16 (sqF k m)), (aR, zI (kG κ) 6 oc2_6), (aF, zI (kG κ) 48 f2_7), (aL, zI (kG κ) 96 l2_8)] 0 0
      refine z_aload_n hk dX2_step_36 0 rfl (kk := ?_)
      refine z_callV hk [] 0 [(aT, zI (kG κ) 48 tx2_4), (aO, zI (kG κ) 48 o2_5), (aQ, zI (kG κ) 16 (sqF k m)), (aR, zI (kG κ) 6 oc2_6), (aF, zI (kG κ) 48 f2_7), (aL, zI (kG κ) 96 l2_8)] (ct_X2_keepStep (kL κ) (kG κ) o fs aS st hF0 (by first | assumption | omega) (by first | assumption | omega)) q1415 q1417 qs44 q66 q1418 (zSub.ix [0, 1, 2, 3, 4, 5, 6, 7] rfl) 0 2 rfl dX2_step_37 rfl (kk := fun _ _ => ?_)
      show Z κ 40 [(0, .ref o), (1, .int (iZ (way))), (2, .int (iZ (by_)))] [] [(o, zO 2 fs), (aS, zI (kG κ) 819 (keepF st)), (aT, zI (kG κ) 48 tx2_4), (aO, zI (kG κ) 48 o2_5), (aQ, zI (kG κ) 16 (sqF k m)), (aR, zI (kG κ) 6 oc2_6), (aF, zI (kG κ) 48 f2_7), (aL, zI (kG κ) 96 l2_8)] 0 0
      have hlt : ∀ j, j < n → Wf j < 16 := fun j hj => by rw [eWf]; exact wyF_lt (fun j hj => (ht j hj).2) (fun j hj => (hkk j hj).2) hm6.1 hj
      rw [← eWf] at hu33
      refine z_iconst (z := ((0 : Nat) : Int)) hk dX2_step_40 (kk := ?_)
      refine z_istore_n hk [(3, .int (iZ ((0 : Nat) : Int))), (0, .ref o), (1, .int (iZ (way))), (2, .int (iZ (by_)))] dX2_step_41 (kk := ?_)
      refine z_iconst (z := ((0 : Nat) : Int)) hk dX2_step_42 (kk := ?_)
      refine z_istore hk [(4, .int (iZ ((0 : Nat) : Int))), (3, .int (iZ ((0 : Nat) : Int))), (0, .ref o), (1, .int (iZ (way))), (2, .int (iZ (by_)))] dX2_step_43 (kk := ?_)
      have L45 : ∀ (f_ : Nat) (i : Nat) (r : Nat) (s2 : Nat → Nat), (i ≤ n) → (r = pC (fun j => decide (Wf j ≠ t j)) i) → (s2 = pP (keepF st) Wf 0 i) → n - i < f_ → Z κ 45 [(4, .int (iZ ((i : Nat) : Int))), (3, .int (iZ ((r : Nat) : Int))), (0, .ref o), (1, .int (iZ (way))), (2, .int (iZ (by_)))] [] [(o, zO 2 fs), (aS, zI (kG κ) 819 s2), (aT, zI (kG κ) 48 tx2_4), (aO, zI (kG κ) 48 o2_5), (aQ, zI (kG κ) 16 (sqF k m)), (aR, zI (kG κ) 6 oc2_6), (aF, zI (kG κ) 48 f2_7), (aL, zI (kG κ) 96 l2_8)] 0 0 := by
        intro f_
        induction f_ with
        | zero => intro i r s2 hi hr hs2 hm_; exact absurd hm_ (Nat.not_lt_zero _)
        | succ f_ ih45 =>
          intro i r s2 hi hr hs2 hm_
          have g0 : s2 48 = n := by rw [hs2, pP_out (by omega), keepF_lo (by omega)]; exact hn
          refine z_iload hk dX2_step_45 0 rfl (kk := ?_)
          refine z_aload_n hk dX2_step_47 2 rfl (kk := ?_)
          refine z_callV hk [] 0 [(aT, zI (kG κ) 48 tx2_4), (aO, zI (kG κ) 48 o2_5), (aQ, zI (kG κ) 16 (sqF k m)), (aR, zI (kG κ) 6 oc2_6), (aF, zI (kG κ) 48 f2_7), (aL, zI (kG κ) 96 l2_8)] (ct_X2_many (kL κ) (kG κ) o fs aS s2 n hF0 g0) q1352 q1354 qs30 q66 q1355 (zSub.ix [0, 1, 2, 3, 4, 5, 6, 7] rfl) 0 2 rfl dX2_step_48 rfl (kk := fun _ _ => ?_)
          show Z κ 51 [(4, .int (iZ ((i : Nat) : Int))), (3, .int (iZ ((r : Nat) : Int))), (0, .ref o), (1, .int (iZ (way))), (2, .int (iZ (by_)))] [.int (iZ ((n : Nat) : Int)), .int (iZ ((i : Nat) : Int))] [(o, zO 2 fs), (aS, zI (kG κ) 819 s2), (aT, zI (kG κ) 48 tx2_4), (aO, zI (kG κ) 48 o2_5), (aQ, zI (kG κ) 16 (sqF k m)), (aR, zI (kG κ) 6 oc2_6), (aF, zI (kG κ) 48 f2_7), (aL, zI (kG κ) 96 l2_8)] 0 0
          refine z_icmp_ge hk 103 dX2_step_51 (kt := fun h51 => ?_) (kf := fun h51 => ?_) 
          · skip
            refine z_iload_n hk dX2_step_103 1 rfl (kk := ?_)
            generalize sqF k m = g_11
            exact z_iret hk hR_ (((r : Nat) : Int), s2, tx2_4, o2_5, g_11, oc2_6, f2_7, l2_8) dX2_step_104 rfl rfl (by (try dsimp only); rw [← eWf]; exact Or.inr (Or.inr ⟨by omega, by omega, by rw [hr, show i = n from by omega], by rw [hs2, show i = n from by omega]⟩)) (zSub.ix [0, 1, 2, 3, 4, 5, 6, 7] rfl)
          · skip
            refine z_iload_n hk dX2_step_54 1 rfl (kk := ?_)
            refine z_aload_n hk dX2_step_55 2 rfl (kk := ?_)
            refine z_get hk in_X2 0 0 q1280 dX2_step_56 rfl hF0 (kk := ?_)
            refine z_iconst (z := ((0 : Nat) : Int)) hk dX2_step_59 (kk := ?_)
            refine z_iload hk dX2_step_60 0 rfl (kk := ?_)
            refine z_iadd (z := ((i : Nat) : Int)) hk dX2_step_62 (by omega) (kk := ?_)
            refine z_iald (i := i) hk 1 dX2_step_63 rfl (kk := ?_) 
            refine z_aload_n hk dX2_step_64 2 rfl (kk := ?_)
            refine z_get hk in_X2 0 6 q1286 dX2_step_65 rfl hF6 (kk := ?_)
            refine z_iload hk dX2_step_68 0 rfl (kk := ?_)
            refine z_iald (i := i) hk 3 dX2_step_70 rfl (kk := ?_) 
            have g1 := hu33 i (by omega)
            have g2 := hlt i (by omega)
            have g3 : s2 i = t i := by rw [hs2, pP_out (by omega), keepF_lo (by omega)]; exact (ht i (by omega)).1
            have g4 := (ht i (by omega)).2
            refine z_icmp_ne hk 78 dX2_step_71 (kt := fun h71 => ?_) (kf := fun h71 => ?_) 
            · skip
              refine z_iconst (z := ((1 : Nat) : Int)) hk dX2_step_78 (kk := ?_)
              refine z_iadd (z := ((r + 1 : Nat) : Int)) hk dX2_step_79 (Int.natCast_add _ _).symm (kk := ?_)
              refine z_istore_n hk [(3, .int (iZ ((r + 1 : Nat) : Int))), (4, .int (iZ ((i : Nat) : Int))), (0, .ref o), (1, .int (iZ (way))), (2, .int (iZ (by_)))] dX2_step_80 (kk := ?_)
              refine z_aload_n hk dX2_step_81 2 rfl (kk := ?_)
              refine z_get hk in_X2 0 0 q1280 dX2_step_82 rfl hF0 (kk := ?_)
              refine z_iconst (z := ((0 : Nat) : Int)) hk dX2_step_85 (kk := ?_)
              refine z_iload hk dX2_step_86 1 rfl (kk := ?_)
              refine z_iadd (z := ((i : Nat) : Int)) hk dX2_step_88 (by omega) (kk := ?_)
              refine z_aload_n hk dX2_step_89 2 rfl (kk := ?_)
              refine z_get hk in_X2 0 6 q1286 dX2_step_90 rfl hF6 (kk := ?_)
              refine z_iload hk dX2_step_93 1 rfl (kk := ?_)
              refine z_iald (i := i) hk 3 dX2_step_95 rfl (kk := ?_) 
              refine z_iast (i := i) hk 1 [(o, zO 2 fs), (aS, zI (kG κ) 819 (va_up s2 i (o2_5 i))), (aT, zI (kG κ) 48 tx2_4), (aO, zI (kG κ) 48 o2_5), (aQ, zI (kG κ) 16 (sqF k m)), (aR, zI (kG κ) 6 oc2_6), (aF, zI (kG κ) 48 f2_7), (aL, zI (kG κ) 96 l2_8)] dX2_step_96 rfl  (kk := ?_) 
              refine z_iinc hk (z' := ((i + 1 : Nat) : Int)) [(4, .int (iZ ((i + 1 : Nat) : Int))), (3, .int (iZ ((r + 1 : Nat) : Int))), (0, .ref o), (1, .int (iZ (way))), (2, .int (iZ (by_)))] dX2_step_97 1 rfl (kk := ?_)
              refine z_goto hk 45 dX2_step_100 (kk := ?_)
              exact ih45  (i + 1) (r + 1) (va_up s2 i (o2_5 i)) (by first | assumption | omega) (by first | exact pC_yes hr (decide_eq_true (by omega)) | exact pC_no hr (decide_eq_false (by omega))) (by rw [hs2]; exact pP_up0 g1) (by omega)
            · skip
              refine z_iconst (z := ((0 : Nat) : Int)) hk dX2_step_74 (kk := ?_)
              refine z_goto hk 79 dX2_step_75 (kk := ?_)
              refine z_iadd (z := ((r : Nat) : Int)) hk dX2_step_79 (by omega) (kk := ?_)
              refine z_istore_n hk [(3, .int (iZ ((r : Nat) : Int))), (4, .int (iZ ((i : Nat) : Int))), (0, .ref o), (1, .int (iZ (way))), (2, .int (iZ (by_)))] dX2_step_80 (kk := ?_)
              refine z_aload_n hk dX2_step_81 2 rfl (kk := ?_)
              refine z_get hk in_X2 0 0 q1280 dX2_step_82 rfl hF0 (kk := ?_)
              refine z_iconst (z := ((0 : Nat) : Int)) hk dX2_step_85 (kk := ?_)
              refine z_iload hk dX2_step_86 1 rfl (kk := ?_)
              refine z_iadd (z := ((i : Nat) : Int)) hk dX2_step_88 (by omega) (kk := ?_)
              refine z_aload_n hk dX2_step_89 2 rfl (kk := ?_)
              refine z_get hk in_X2 0 6 q1286 dX2_step_90 rfl hF6 (kk := ?_)
              refine z_iload hk dX2_step_93 1 rfl (kk := ?_)
              refine z_iald (i := i) hk 3 dX2_step_95 rfl (kk := ?_) 
              refine z_iast (i := i) hk 1 [(o, zO 2 fs), (aS, zI (kG κ) 819 (va_up s2 i (o2_5 i))), (aT, zI (kG κ) 48 tx2_4), (aO, zI (kG κ) 48 o2_5), (aQ, zI (kG κ) 16 (sqF k m)), (aR, zI (kG κ) 6 oc2_6), (aF, zI (kG κ) 48 f2_7), (aL, zI (kG κ) 96 l2_8)] dX2_step_96 rfl  (kk := ?_) 
              refine z_iinc hk (z' := ((i + 1 : Nat) : Int)) [(4, .int (iZ ((i + 1 : Nat) : Int))), (3, .int (iZ ((r : Nat) : Int))), (0, .ref o), (1, .int (iZ (way))), (2, .int (iZ (by_)))] dX2_step_97 1 rfl (kk := ?_)
              refine z_goto hk 45 dX2_step_100 (kk := ?_)
              exact ih45  (i + 1) r (va_up s2 i (o2_5 i)) (by first | assumption | omega) (by first | exact pC_yes hr (decide_eq_true (by omega)) | exact pC_no hr (decide_eq_false (by omega))) (by rw [hs2]; exact pP_up0 g1) (by omega)
      exact L45 (n - 0 + 1) 0 0 (keepF st) (by first | assumption | omega) (by rfl) (by exact (pP_0 _ _ _).symm) (Nat.lt_succ_self _)
    · skip
      refine z_aload_n hk dX2_step_17 0 rfl (kk := ?_)
      refine z_callV hk [] 0 [(aT, zI (kG κ) 48 tx), (aO, zI (kG κ) 48 oth), (aQ, zI (kG κ) 16 sq), (aR, zI (kG κ) 6 oc), (aF, zI (kG κ) 48 frm), (aL, zI (kG κ) 96 ln)] (ct_X2_many (kL κ) (kG κ) o fs aS st n hF0 (by first | assumption | omega)) q1352 q1354 qs30 q66 q1355 (zSub.ix [0, 1, 2, 3, 4, 5, 6, 7] rfl) 0 2 rfl dX2_step_18 rfl (kk := fun _ _ => ?_)
      show Z κ 21 [(0, .ref o), (1, .int (iZ (way))), (2, .int (iZ (by_)))] [.int (iZ ((n : Nat) : Int))] [(o, zO 2 fs), (aS, zI (kG κ) 819 st), (aT, zI (kG κ) 48 tx), (aO, zI (kG κ) 48 oth), (aQ, zI (kG κ) 16 sq), (aR, zI (kG κ) 6 oc), (aF, zI (kG κ) 48 frm), (aL, zI (kG κ) 96 ln)] 0 0
      refine z_iconst (z := ((2 : Nat) : Int)) hk dX2_step_21 (kk := ?_)
      refine z_irem (a := n) (b := 2) hk dX2_step_22 (kk := ?_) 
      refine z_iconst (z := ((1 : Nat) : Int)) hk dX2_step_23 (kk := ?_)
      refine z_icmp_ne hk 30 dX2_step_24 (kt := fun h24 => ?_) (kf := fun h24 => ?_) 
      · skip
        refine z_aload_n hk dX2_step_30 0 rfl (kk := ?_)
        refine z_iload_n hk dX2_step_31 1 rfl (kk := ?_)
        refine z_iload_n hk dX2_step_32 2 rfl (kk := ?_)
        refine z_callV hk [.int (iZ (way)), .int (iZ (by_))] 2 [] (ct_X2_goWay (kL κ) (kG κ) o fs aS aT aO aQ aR aF aL st n t m k tx oth sq oc frm ln way by_ hF0 hF5 hF6 hF7 hF8 hF9 hF10 (by first | assumption | omega) (by first | assumption | omega) (by first | assumption | omega) (by first | assumption | omega) (by first | assumption | omega) (by first | assumption | omega) (by first | assumption | omega) (by first | assumption | omega) (by first | assumption | omega) (by first | assumption | omega)) q1368 q1370 qs33 q66 q1371 (zSub.ix [0, 1, 2, 3, 4, 5, 6, 7] rfl) 0 2 rfl dX2_step_33 rfl (kk := fun u_13 hu33 => ?_)
        obtain ⟨tx2_14, o2_15, oc2_16, f2_17, l2_18⟩ := u_13
        have hu33 : ∀ j, j < n → o2_15 j = wyF way by_ t k n m j := hu33
        show Z κ 36 [(0, .ref o), (1, .int (iZ (way))), (2, .int (iZ (by_)))] [] [(o, zO 2 fs), (aS, zI (kG κ) 819 st), (aT, zI (kG κ) 48 tx2_14), (aO, zI (kG κ) 48 o2_15), (aQ, zI (kG κ) 16 (sqF k m)), (aR, zI (kG κ) 6 oc2_16), (aF, zI (kG κ) 48 f2_17), (aL, zI (kG κ) 96 l2_18)] 0 0
        refine z_aload_n hk dX2_step_36 0 rfl (kk := ?_)
        refine z_callV hk [] 0 [(aT, zI (kG κ) 48 tx2_14), (aO, zI (kG κ) 48 o2_15), (aQ, zI (kG κ) 16 (sqF k m)), (aR, zI (kG κ) 6 oc2_16), (aF, zI (kG κ) 48 f2_17), (aL, zI (kG κ) 96 l2_18)] (ct_X2_keepStep (kL κ) (kG κ) o fs aS st hF0 (by first | assumption | omega) (by first | assumption | omega)) q1415 q1417 qs44 q66 q1418 (zSub.ix [0, 1, 2, 3, 4, 5, 6, 7] rfl) 0 2 rfl dX2_step_37 rfl (kk := fun _ _ => ?_)
        show Z κ 40 [(0, .ref o), (1, .int (iZ (way))), (2, .int (iZ (by_)))] [] [(o, zO 2 fs), (aS, zI (kG κ) 819 (keepF st)), (aT, zI (kG κ) 48 tx2_14), (aO, zI (kG κ) 48 o2_15), (aQ, zI (kG κ) 16 (sqF k m)), (aR, zI (kG κ) 6 oc2_16), (aF, zI (kG κ) 48 f2_17), (aL, zI (kG κ) 96 l2_18)] 0 0
        have hlt : ∀ j, j < n → Wf j < 16 := fun j hj => by rw [eWf]; exact wyF_lt (fun j hj => (ht j hj).2) (fun j hj => (hkk j hj).2) hm6.1 hj
        rw [← eWf] at hu33
        refine z_iconst (z := ((0 : Nat) : Int)) hk dX2_step_40 (kk := ?_)
        refine z_istore_n hk [(3, .int (iZ ((0 : Nat) : Int))), (0, .ref o), (1, .int (iZ (way))), (2, .int (iZ (by_)))] dX2_step_41 (kk := ?_)
        refine z_iconst (z := ((0 : Nat) : Int)) hk dX2_step_42 (kk := ?_)
        refine z_istore hk [(4, .int (iZ ((0 : Nat) : Int))), (3, .int (iZ ((0 : Nat) : Int))), (0, .ref o), (1, .int (iZ (way))), (2, .int (iZ (by_)))] dX2_step_43 (kk := ?_)
        have L45 : ∀ (f_ : Nat) (i : Nat) (r : Nat) (s2 : Nat → Nat), (i ≤ n) → (r = pC (fun j => decide (Wf j ≠ t j)) i) → (s2 = pP (keepF st) Wf 0 i) → n - i < f_ → Z κ 45 [(4, .int (iZ ((i : Nat) : Int))), (3, .int (iZ ((r : Nat) : Int))), (0, .ref o), (1, .int (iZ (way))), (2, .int (iZ (by_)))] [] [(o, zO 2 fs), (aS, zI (kG κ) 819 s2), (aT, zI (kG κ) 48 tx2_14), (aO, zI (kG κ) 48 o2_15), (aQ, zI (kG κ) 16 (sqF k m)), (aR, zI (kG κ) 6 oc2_16), (aF, zI (kG κ) 48 f2_17), (aL, zI (kG κ) 96 l2_18)] 0 0 := by
          intro f_
          induction f_ with
          | zero => intro i r s2 hi hr hs2 hm_; exact absurd hm_ (Nat.not_lt_zero _)
          | succ f_ ih45 =>
            intro i r s2 hi hr hs2 hm_
            have g0 : s2 48 = n := by rw [hs2, pP_out (by omega), keepF_lo (by omega)]; exact hn
            refine z_iload hk dX2_step_45 0 rfl (kk := ?_)
            refine z_aload_n hk dX2_step_47 2 rfl (kk := ?_)
            refine z_callV hk [] 0 [(aT, zI (kG κ) 48 tx2_14), (aO, zI (kG κ) 48 o2_15), (aQ, zI (kG κ) 16 (sqF k m)), (aR, zI (kG κ) 6 oc2_16), (aF, zI (kG κ) 48 f2_17), (aL, zI (kG κ) 96 l2_18)] (ct_X2_many (kL κ) (kG κ) o fs aS s2 n hF0 g0) q1352 q1354 qs30 q66 q1355 (zSub.ix [0, 1, 2, 3, 4, 5, 6, 7] rfl) 0 2 rfl dX2_step_48 rfl (kk := fun _ _ => ?_)
            show Z κ 51 [(4, .int (iZ ((i : Nat) : Int))), (3, .int (iZ ((r : Nat) : Int))), (0, .ref o), (1, .int (iZ (way))), (2, .int (iZ (by_)))] [.int (iZ ((n : Nat) : Int)), .int (iZ ((i : Nat) : Int))] [(o, zO 2 fs), (aS, zI (kG κ) 819 s2), (aT, zI (kG κ) 48 tx2_14), (aO, zI (kG κ) 48 o2_15), (aQ, zI (kG κ) 16 (sqF k m)), (aR, zI (kG κ) 6 oc2_16), (aF, zI (kG κ) 48 f2_17), (aL, zI (kG κ) 96 l2_18)] 0 0
            refine z_icmp_ge hk 103 dX2_step_51 (kt := fun h51 => ?_) (kf := fun h51 => ?_) 
            · skip
              refine z_iload_n hk dX2_step_103 1 rfl (kk := ?_)
              generalize sqF k m = g_21
              exact z_iret hk hR_ (((r : Nat) : Int), s2, tx2_14, o2_15, g_21, oc2_16, f2_17, l2_18) dX2_step_104 rfl rfl (by (try dsimp only); rw [← eWf]; exact Or.inr (Or.inr ⟨by omega, by omega, by rw [hr, show i = n from by omega], by rw [hs2, show i = n from by omega]⟩)) (zSub.ix [0, 1, 2, 3, 4, 5, 6, 7] rfl)
            · skip
              refine z_iload_n hk dX2_step_54 1 rfl (kk := ?_)
              refine z_aload_n hk dX2_step_55 2 rfl (kk := ?_)
              refine z_get hk in_X2 0 0 q1280 dX2_step_56 rfl hF0 (kk := ?_)
              refine z_iconst (z := ((0 : Nat) : Int)) hk dX2_step_59 (kk := ?_)
              refine z_iload hk dX2_step_60 0 rfl (kk := ?_)
              refine z_iadd (z := ((i : Nat) : Int)) hk dX2_step_62 (by omega) (kk := ?_)
              refine z_iald (i := i) hk 1 dX2_step_63 rfl (kk := ?_) 
              refine z_aload_n hk dX2_step_64 2 rfl (kk := ?_)
              refine z_get hk in_X2 0 6 q1286 dX2_step_65 rfl hF6 (kk := ?_)
              refine z_iload hk dX2_step_68 0 rfl (kk := ?_)
              refine z_iald (i := i) hk 3 dX2_step_70 rfl (kk := ?_) 
              have g1 := hu33 i (by omega)
              have g2 := hlt i (by omega)
              have g3 : s2 i = t i := by rw [hs2, pP_out (by omega), keepF_lo (by omega)]; exact (ht i (by omega)).1
              have g4 := (ht i (by omega)).2
              refine z_icmp_ne hk 78 dX2_step_71 (kt := fun h71 => ?_) (kf := fun h71 => ?_) 
              · skip
                refine z_iconst (z := ((1 : Nat) : Int)) hk dX2_step_78 (kk := ?_)
                refine z_iadd (z := ((r + 1 : Nat) : Int)) hk dX2_step_79 (Int.natCast_add _ _).symm (kk := ?_)
                refine z_istore_n hk [(3, .int (iZ ((r + 1 : Nat) : Int))), (4, .int (iZ ((i : Nat) : Int))), (0, .ref o), (1, .int (iZ (way))), (2, .int (iZ (by_)))] dX2_step_80 (kk := ?_)
                refine z_aload_n hk dX2_step_81 2 rfl (kk := ?_)
                refine z_get hk in_X2 0 0 q1280 dX2_step_82 rfl hF0 (kk := ?_)
                refine z_iconst (z := ((0 : Nat) : Int)) hk dX2_step_85 (kk := ?_)
                refine z_iload hk dX2_step_86 1 rfl (kk := ?_)
                refine z_iadd (z := ((i : Nat) : Int)) hk dX2_step_88 (by omega) (kk := ?_)
                refine z_aload_n hk dX2_step_89 2 rfl (kk := ?_)
                refine z_get hk in_X2 0 6 q1286 dX2_step_90 rfl hF6 (kk := ?_)
                refine z_iload hk dX2_step_93 1 rfl (kk := ?_)
                refine z_iald (i := i) hk 3 dX2_step_95 rfl (kk := ?_) 
                refine z_iast (i := i) hk 1 [(o, zO 2 fs), (aS, zI (kG κ) 819 (va_up s2 i (o2_15 i))), (aT, zI (kG κ) 48 tx2_14), (aO, zI (kG κ) 48 o2_15), (aQ, zI (kG κ) 16 (sqF k m)), (aR, zI (kG κ) 6 oc2_16), (aF, zI (kG κ) 48 f2_17), (aL, zI (kG κ) 96 l2_18)] dX2_step_96 rfl  (kk := ?_) 
                refine z_iinc hk (z' := ((i + 1 : Nat) : Int)) [(4, .int (iZ ((i + 1 : Nat) : Int))), (3, .int (iZ ((r + 1 : Nat) : Int))), (0, .ref o), (1, .int (iZ (way))), (2, .int (iZ (by_)))] dX2_step_97 1 rfl (kk := ?_)
                refine z_goto hk 45 dX2_step_100 (kk := ?_)
                exact ih45  (i + 1) (r + 1) (va_up s2 i (o2_15 i)) (by first | assumption | omega) (by first | exact pC_yes hr (decide_eq_true (by omega)) | exact pC_no hr (decide_eq_false (by omega))) (by rw [hs2]; exact pP_up0 g1) (by omega)
              · skip
                refine z_iconst (z := ((0 : Nat) : Int)) hk dX2_step_74 (kk := ?_)
                refine z_goto hk 79 dX2_step_75 (kk := ?_)
                refine z_iadd (z := ((r : Nat) : Int)) hk dX2_step_79 (by omega) (kk := ?_)
                refine z_istore_n hk [(3, .int (iZ ((r : Nat) : Int))), (4, .int (iZ ((i : Nat) : Int))), (0, .ref o), (1, .int (iZ (way))), (2, .int (iZ (by_)))] dX2_step_80 (kk := ?_)
                refine z_aload_n hk dX2_step_81 2 rfl (kk := ?_)
                refine z_get hk in_X2 0 0 q1280 dX2_step_82 rfl hF0 (kk := ?_)
                refine z_iconst (z := ((0 : Nat) : Int)) hk dX2_step_85 (kk := ?_)
                refine z_iload hk dX2_step_86 1 rfl (kk := ?_)
                refine z_iadd (z := ((i : Nat) : Int)) hk dX2_step_88 (by omega) (kk := ?_)
                refine z_aload_n hk dX2_step_89 2 rfl (kk := ?_)
                refine z_get hk in_X2 0 6 q1286 dX2_step_90 rfl hF6 (kk := ?_)
                refine z_iload hk dX2_step_93 1 rfl (kk := ?_)
                refine z_iald (i := i) hk 3 dX2_step_95 rfl (kk := ?_) 
                refine z_iast (i := i) hk 1 [(o, zO 2 fs), (aS, zI (kG κ) 819 (va_up s2 i (o2_15 i))), (aT, zI (kG κ) 48 tx2_14), (aO, zI (kG κ) 48 o2_15), (aQ, zI (kG κ) 16 (sqF k m)), (aR, zI (kG κ) 6 oc2_16), (aF, zI (kG κ) 48 f2_17), (aL, zI (kG κ) 96 l2_18)] dX2_step_96 rfl  (kk := ?_) 
                refine z_iinc hk (z' := ((i + 1 : Nat) : Int)) [(4, .int (iZ ((i + 1 : Nat) : Int))), (3, .int (iZ ((r : Nat) : Int))), (0, .ref o), (1, .int (iZ (way))), (2, .int (iZ (by_)))] dX2_step_97 1 rfl (kk := ?_)
                refine z_goto hk 45 dX2_step_100 (kk := ?_)
                exact ih45  (i + 1) r (va_up s2 i (o2_15 i)) (by first | assumption | omega) (by first | exact pC_yes hr (decide_eq_true (by omega)) | exact pC_no hr (decide_eq_false (by omega))) (by rw [hs2]; exact pP_up0 g1) (by omega)
        exact L45 (n - 0 + 1) 0 0 (keepF st) (by first | assumption | omega) (by rfl) (by exact (pP_0 _ _ _).symm) (Nat.lt_succ_self _)
      · skip
        refine z_bipush (z := -3) hk dX2_step_27 (kk := ?_)
        exact z_iret hk hR_ (-3, st, tx, oth, sq, oc, frm, ln) dX2_step_29 rfl rfl (by (try dsimp only); exact Or.inr (Or.inl ⟨by omega, by omega, rfl, rfl⟩)) (zSub.ix [0, 1, 2, 3, 4, 5, 6, 7] rfl)
  · skip
    refine z_bipush (z := -2) hk dX2_step_9 (kk := ?_)
    exact z_iret hk hR_ (-2, st, tx, oth, sq, oc, frm, ln) dX2_step_11 rfl rfl (by (try dsimp only); exact Or.inl ⟨by omega, rfl, rfl⟩) (zSub.ix [0, 1, 2, 3, 4, 5, 6, 7] rfl)

set_option maxHeartbeats 600000 in
theorem ct_X2_hide (l_ : Launch) (G : zG) (o : Nat) (fs : List Value) (aS : Nat) (aT : Nat) (aO : Nat) (aQ : Nat) (aR : Nat) (aF : Nat) (aL : Nat) (st : Nat → Nat) (n : Nat) (t : Nat → Nat) (m : Nat) (k : Nat → Nat) (tx : Nat → Nat) (oth : Nat → Nat) (sq : Nat → Nat) (oc : Nat → Nat) (frm : Nat → Nat) (ln : Nat → Nat) (way : Int) (hF0 : fs[0]? = some (.ref aS)) (hF5 : fs[5]? = some (.ref aT)) (hF6 : fs[6]? = some (.ref aO)) (hF7 : fs[7]? = some (.ref aQ)) (hF8 : fs[8]? = some (.ref aR)) (hF9 : fs[9]? = some (.ref aF)) (hF10 : fs[10]? = some (.ref aL)) (hn : st 48 = n) (hn48 : n ≤ 48) (ht : ∀ j, j < n → st j = t j ∧ t j < 16) (hm : st 55 = m) (hm6 : 1 ≤ m ∧ m ≤ 6) (hkk : ∀ j, j < m → st (49 + j) = k j ∧ k j < 16) (hw : -2147483648 ≤ way ∧ way ≤ 2147483647) (hb : ∀ j, st j < 100) (h10 : st 328 ≤ 10) :
    Ct l_ G yX2_hide cX2_hide 2 (some .int) 7 0 0 [.ref o, .int (iZ (way))] [(o, zO 2 fs), (aS, zI G 819 st), (aT, zI G 48 tx), (aO, zI G 48 oth), (aQ, zI G 16 sq), (aR, zI G 6 oc), (aF, zI G 48 frm), (aL, zI G 96 ln)]
      (fun u : Int × (Nat → Nat) × (Nat → Nat) × (Nat → Nat) × (Nat → Nat) × (Nat → Nat) × (Nat → Nat) × (Nat → Nat) => some (.int (iZ (u.1)))) (fun u : Int × (Nat → Nat) × (Nat → Nat) × (Nat → Nat) × (Nat → Nat) × (Nat → Nat) × (Nat → Nat) × (Nat → Nat) => (¬ (0 ≤ way ∧ way ≤ 5) ∧ u.1 = -2 ∧ u.2.1 = st) ∨ ((0 ≤ way ∧ way ≤ 5) ∧ (way = 2 ∧ n % 2 = 1) ∧ u.1 = -3 ∧ u.2.1 = st) ∨ ((0 ≤ way ∧ way ≤ 5) ∧ ¬ (way = 2 ∧ n % 2 = 1) ∧ u.1 = (pC (fun j => decide (wyF way (1) t k n m j ≠ t j)) n : Nat) ∧ u.2.1 = pP (keepF st) (wyF way (1) t k n m) 0 n)) (fun u : Int × (Nat → Nat) × (Nat → Nat) × (Nat → Nat) × (Nat → Nat) × (Nat → Nat) × (Nat → Nat) × (Nat → Nat) => [(o, zO 2 fs), (aS, zI G 819 u.2.1), (aT, zI G 48 u.2.2.1), (aO, zI G 48 u.2.2.2.1), (aQ, zI G 16 u.2.2.2.2.1), (aR, zI G 6 u.2.2.2.2.2.1), (aF, zI G 48 u.2.2.2.2.2.2.1), (aL, zI G 96 u.2.2.2.2.2.2.2)]) := by
  refine Ct.of (by decide) (Nat.le_of_ble_eq_true rfl) ?_
  intro κ hl_ hG_ hk hR_
  subst hl_
  subst hG_
  show Z κ 0 [(0, .ref o), (1, .int (iZ (way)))] [] [(o, zO 2 fs), (aS, zI (kG κ) 819 st), (aT, zI (kG κ) 48 tx), (aO, zI (kG κ) 48 oth), (aQ, zI (kG κ) 16 sq), (aR, zI (kG κ) 6 oc), (aF, zI (kG κ) 48 frm), (aL, zI (kG κ) 96 ln)] 0 0
  refine z_aload_n hk dX2_hide_0 0 rfl (kk := ?_)
  refine z_iload_n hk dX2_hide_1 1 rfl (kk := ?_)
  refine z_iconst (z := ((1 : Nat) : Int)) hk dX2_hide_2 (kk := ?_)
  refine z_callV hk [.int (iZ (way)), .int (iZ ((1 : Nat) : Int))] 2 [] (ct_X2_step (kL κ) (kG κ) o fs aS aT aO aQ aR aF aL st n t m k tx oth sq oc frm ln way (1 : Int) hF0 hF5 hF6 hF7 hF8 hF9 hF10 (by first | assumption | omega) (by first | assumption | omega) (by first | assumption | omega) (by first | assumption | omega) (by first | assumption | omega) (by first | assumption | omega) (by first | assumption | omega) (by decide) (by first | assumption | omega) (by first | assumption | omega)) q1364 q1366 qs32 q66 q1367 (zSub.ix [0, 1, 2, 3, 4, 5, 6, 7] rfl) 0 2 rfl dX2_hide_3 rfl (kk := fun u_1 hu3 => ?_)
  obtain ⟨r_2, st2_3, tx2_4, o2_5, sq2_6, oc2_7, f2_8, l2_9⟩ := u_1
  have hu3 : (¬ (0 ≤ way ∧ way ≤ 5) ∧ r_2 = -2 ∧ st2_3 = st) ∨ ((0 ≤ way ∧ way ≤ 5) ∧ (way = 2 ∧ n % 2 = 1) ∧ r_2 = -3 ∧ st2_3 = st) ∨ ((0 ≤ way ∧ way ≤ 5) ∧ ¬ (way = 2 ∧ n % 2 = 1) ∧ r_2 = (pC (fun j => decide (wyF way (1 : Int) t k n m j ≠ t j)) n : Nat) ∧ st2_3 = pP (keepF st) (wyF way (1 : Int) t k n m) 0 n) := hu3
  show Z κ 6 [(0, .ref o), (1, .int (iZ (way)))] [.int (iZ (r_2))] [(o, zO 2 fs), (aS, zI (kG κ) 819 st2_3), (aT, zI (kG κ) 48 tx2_4), (aO, zI (kG κ) 48 o2_5), (aQ, zI (kG κ) 16 sq2_6), (aR, zI (kG κ) 6 oc2_7), (aF, zI (kG κ) 48 f2_8), (aL, zI (kG κ) 96 l2_9)] 0 0
  exact z_iret hk hR_ (r_2, st2_3, tx2_4, o2_5, sq2_6, oc2_7, f2_8, l2_9) dX2_hide_6 rfl rfl (by (try dsimp only); exact hu3) (zSub.ix [0, 1, 2, 3, 4, 5, 6, 7] rfl)

set_option maxHeartbeats 600000 in
theorem ct_X2_find (l_ : Launch) (G : zG) (o : Nat) (fs : List Value) (aS : Nat) (aT : Nat) (aO : Nat) (aQ : Nat) (aR : Nat) (aF : Nat) (aL : Nat) (st : Nat → Nat) (n : Nat) (t : Nat → Nat) (m : Nat) (k : Nat → Nat) (tx : Nat → Nat) (oth : Nat → Nat) (sq : Nat → Nat) (oc : Nat → Nat) (frm : Nat → Nat) (ln : Nat → Nat) (way : Int) (hF0 : fs[0]? = some (.ref aS)) (hF5 : fs[5]? = some (.ref aT)) (hF6 : fs[6]? = some (.ref aO)) (hF7 : fs[7]? = some (.ref aQ)) (hF8 : fs[8]? = some (.ref aR)) (hF9 : fs[9]? = some (.ref aF)) (hF10 : fs[10]? = some (.ref aL)) (hn : st 48 = n) (hn48 : n ≤ 48) (ht : ∀ j, j < n → st j = t j ∧ t j < 16) (hm : st 55 = m) (hm6 : 1 ≤ m ∧ m ≤ 6) (hkk : ∀ j, j < m → st (49 + j) = k j ∧ k j < 16) (hw : -2147483648 ≤ way ∧ way ≤ 2147483647) (hb : ∀ j, st j < 100) (h10 : st 328 ≤ 10) :
    Ct l_ G yX2_find cX2_find 2 (some .int) 7 0 0 [.ref o, .int (iZ (way))] [(o, zO 2 fs), (aS, zI G 819 st), (aT, zI G 48 tx), (aO, zI G 48 oth), (aQ, zI G 16 sq), (aR, zI G 6 oc), (aF, zI G 48 frm), (aL, zI G 96 ln)]
      (fun u : Int × (Nat → Nat) × (Nat → Nat) × (Nat → Nat) × (Nat → Nat) × (Nat → Nat) × (Nat → Nat) × (Nat → Nat) => some (.int (iZ (u.1)))) (fun u : Int × (Nat → Nat) × (Nat → Nat) × (Nat → Nat) × (Nat → Nat) × (Nat → Nat) × (Nat → Nat) × (Nat → Nat) => (¬ (0 ≤ way ∧ way ≤ 5) ∧ u.1 = -2 ∧ u.2.1 = st) ∨ ((0 ≤ way ∧ way ≤ 5) ∧ (way = 2 ∧ n % 2 = 1) ∧ u.1 = -3 ∧ u.2.1 = st) ∨ ((0 ≤ way ∧ way ≤ 5) ∧ ¬ (way = 2 ∧ n % 2 = 1) ∧ u.1 = (pC (fun j => decide (wyF way (-1) t k n m j ≠ t j)) n : Nat) ∧ u.2.1 = pP (keepF st) (wyF way (-1) t k n m) 0 n)) (fun u : Int × (Nat → Nat) × (Nat → Nat) × (Nat → Nat) × (Nat → Nat) × (Nat → Nat) × (Nat → Nat) × (Nat → Nat) => [(o, zO 2 fs), (aS, zI G 819 u.2.1), (aT, zI G 48 u.2.2.1), (aO, zI G 48 u.2.2.2.1), (aQ, zI G 16 u.2.2.2.2.1), (aR, zI G 6 u.2.2.2.2.2.1), (aF, zI G 48 u.2.2.2.2.2.2.1), (aL, zI G 96 u.2.2.2.2.2.2.2)]) := by
  refine Ct.of (by decide) (Nat.le_of_ble_eq_true rfl) ?_
  intro κ hl_ hG_ hk hR_
  subst hl_
  subst hG_
  show Z κ 0 [(0, .ref o), (1, .int (iZ (way)))] [] [(o, zO 2 fs), (aS, zI (kG κ) 819 st), (aT, zI (kG κ) 48 tx), (aO, zI (kG κ) 48 oth), (aQ, zI (kG κ) 16 sq), (aR, zI (kG κ) 6 oc), (aF, zI (kG κ) 48 frm), (aL, zI (kG κ) 96 ln)] 0 0
  refine z_aload_n hk dX2_find_0 0 rfl (kk := ?_)
  refine z_iload_n hk dX2_find_1 1 rfl (kk := ?_)
  refine z_iconst (z := -1) hk dX2_find_2 (kk := ?_)
  refine z_callV hk [.int (iZ (way)), .int (iZ (-1))] 2 [] (ct_X2_step (kL κ) (kG κ) o fs aS aT aO aQ aR aF aL st n t m k tx oth sq oc frm ln way (-1 : Int) hF0 hF5 hF6 hF7 hF8 hF9 hF10 (by first | assumption | omega) (by first | assumption | omega) (by first | assumption | omega) (by first | assumption | omega) (by first | assumption | omega) (by first | assumption | omega) (by first | assumption | omega) (by decide) (by first | assumption | omega) (by first | assumption | omega)) q1364 q1366 qs32 q66 q1367 (zSub.ix [0, 1, 2, 3, 4, 5, 6, 7] rfl) 0 2 rfl dX2_find_3 rfl (kk := fun u_1 hu3 => ?_)
  obtain ⟨r_2, st2_3, tx2_4, o2_5, sq2_6, oc2_7, f2_8, l2_9⟩ := u_1
  have hu3 : (¬ (0 ≤ way ∧ way ≤ 5) ∧ r_2 = -2 ∧ st2_3 = st) ∨ ((0 ≤ way ∧ way ≤ 5) ∧ (way = 2 ∧ n % 2 = 1) ∧ r_2 = -3 ∧ st2_3 = st) ∨ ((0 ≤ way ∧ way ≤ 5) ∧ ¬ (way = 2 ∧ n % 2 = 1) ∧ r_2 = (pC (fun j => decide (wyF way (-1 : Int) t k n m j ≠ t j)) n : Nat) ∧ st2_3 = pP (keepF st) (wyF way (-1 : Int) t k n m) 0 n) := hu3
  show Z κ 6 [(0, .ref o), (1, .int (iZ (way)))] [.int (iZ (r_2))] [(o, zO 2 fs), (aS, zI (kG κ) 819 st2_3), (aT, zI (kG κ) 48 tx2_4), (aO, zI (kG κ) 48 o2_5), (aQ, zI (kG κ) 16 sq2_6), (aR, zI (kG κ) 6 oc2_7), (aF, zI (kG κ) 48 f2_8), (aL, zI (kG κ) 96 l2_9)] 0 0
  exact z_iret hk hR_ (r_2, st2_3, tx2_4, o2_5, sq2_6, oc2_7, f2_8, l2_9) dX2_find_6 rfl rfl (by (try dsimp only); exact hu3) (zSub.ix [0, 1, 2, 3, 4, 5, 6, 7] rfl)

set_option maxHeartbeats 600000 in
theorem ct_X2_undo (l_ : Launch) (G : zG) (o : Nat) (fs : List Value) (aS : Nat) (st : Nat → Nat) (hF0 : fs[0]? = some (.ref aS)) (hb : ∀ j, st j < 100) (h10 : st 328 ≤ 10) :
    Ct l_ G yX2_undo cX2_undo 2 (some .int) 1 0 0 [.ref o] [(o, zO 2 fs), (aS, zI G 819 st)]
      (fun u : Int × (Nat → Nat) => some (.int (iZ (u.1)))) (fun u : Int × (Nat → Nat) => (st 328 = 0 ∧ u.1 = -3 ∧ u.2 = st) ∨ (0 < st 328 ∧ u.1 = ((st 328 - 1 : Nat) : Int) ∧ u.2 = undoF st)) (fun u : Int × (Nat → Nat) => [(o, zO 2 fs), (aS, zI G 819 u.2)]) := by
  refine Ct.of (by decide) (Nat.le_of_ble_eq_true rfl) ?_
  intro κ hl_ hG_ hk hR_
  subst hl_
  subst hG_
  show Z κ 0 [(0, .ref o)] [] [(o, zO 2 fs), (aS, zI (kG κ) 819 st)] 0 0
  refine z_aload_n hk dX2_undo_0 0 rfl (kk := ?_)
  refine z_get hk in_X2 0 0 q1280 dX2_undo_1 rfl hF0 (kk := ?_)
  refine z_sipush (z := ((328 : Nat) : Int)) hk dX2_undo_4 (kk := ?_)
  refine z_iald (i := 328) hk 1 dX2_undo_7 rfl (kk := ?_) 
  have hf7 := hb 328
  refine z_if_ne hk 14 dX2_undo_8 (kt := fun h8 => ?_) (kf := fun h8 => ?_) 
  · skip
    refine z_aload_n hk dX2_undo_14 0 rfl (kk := ?_)
    refine z_get hk in_X2 0 0 q1280 dX2_undo_15 rfl hF0 (kk := ?_)
    refine z_sipush (z := ((328 : Nat) : Int)) hk dX2_undo_18 (kk := ?_)
    refine z_dup2 hk dX2_undo_21 (kk := ?_)
    refine z_iald (i := 328) hk 1 dX2_undo_22 rfl (kk := ?_) 
    have hf22 := hb 328
    refine z_iconst (z := ((1 : Nat) : Int)) hk dX2_undo_23 (kk := ?_)
    refine z_isub (z := ((st 328 : Nat) : Int) - ((1 : Nat) : Int)) hk dX2_undo_24 (kk := ?_)
    refine z_topN (st 328 - 1) (by omega) ?_
    refine z_iast (i := 328) hk 1 [(o, zO 2 fs), (aS, zI (kG κ) 819 (va_up st 328 (st 328 - 1)))] dX2_undo_25 rfl  (kk := ?_) 
    refine z_iconst (z := ((0 : Nat) : Int)) hk dX2_undo_26 (kk := ?_)
    refine z_istore_n hk [(1, .int (iZ ((0 : Nat) : Int))), (0, .ref o)] dX2_undo_27 (kk := ?_)
    have L28 : ∀ (f_ : Nat) (i : Nat) (s2 : Nat → Nat), (i ≤ 49) → (s2 = pP (va_up st 328 (st 328 - 1)) (fun j => st (329 + 49 * (st 328 - 1) + j)) 0 i) → 49 - i < f_ → Z κ 28 [(1, .int (iZ ((i : Nat) : Int))), (0, .ref o)] [] [(o, zO 2 fs), (aS, zI (kG κ) 819 s2)] 0 0 := by
      intro f_
      induction f_ with
      | zero => intro i s2 hi hs2 hm_; exact absurd hm_ (Nat.not_lt_zero _)
      | succ f_ ih28 =>
        intro i s2 hi hs2 hm_
        have g3 : s2 328 = st 328 - 1 := by rw [hs2, pP_out (by omega), va_up_self]
        have g4 : ∀ q, 329 ≤ q → s2 q = st q := by
          intro q hq
          rw [hs2, pP_out (by omega), va_up_ne _ _ (by omega)]
        refine z_iload_n hk dX2_undo_28 0 rfl (kk := ?_)
        refine z_bipush (z := ((49 : Nat) : Int)) hk dX2_undo_29 (kk := ?_)
        refine z_icmp_ge hk 70 dX2_undo_31 (kt := fun h31 => ?_) (kf := fun h31 => ?_) 
        · skip
          refine z_aload_n hk dX2_undo_70 1 rfl (kk := ?_)
          refine z_get hk in_X2 0 0 q1280 dX2_undo_71 rfl hF0 (kk := ?_)
          refine z_sipush (z := ((328 : Nat) : Int)) hk dX2_undo_74 (kk := ?_)
          refine z_iald (i := 328) hk 1 dX2_undo_77 rfl (kk := ?_) 
          exact z_iret hk hR_ (((s2 328 : Nat) : Int), s2) dX2_undo_78 rfl rfl (by (try dsimp only); exact Or.inr ⟨by omega, by rw [g3], by unfold undoF; rw [hs2, show i = 49 from by omega]⟩) (zSub.ix [0, 1] rfl)
        · skip
          refine z_aload_n hk dX2_undo_34 1 rfl (kk := ?_)
          refine z_get hk in_X2 0 0 q1280 dX2_undo_35 rfl hF0 (kk := ?_)
          refine z_iconst (z := ((0 : Nat) : Int)) hk dX2_undo_38 (kk := ?_)
          refine z_iload_n hk dX2_undo_39 0 rfl (kk := ?_)
          refine z_iadd (z := ((i : Nat) : Int)) hk dX2_undo_40 (by omega) (kk := ?_)
          refine z_aload_n hk dX2_undo_41 1 rfl (kk := ?_)
          refine z_get hk in_X2 0 0 q1280 dX2_undo_42 rfl hF0 (kk := ?_)
          refine z_sipush (z := ((329 : Nat) : Int)) hk dX2_undo_45 (kk := ?_)
          refine z_bipush (z := ((49 : Nat) : Int)) hk dX2_undo_48 (kk := ?_)
          refine z_aload_n hk dX2_undo_50 1 rfl (kk := ?_)
          refine z_get hk in_X2 0 0 q1280 dX2_undo_51 rfl hF0 (kk := ?_)
          refine z_sipush (z := ((328 : Nat) : Int)) hk dX2_undo_54 (kk := ?_)
          refine z_iald (i := 328) hk 1 dX2_undo_57 rfl (kk := ?_) 
          refine z_imul (z := ((49 * (s2 328) : Nat) : Int)) hk dX2_undo_58 (Int.natCast_mul _ _).symm (kk := ?_)
          refine z_iadd (z := ((329 + (49 * (s2 328)) : Nat) : Int)) hk dX2_undo_59 (Int.natCast_add _ _).symm (kk := ?_)
          refine z_iload_n hk dX2_undo_60 0 rfl (kk := ?_)
          refine z_iadd (z := (((329 + (49 * (s2 328))) + i : Nat) : Int)) hk dX2_undo_61 (Int.natCast_add _ _).symm (kk := ?_)
          refine z_iald (i := (329 + (49 * (s2 328))) + i) hk 1 dX2_undo_62 rfl (kk := ?_) 
          refine z_iast (i := i) hk 1 [(o, zO 2 fs), (aS, zI (kG κ) 819 (va_up s2 i (s2 ((329 + (49 * (s2 328))) + i))))] dX2_undo_63 rfl  (kk := ?_) 
          refine z_iinc hk (z' := ((i + 1 : Nat) : Int)) [(1, .int (iZ ((i + 1 : Nat) : Int))), (0, .ref o)] dX2_undo_64 0 rfl (kk := ?_)
          refine z_goto hk 28 dX2_undo_67 (kk := ?_)
          exact ih28  (i + 1) (va_up s2 i (s2 ((329 + (49 * (s2 328))) + i))) (by first | assumption | omega) (by have e1 : s2 (329 + 49 * s2 328 + i) = st (329 + 49 * (st 328 - 1) + i) := (by rw [g3]; exact g4 _ (by omega)); rw [e1, hs2]; exact pP_up0 rfl) (by omega)
    exact L28 (49 - 0 + 1) 0 (va_up st 328 (st 328 - 1)) (by first | assumption | omega) (by exact (pP_0 _ _ _).symm) (Nat.lt_succ_self _)
  · skip
    refine z_bipush (z := -3) hk dX2_undo_11 (kk := ?_)
    exact z_iret hk hR_ (-3, st) dX2_undo_13 rfl rfl (by (try dsimp only); exact Or.inl ⟨by omega, rfl, rfl⟩) (zSub.ix [0, 1] rfl)

set_option maxHeartbeats 600000 in
theorem ct_X2_letter (l_ : Launch) (G : zG) (o : Nat) (fs : List Value) (aS : Nat) (aQ : Nat) (st : Nat → Nat) (n : Nat) (t : Nat → Nat) (m : Nat) (k : Nat → Nat) (sq : Nat → Nat) (what : Int) (i : Int) (hF0 : fs[0]? = some (.ref aS)) (hF7 : fs[7]? = some (.ref aQ)) (hn : st 48 = n) (hn48 : n ≤ 48) (ht : ∀ j, j < n → st j = t j ∧ t j < 16) (hm : st 55 = m) (hm6 : 1 ≤ m ∧ m ≤ 6) (hkk : ∀ j, j < m → st (49 + j) = k j ∧ k j < 16) (hw : -2147483648 ≤ what ∧ what ≤ 2147483647) (hii : -2147483648 ≤ i ∧ i ≤ 2147483647) (hb : ∀ j, st j < 100) :
    Ct l_ G yX2_letter cX2_letter 4 (some .int) 3 0 0 [.ref o, .int (iZ (what)), .int (iZ (i))] [(o, zO 2 fs), (aS, zI G 819 st), (aQ, zI G 16 sq)]
      (fun u : Int × (Nat → Nat) => some (.int (iZ (u.1)))) (fun u : Int × (Nat → Nat) => u.1 = aLetter what i t k n m) (fun u : Int × (Nat → Nat) => [(o, zO 2 fs), (aS, zI G 819 st), (aQ, zI G 16 u.2)]) := by
  refine Ct.of (by decide) (Nat.le_of_ble_eq_true rfl) ?_
  intro κ hl_ hG_ hk hR_
  subst hl_
  subst hG_
  show Z κ 0 [(0, .ref o), (1, .int (iZ (what))), (2, .int (iZ (i)))] [] [(o, zO 2 fs), (aS, zI (kG κ) 819 st), (aQ, zI (kG κ) 16 sq)] 0 0
  obtain ⟨Sq, eSq⟩ : ∃ Sq : Nat → Nat, Sq = sqF k m := ⟨_, rfl⟩
  refine z_iload_n hk dX2_letter_0 1 rfl (kk := ?_)
  refine z_iconst (z := ((0 : Nat) : Int)) hk dX2_letter_1 (kk := ?_)
  refine z_iconst (z := ((2 : Nat) : Int)) hk dX2_letter_2 (kk := ?_)
  refine z_callS hk [.int (iZ (what)), .int (iZ ((0 : Nat) : Int)), .int (iZ ((2 : Nat) : Int))] 3 [(o, zO 2 fs), (aS, zI (kG κ) 819 st), (aQ, zI (kG κ) 16 sq)] (ct_X2_in (kL κ) (kG κ) what ((0 : Nat) : Int) ((2 : Nat) : Int) (by first | assumption | omega) (by first | assumption | omega) (by first | assumption | omega)) q1322 q1323 q66 q1324 (zSub.ix [0, 1, 2] rfl) dX2_letter_3 rfl (kk := fun u_1 hu3 => ?_)
  obtain ⟨u0_2, rfl⟩ : ∃ z_, z_ = u_1 := ⟨_, rfl⟩
  have hu3 : (u0_2 = 1 ∧ ((0 : Nat) : Int) ≤ what ∧ what ≤ ((2 : Nat) : Int)) ∨ (u0_2 = 0 ∧ ¬ (((0 : Nat) : Int) ≤ what ∧ what ≤ ((2 : Nat) : Int))) := hu3
  show Z κ 6 [(0, .ref o), (1, .int (iZ (what))), (2, .int (iZ (i)))] [.int (iZ ((u0_2 : Nat) : Int))] [(o, zO 2 fs), (aS, zI (kG κ) 819 st), (aQ, zI (kG κ) 16 sq)] 0 0
  refine z_if_ne hk 12 dX2_letter_6 (kt := fun h6 => ?_) (kf := fun h6 => ?_) 
  · skip
    have J40 : ∀ (ln : Nat), (ln = (if what = 0 then n else if what = 1 then m else 16)) → Z κ 40 [(0, .ref o), (1, .int (iZ (what))), (2, .int (iZ (i)))] [.int (iZ ((ln : Nat) : Int))] [(o, zO 2 fs), (aS, zI (kG κ) 819 st), (aQ, zI (kG κ) 16 sq)] 0 0 := by
      intro ln hln
      have gln : ln ≤ 48 := by rw [hln]; split <;> first | omega | (split <;> omega)
      have gln0 : what = 0 → ln = n := fun h => by rw [hln, if_pos h]
      have gln1 : what = 1 → ln = m := fun h => by rw [hln, if_neg (by omega), if_pos h]
      have gln2 : what = 2 → ln = 16 := fun h => by rw [hln, if_neg (by omega), if_neg (by omega)]
      refine z_istore_n hk [(3, .int (iZ ((ln : Nat) : Int))), (0, .ref o), (1, .int (iZ (what))), (2, .int (iZ (i)))] dX2_letter_40 (kk := ?_)
      refine z_iload_n hk dX2_letter_41 3 rfl (kk := ?_)
      refine z_iconst (z := -1) hk dX2_letter_42 (kk := ?_)
      refine z_icmp_ne hk 48 dX2_letter_43 (kt := fun h43 => ?_) (kf := fun h43 => ?_) 
      · skip
        refine z_iload_n hk dX2_letter_48 3 rfl (kk := ?_)
        refine z_iconst (z := ((0 : Nat) : Int)) hk dX2_letter_49 (kk := ?_)
        refine z_iload_n hk dX2_letter_50 0 rfl (kk := ?_)
        refine z_iconst (z := ((1 : Nat) : Int)) hk dX2_letter_51 (kk := ?_)
        refine z_isub (z := ((ln : Nat) : Int) - ((1 : Nat) : Int)) hk dX2_letter_52 (kk := ?_)
        refine z_callS hk [.int (iZ (i)), .int (iZ ((0 : Nat) : Int)), .int (iZ (((ln : Nat) : Int) - ((1 : Nat) : Int)))] 3 [(o, zO 2 fs), (aS, zI (kG κ) 819 st), (aQ, zI (kG κ) 16 sq)] (ct_X2_in (kL κ) (kG κ) i ((0 : Nat) : Int) (((ln : Nat) : Int) - ((1 : Nat) : Int)) (by first | assumption | omega) (by first | assumption | omega) (by first | assumption | omega)) q1322 q1323 q66 q1324 (zSub.ix [0, 1, 2] rfl) dX2_letter_53 rfl (kk := fun u_3 hu53 => ?_)
        obtain ⟨u0_4, rfl⟩ : ∃ z_, z_ = u_3 := ⟨_, rfl⟩
        have hu53 : (u0_4 = 1 ∧ ((0 : Nat) : Int) ≤ i ∧ i ≤ (((ln : Nat) : Int) - ((1 : Nat) : Int))) ∨ (u0_4 = 0 ∧ ¬ (((0 : Nat) : Int) ≤ i ∧ i ≤ (((ln : Nat) : Int) - ((1 : Nat) : Int)))) := hu53
        show Z κ 56 [(3, .int (iZ ((ln : Nat) : Int))), (0, .ref o), (1, .int (iZ (what))), (2, .int (iZ (i)))] [.int (iZ ((u0_4 : Nat) : Int))] [(o, zO 2 fs), (aS, zI (kG κ) 819 st), (aQ, zI (kG κ) 16 sq)] 0 0
        refine z_if_ne hk 62 dX2_letter_56 (kt := fun h56 => ?_) (kf := fun h56 => ?_) 
        · skip
          refine z_aload_n hk dX2_letter_62 1 rfl (kk := ?_)
          refine z_callV hk [] 0 [] (ct_X2_laySquare (kL κ) (kG κ) o fs aS aQ st m k sq hF0 hF7 (by first | assumption | omega) (by first | assumption | omega) (by first | assumption | omega) (by first | assumption | omega)) q1356 q1358 qs31 q66 q1359 (zSub.ix [0, 1, 2] rfl) 0 2 rfl dX2_letter_63 rfl (kk := fun _ _ => ?_)
          show Z κ 66 [(3, .int (iZ ((ln : Nat) : Int))), (0, .ref o), (1, .int (iZ (what))), (2, .int (iZ (i)))] [] [(o, zO 2 fs), (aS, zI (kG κ) 819 st), (aQ, zI (kG κ) 16 (sqF k m))] 0 0
          rw [← eSq]
          refine z_iload_n hk dX2_letter_66 2 rfl (kk := ?_)
          refine z_if_ne hk 81 dX2_letter_67 (kt := fun h67 => ?_) (kf := fun h67 => ?_) 
          · skip
            refine z_iload_n hk dX2_letter_81 2 rfl (kk := ?_)
            refine z_iconst (z := ((1 : Nat) : Int)) hk dX2_letter_82 (kk := ?_)
            refine z_icmp_ne hk 98 dX2_letter_83 (kt := fun h83 => ?_) (kf := fun h83 => ?_) 
            · skip
              refine z_aload_n hk dX2_letter_98 1 rfl (kk := ?_)
              refine z_get hk in_X2 0 7 q1287 dX2_letter_99 rfl hF7 (kk := ?_)
              refine z_iload_n hk dX2_letter_102 3 rfl (kk := ?_)
              refine z_topN (i.toNat) (by have := gln2 (by omega); omega) ?_
              have g9 := gln2 (by omega)
              refine z_iald (i := i.toNat) hk 2 dX2_letter_103 rfl (kk := ?_) 
              exact z_iret hk hR_ (((Sq i.toNat : Nat) : Int), Sq) dX2_letter_104 rfl rfl (by (try dsimp only); unfold aLetter; rw [if_neg (by omega)]; rw [if_neg (by omega), ← hln, if_pos (by omega)]; first | (rw [if_pos (by omega), (ht i.toNat (by omega)).1]; done) | (rw [if_neg (by omega), if_pos (by omega), (hkk i.toNat (by omega)).1]; done) | (rw [if_neg (by omega), if_neg (by omega), eSq]; done)) (zSub.ix [0, 1, 2] rfl)
            · skip
              have g9 := gln1 (by omega)
              refine z_aload_n hk dX2_letter_86 1 rfl (kk := ?_)
              refine z_get hk in_X2 0 0 q1280 dX2_letter_87 rfl hF0 (kk := ?_)
              refine z_bipush (z := ((49 : Nat) : Int)) hk dX2_letter_90 (kk := ?_)
              refine z_iload_n hk dX2_letter_92 3 rfl (kk := ?_)
              refine z_iadd (z := ((49 : Nat) : Int) + i) hk dX2_letter_93 (kk := ?_)
              refine z_topN (49 + i.toNat) (by have := gln1 (by omega); omega) ?_
              refine z_iald (i := 49 + i.toNat) hk 1 dX2_letter_94 rfl (kk := ?_) 
              have hf94 := hb (49 + i.toNat)
              refine z_goto hk 104 dX2_letter_95 (kk := ?_)
              exact z_iret hk hR_ (((st (49 + i.toNat) : Nat) : Int), Sq) dX2_letter_104 rfl rfl (by (try dsimp only); unfold aLetter; rw [if_neg (by omega)]; rw [if_neg (by omega), ← hln, if_pos (by omega)]; first | (rw [if_pos (by omega), (ht i.toNat (by omega)).1]; done) | (rw [if_neg (by omega), if_pos (by omega), (hkk i.toNat (by omega)).1]; done) | (rw [if_neg (by omega), if_neg (by omega), eSq]; done)) (zSub.ix [0, 1, 2] rfl)
          · skip
            have g9 := gln0 (by omega)
            refine z_aload_n hk dX2_letter_70 1 rfl (kk := ?_)
            refine z_get hk in_X2 0 0 q1280 dX2_letter_71 rfl hF0 (kk := ?_)
            refine z_iconst (z := ((0 : Nat) : Int)) hk dX2_letter_74 (kk := ?_)
            refine z_iload_n hk dX2_letter_75 3 rfl (kk := ?_)
            refine z_iadd (z := ((0 : Nat) : Int) + i) hk dX2_letter_76 (kk := ?_)
            refine z_topN (i.toNat) (by have := gln0 (by omega); omega) ?_
            refine z_iald (i := i.toNat) hk 1 dX2_letter_77 rfl (kk := ?_) 
            have hf77 := hb i.toNat
            refine z_goto hk 104 dX2_letter_78 (kk := ?_)
            exact z_iret hk hR_ (((st i.toNat : Nat) : Int), Sq) dX2_letter_104 rfl rfl (by (try dsimp only); unfold aLetter; rw [if_neg (by omega)]; rw [if_neg (by omega), ← hln, if_pos (by omega)]; first | (rw [if_pos (by omega), (ht i.toNat (by omega)).1]; done) | (rw [if_neg (by omega), if_pos (by omega), (hkk i.toNat (by omega)).1]; done) | (rw [if_neg (by omega), if_neg (by omega), eSq]; done)) (zSub.ix [0, 1, 2] rfl)
        · skip
          refine z_bipush (z := -6) hk dX2_letter_59 (kk := ?_)
          exact z_iret hk hR_ (-6, sq) dX2_letter_61 rfl rfl (by (try dsimp only); unfold aLetter; rw [if_neg (by omega)]; rw [if_neg (by omega), ← hln, if_neg (by omega)]) (zSub.ix [0, 1, 2] rfl)
      · skip
        refine z_iload_n hk dX2_letter_46 0 rfl (kk := ?_)
        exact z_iret hk hR_ (((ln : Nat) : Int), sq) dX2_letter_47 rfl rfl (by (try dsimp only); unfold aLetter; rw [if_neg (by omega)]; rw [if_pos (by omega), hln]) (zSub.ix [0, 1, 2] rfl)
    refine z_iload_n hk dX2_letter_12 1 rfl (kk := ?_)
    refine z_if_ne hk 23 dX2_letter_13 (kt := fun h13 => ?_) (kf := fun h13 => ?_) 
    · skip
      refine z_iload_n hk dX2_letter_23 1 rfl (kk := ?_)
      refine z_iconst (z := ((1 : Nat) : Int)) hk dX2_letter_24 (kk := ?_)
      refine z_icmp_ne hk 38 dX2_letter_25 (kt := fun h25 => ?_) (kf := fun h25 => ?_) 
      · skip
        refine z_bipush (z := ((16 : Nat) : Int)) hk dX2_letter_38 (kk := ?_)
        exact J40 16 (by first | (rw [if_pos (by omega)]; done) | (rw [if_neg (by omega), if_pos (by omega)]; exact hm) | (rw [if_neg (by omega), if_neg (by omega)]; done))
      · skip
        refine z_aload_n hk dX2_letter_28 0 rfl (kk := ?_)
        refine z_get hk in_X2 0 0 q1280 dX2_letter_29 rfl hF0 (kk := ?_)
        refine z_bipush (z := ((55 : Nat) : Int)) hk dX2_letter_32 (kk := ?_)
        refine z_iald (i := 55) hk 1 dX2_letter_34 rfl (kk := ?_) 
        have hf34 := hb 55
        refine z_goto hk 40 dX2_letter_35 (kk := ?_)
        exact J40 (st 55) (by first | (rw [if_pos (by omega)]; done) | (rw [if_neg (by omega), if_pos (by omega)]; exact hm) | (rw [if_neg (by omega), if_neg (by omega)]; done))
    · skip
      refine z_aload_n hk dX2_letter_16 0 rfl (kk := ?_)
      refine z_callV hk [] 0 [(aQ, zI (kG κ) 16 sq)] (ct_X2_many (kL κ) (kG κ) o fs aS st n hF0 (by first | assumption | omega)) q1352 q1354 qs30 q66 q1355 (zSub.ix [0, 1, 2] rfl) 0 2 rfl dX2_letter_17 rfl (kk := fun _ _ => ?_)
      show Z κ 20 [(0, .ref o), (1, .int (iZ (what))), (2, .int (iZ (i)))] [.int (iZ ((n : Nat) : Int))] [(o, zO 2 fs), (aS, zI (kG κ) 819 st), (aQ, zI (kG κ) 16 sq)] 0 0
      refine z_goto hk 40 dX2_letter_20 (kk := ?_)
      exact J40 n (by first | (rw [if_pos (by omega)]; done) | (rw [if_neg (by omega), if_pos (by omega)]; exact hm) | (rw [if_neg (by omega), if_neg (by omega)]; done))
  · skip
    refine z_bipush (z := -2) hk dX2_letter_9 (kk := ?_)
    exact z_iret hk hR_ (-2, sq) dX2_letter_11 rfl rfl (by (try dsimp only); unfold aLetter; rw [if_pos (by omega)]) (zSub.ix [0, 1, 2] rfl)
