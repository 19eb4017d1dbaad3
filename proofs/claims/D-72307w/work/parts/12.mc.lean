set_option maxHeartbeats 600000 in
theorem ct_X2_goWay (l_ : Launch) (G : zG) (o : Nat) (fs : List Value) (aS : Nat) (aT : Nat) (aO : Nat) (aQ : Nat) (aR : Nat) (aF : Nat) (aL : Nat) (st : Nat → Nat) (n : Nat) (t : Nat → Nat) (m : Nat) (k : Nat → Nat) (tx : Nat → Nat) (oth : Nat → Nat) (sq : Nat → Nat) (oc : Nat → Nat) (frm : Nat → Nat) (ln : Nat → Nat) (way : Int) (by_ : Int) (hF0 : fs[0]? = some (.ref aS)) (hF5 : fs[5]? = some (.ref aT)) (hF6 : fs[6]? = some (.ref aO)) (hF7 : fs[7]? = some (.ref aQ)) (hF8 : fs[8]? = some (.ref aR)) (hF9 : fs[9]? = some (.ref aF)) (hF10 : fs[10]? = some (.ref aL)) (hn : st 48 = n) (hn48 : n ≤ 48) (ht : ∀ j, j < n → st j = t j ∧ t j < 16) (hm : st 55 = m) (hm6 : 1 ≤ m ∧ m ≤ 6) (hkk : ∀ j, j < m → st (49 + j) = k j ∧ k j < 16) (hw : 0 ≤ way ∧ way ≤ 5) (hw2 : way = 2 → n % 2 = 0) (hby : by_ = 1 ∨ by_ = -1) (hb : ∀ j, st j < 100) :
    Ct l_ G yX2_goWay cX2_goWay 4 none 5 0 0 [.ref o, .int (iZ (way)), .int (iZ (by_))] [(o, zO 2 fs), (aS, zI G 819 st), (aT, zI G 48 tx), (aO, zI G 48 oth), (aQ, zI G 16 sq), (aR, zI G 6 oc), (aF, zI G 48 frm), (aL, zI G 96 ln)]
      (fun u : (Nat → Nat) × (Nat → Nat) × (Nat → Nat) × (Nat → Nat) × (Nat → Nat) => none) (fun u : (Nat → Nat) × (Nat → Nat) × (Nat → Nat) × (Nat → Nat) × (Nat → Nat) => ∀ j, j < n → u.2.1 j = wyF way by_ t k n m j) (fun u : (Nat → Nat) × (Nat → Nat) × (Nat → Nat) × (Nat → Nat) × (Nat → Nat) => [(o, zO 2 fs), (aS, zI G 819 st), (aT, zI G 48 u.1), (aO, zI G 48 u.2.1), (aQ, zI G 16 (sqF k m)), (aR, zI G 6 u.2.2.1), (aF, zI G 48 u.2.2.2.1), (aL, zI G 96 u.2.2.2.2)]) := by
  refine Ct.of (by decide) (Nat.le_of_ble_eq_true rfl) ?_
  intro κ hl_ hG_ hk hR_
  subst hl_
  subst hG_
  show Z κ 0 [(0, .ref o), (1, .int (iZ (way))), (2, .int (iZ (by_)))] [] [(o, zO 2 fs), (aS, zI (kG κ) 819 st), (aT, zI (kG κ) 48 tx), (aO, zI (kG κ) 48 oth), (aQ, zI (kG κ) 16 sq), (aR, zI (kG κ) 6 oc), (aF, zI (kG κ) 48 frm), (aL, zI (kG κ) 96 ln)] 0 0
  refine z_aload_n hk dX2_goWay_0 0 rfl (kk := ?_)
  refine z_callV hk [] 0 [(aT, zI (kG κ) 48 tx), (aO, zI (kG κ) 48 oth), (aR, zI (kG κ) 6 oc), (aF, zI (kG κ) 48 frm), (aL, zI (kG κ) 96 ln)] (ct_X2_laySquare (kL κ) (kG κ) o fs aS aQ st m k sq hF0 hF7 (by first | assumption | omega) (by first | assumption | omega) (by first | assumption | omega) (by first | assumption | omega)) q1356 q1358 qs31 q66 q1359 (zSub.ix [0, 1, 4, 2, 3, 5, 6, 7] rfl) 0 2 rfl dX2_goWay_1 rfl (kk := fun _ _ => ?_)
  show Z κ 4 [(0, .ref o), (1, .int (iZ (way))), (2, .int (iZ (by_)))] [] [(o, zO 2 fs), (aS, zI (kG κ) 819 st), (aQ, zI (kG κ) 16 (sqF k m)), (aT, zI (kG κ) 48 tx), (aO, zI (kG κ) 48 oth), (aR, zI (kG κ) 6 oc), (aF, zI (kG κ) 48 frm), (aL, zI (kG κ) 96 ln)] 0 0
  refine z_iconst (z := ((0 : Nat) : Int)) hk dX2_goWay_4 (kk := ?_)
  refine z_istore_n hk [(3, .int (iZ ((0 : Nat) : Int))), (0, .ref o), (1, .int (iZ (way))), (2, .int (iZ (by_)))] dX2_goWay_5 (kk := ?_)
  have L6 : ∀ (f_ : Nat) (i : Nat) (tx2 : Nat → Nat), (i ≤ n) → (∀ j, j < i → tx2 j = t j) → n - i < f_ → Z κ 6 [(3, .int (iZ ((i : Nat) : Int))), (0, .ref o), (1, .int (iZ (way))), (2, .int (iZ (by_)))] [] [(o, zO 2 fs), (aS, zI (kG κ) 819 st), (aQ, zI (kG κ) 16 (sqF k m)), (aT, zI (kG κ) 48 tx2), (aO, zI (kG κ) 48 oth), (aR, zI (kG κ) 6 oc), (aF, zI (kG κ) 48 frm), (aL, zI (kG κ) 96 ln)] 0 0 := by
    intro f_
    induction f_ with
    | zero => intro i tx2 hi hT2 hm_; exact absurd hm_ (Nat.not_lt_zero _)
    | succ f_ ih6 =>
      intro i tx2 hi hT2 hm_
      refine z_iload_n hk dX2_goWay_6 0 rfl (kk := ?_)
      refine z_aload_n hk dX2_goWay_7 1 rfl (kk := ?_)
      refine z_callV hk [] 0 [(aQ, zI (kG κ) 16 (sqF k m)), (aT, zI (kG κ) 48 tx2), (aO, zI (kG κ) 48 oth), (aR, zI (kG κ) 6 oc), (aF, zI (kG κ) 48 frm), (aL, zI (kG κ) 96 ln)] (ct_X2_many (kL κ) (kG κ) o fs aS st n hF0 (by first | assumption | omega)) q1352 q1354 qs30 q66 q1355 (zSub.ix [0, 1, 2, 3, 4, 5, 6, 7] rfl) 0 2 rfl dX2_goWay_8 rfl (kk := fun _ _ => ?_)
      show Z κ 11 [(3, .int (iZ ((i : Nat) : Int))), (0, .ref o), (1, .int (iZ (way))), (2, .int (iZ (by_)))] [.int (iZ ((n : Nat) : Int)), .int (iZ ((i : Nat) : Int))] [(o, zO 2 fs), (aS, zI (kG κ) 819 st), (aQ, zI (kG κ) 16 (sqF k m)), (aT, zI (kG κ) 48 tx2), (aO, zI (kG κ) 48 oth), (aR, zI (kG κ) 6 oc), (aF, zI (kG κ) 48 frm), (aL, zI (kG κ) 96 ln)] 0 0
      refine z_icmp_ge hk 34 dX2_goWay_11 (kt := fun h11 => ?_) (kf := fun h11 => ?_) 
      · skip
        have hT : ∀ j, j < n → tx2 j = t j ∧ t j < 16 := fun j hj => ⟨hT2 j (by omega), (ht j hj).2⟩
        have hSq : SqP (sqF k m) (sqP k m) := sqF_ok (fun j hj => (hkk j hj).2)
        refine z_iload_n hk dX2_goWay_34 2 rfl (kk := ?_)
        by_cases hsw35 : 0 ≤ way ∧ way ≤ 4
        · have hsv35 : way = 0 ∨ way = 1 ∨ way = 2 ∨ way = 3 ∨ way = 4 := by omega
          rcases hsv35 with hv35 | hv35 | hv35 | hv35 | hv35
          · refine z_swIn hk 68 dX2_goWay_35 hsw35.1 hsw35.2 (by rw [hv35]; rfl) (kk := ?_)
            refine z_aload_n hk dX2_goWay_68 1 rfl (kk := ?_)
            refine z_iload_n hk dX2_goWay_69 3 rfl (kk := ?_)
            have J80 : ∀ (wd : Nat), ((wd = 1 ∧ way = 1) ∨ (wd = 0 ∧ way = 0)) → Z κ 80 [(3, .int (iZ ((i : Nat) : Int))), (0, .ref o), (1, .int (iZ (way))), (2, .int (iZ (by_)))] [.int (iZ ((wd : Nat) : Int)), .int (iZ (by_)), .ref o] [(o, zO 2 fs), (aS, zI (kG κ) 819 st), (aQ, zI (kG κ) 16 (sqF k m)), (aT, zI (kG κ) 48 tx2), (aO, zI (kG κ) 48 oth), (aR, zI (kG κ) 6 oc), (aF, zI (kG κ) 48 frm), (aL, zI (kG κ) 96 ln)] 0 0 := by
              intro wd hwd
              refine z_callV hk [.int (iZ (by_)), .int (iZ ((wd : Nat) : Int))] 2 [(aQ, zI (kG κ) 16 (sqF k m)), (aR, zI (kG κ) 6 oc), (aF, zI (kG κ) 48 frm), (aL, zI (kG κ) 96 ln)] (ct_X2_shiftAll (kL κ) (kG κ) o fs aS aT aO st tx2 oth by_ wd n t m k (if way = 1 then m else 1) hF0 hF5 hF6 (by first | assumption | omega) (by first | assumption | omega) (by first | assumption | omega) (by first | assumption | omega) (by first | assumption | omega) (by first | assumption | omega) (by first | assumption | omega) (by rcases hwd with ⟨h1, h2⟩ | ⟨h1, h2⟩ <;> simp [h1, h2]) (by first | assumption | omega)) q1372 q1374 qs34 q66 q1375 (zSub.ix [0, 1, 3, 4, 2, 5, 6, 7] rfl) 0 2 rfl dX2_goWay_80 rfl (kk := fun u_3 hu80 => ?_)
              obtain ⟨o2_4, rfl⟩ : ∃ z_, z_ = u_3 := ⟨_, rfl⟩
              have hu80 : o2_4 = pP oth (shF t k (if way = 1 then m else 1) by_) 0 n := hu80
              show Z κ 83 [(3, .int (iZ ((i : Nat) : Int))), (0, .ref o), (1, .int (iZ (way))), (2, .int (iZ (by_)))] [] [(o, zO 2 fs), (aS, zI (kG κ) 819 st), (aT, zI (kG κ) 48 tx2), (aO, zI (kG κ) 48 o2_4), (aQ, zI (kG κ) 16 (sqF k m)), (aR, zI (kG κ) 6 oc), (aF, zI (kG κ) 48 frm), (aL, zI (kG κ) 96 ln)] 0 0
              refine z_goto hk 143 dX2_goWay_83 (kk := ?_)
              exact z_vret hk hR_ (tx2, o2_4, oc, frm, ln) dX2_goWay_143 rfl rfl (by (try dsimp only); intro j hj; unfold wyF; first | (rw [hu80, pP_in (by omega) (by omega)]; rcases hwd with ⟨h1, h2⟩ | ⟨h1, h2⟩ <;> simp [h2]; done) | (rw [if_neg (by omega), if_neg (by omega), if_pos (by omega), hu88, pP_in (by omega) (by omega)]; rfl) | (rw [if_neg (by omega), if_neg (by omega), if_neg (by omega), if_pos (by omega)]; exact hu111 j hj) | (rw [if_neg (by omega), if_neg (by omega), if_neg (by omega), if_neg (by omega), if_pos (by omega)]; exact hu132 j hj) | (rw [if_neg (by omega), if_neg (by omega), if_neg (by omega), if_neg (by omega), if_neg (by omega)]; exact hu140 j hj)) (zSub.ix [0, 1, 2, 3, 4, 5, 6, 7] rfl)
            refine z_iload_n hk dX2_goWay_70 2 rfl (kk := ?_)
            refine z_iconst (z := ((1 : Nat) : Int)) hk dX2_goWay_71 (kk := ?_)
            refine z_icmp_ne hk 79 dX2_goWay_72 (kt := fun h72 => ?_) (kf := fun h72 => ?_) 
            · skip
              refine z_iconst (z := ((0 : Nat) : Int)) hk dX2_goWay_79 (kk := ?_)
              exact J80 0 (by first | assumption | omega)
            · skip
              refine z_iconst (z := ((1 : Nat) : Int)) hk dX2_goWay_75 (kk := ?_)
              refine z_goto hk 80 dX2_goWay_76 (kk := ?_)
              exact J80 1 (by first | assumption | omega)
          · refine z_swIn hk 68 dX2_goWay_35 hsw35.1 hsw35.2 (by rw [hv35]; rfl) (kk := ?_)
            refine z_aload_n hk dX2_goWay_68 1 rfl (kk := ?_)
            refine z_iload_n hk dX2_goWay_69 3 rfl (kk := ?_)
            have J80 : ∀ (wd : Nat), ((wd = 1 ∧ way = 1) ∨ (wd = 0 ∧ way = 0)) → Z κ 80 [(3, .int (iZ ((i : Nat) : Int))), (0, .ref o), (1, .int (iZ (way))), (2, .int (iZ (by_)))] [.int (iZ ((wd : Nat) : Int)), .int (iZ (by_)), .ref o] [(o, zO 2 fs), (aS, zI (kG κ) 819 st), (aQ, zI (kG κ) 16 (sqF k m)), (aT, zI (kG κ) 48 tx2), (aO, zI (kG κ) 48 oth), (aR, zI (kG κ) 6 oc), (aF, zI (kG κ) 48 frm), (aL, zI (kG κ) 96 ln)] 0 0 := by
              intro wd hwd
              refine z_callV hk [.int (iZ (by_)), .int (iZ ((wd : Nat) : Int))] 2 [(aQ, zI (kG κ) 16 (sqF k m)), (aR, zI (kG κ) 6 oc), (aF, zI (kG κ) 48 frm), (aL, zI (kG κ) 96 ln)] (ct_X2_shiftAll (kL κ) (kG κ) o fs aS aT aO st tx2 oth by_ wd n t m k (if way = 1 then m else 1) hF0 hF5 hF6 (by first | assumption | omega) (by first | assumption | omega) (by first | assumption | omega) (by first | assumption | omega) (by first | assumption | omega) (by first | assumption | omega) (by first | assumption | omega) (by rcases hwd with ⟨h1, h2⟩ | ⟨h1, h2⟩ <;> simp [h1, h2]) (by first | assumption | omega)) q1372 q1374 qs34 q66 q1375 (zSub.ix [0, 1, 3, 4, 2, 5, 6, 7] rfl) 0 2 rfl dX2_goWay_80 rfl (kk := fun u_5 hu80 => ?_)
              obtain ⟨o2_6, rfl⟩ : ∃ z_, z_ = u_5 := ⟨_, rfl⟩
              have hu80 : o2_6 = pP oth (shF t k (if way = 1 then m else 1) by_) 0 n := hu80
              show Z κ 83 [(3, .int (iZ ((i : Nat) : Int))), (0, .ref o), (1, .int (iZ (way))), (2, .int (iZ (by_)))] [] [(o, zO 2 fs), (aS, zI (kG κ) 819 st), (aT, zI (kG κ) 48 tx2), (aO, zI (kG κ) 48 o2_6), (aQ, zI (kG κ) 16 (sqF k m)), (aR, zI (kG κ) 6 oc), (aF, zI (kG κ) 48 frm), (aL, zI (kG κ) 96 ln)] 0 0
              refine z_goto hk 143 dX2_goWay_83 (kk := ?_)
              exact z_vret hk hR_ (tx2, o2_6, oc, frm, ln) dX2_goWay_143 rfl rfl (by (try dsimp only); intro j hj; unfold wyF; first | (rw [hu80, pP_in (by omega) (by omega)]; rcases hwd with ⟨h1, h2⟩ | ⟨h1, h2⟩ <;> simp [h2]; done) | (rw [if_neg (by omega), if_neg (by omega), if_pos (by omega), hu88, pP_in (by omega) (by omega)]; rfl) | (rw [if_neg (by omega), if_neg (by omega), if_neg (by omega), if_pos (by omega)]; exact hu111 j hj) | (rw [if_neg (by omega), if_neg (by omega), if_neg (by omega), if_neg (by omega), if_pos (by omega)]; exact hu132 j hj) | (rw [if_neg (by omega), if_neg (by omega), if_neg (by omega), if_neg (by omega), if_neg (by omega)]; exact hu140 j hj)) (zSub.ix [0, 1, 2, 3, 4, 5, 6, 7] rfl)
            refine z_iload_n hk dX2_goWay_70 2 rfl (kk := ?_)
            refine z_iconst (z := ((1 : Nat) : Int)) hk dX2_goWay_71 (kk := ?_)
            refine z_icmp_ne hk 79 dX2_goWay_72 (kt := fun h72 => ?_) (kf := fun h72 => ?_) 
            · skip
              refine z_iconst (z := ((0 : Nat) : Int)) hk dX2_goWay_79 (kk := ?_)
              exact J80 0 (by first | assumption | omega)
            · skip
              refine z_iconst (z := ((1 : Nat) : Int)) hk dX2_goWay_75 (kk := ?_)
              refine z_goto hk 80 dX2_goWay_76 (kk := ?_)
              exact J80 1 (by first | assumption | omega)
          · refine z_swIn hk 86 dX2_goWay_35 hsw35.1 hsw35.2 (by rw [hv35]; rfl) (kk := ?_)
            refine z_aload_n hk dX2_goWay_86 1 rfl (kk := ?_)
            refine z_iload_n hk dX2_goWay_87 3 rfl (kk := ?_)
            refine z_callV hk [.int (iZ (by_))] 1 [(aR, zI (kG κ) 6 oc), (aF, zI (kG κ) 48 frm), (aL, zI (kG κ) 96 ln)] (ct_X2_pairs (kL κ) (kG κ) o fs aS aT aO aQ st tx2 oth (sqF k m) (sqP k m) by_ n t hF0 hF5 hF6 hF7 (by first | assumption | omega) (by first | assumption | omega) (hw2 (by omega)) (by first | assumption | omega) (by first | assumption | omega) (by first | assumption | omega)) q1376 q1378 qs35 q66 q1379 (zSub.ix [0, 1, 3, 4, 2, 5, 6, 7] rfl) 0 2 rfl dX2_goWay_88 rfl (kk := fun u_7 hu88 => ?_)
            obtain ⟨o2_8, rfl⟩ : ∃ z_, z_ = u_7 := ⟨_, rfl⟩
            have hu88 : o2_8 = pP oth (prF (sqF k m) (sqP k m) t by_) 0 n := hu88
            show Z κ 91 [(3, .int (iZ ((i : Nat) : Int))), (0, .ref o), (1, .int (iZ (way))), (2, .int (iZ (by_)))] [] [(o, zO 2 fs), (aS, zI (kG κ) 819 st), (aT, zI (kG κ) 48 tx2), (aO, zI (kG κ) 48 o2_8), (aQ, zI (kG κ) 16 (sqF k m)), (aR, zI (kG κ) 6 oc), (aF, zI (kG κ) 48 frm), (aL, zI (kG κ) 96 ln)] 0 0
            refine z_goto hk 143 dX2_goWay_91 (kk := ?_)
            exact z_vret hk hR_ (tx2, o2_8, oc, frm, ln) dX2_goWay_143 rfl rfl (by (try dsimp only); intro j hj; unfold wyF; first | (rw [hu80, pP_in (by omega) (by omega)]; rcases hwd with ⟨h1, h2⟩ | ⟨h1, h2⟩ <;> simp [h2]; done) | (rw [if_neg (by omega), if_neg (by omega), if_pos (by omega), hu88, pP_in (by omega) (by omega)]; rfl) | (rw [if_neg (by omega), if_neg (by omega), if_neg (by omega), if_pos (by omega)]; exact hu111 j hj) | (rw [if_neg (by omega), if_neg (by omega), if_neg (by omega), if_neg (by omega), if_pos (by omega)]; exact hu132 j hj) | (rw [if_neg (by omega), if_neg (by omega), if_neg (by omega), if_neg (by omega), if_neg (by omega)]; exact hu140 j hj)) (zSub.ix [0, 1, 2, 3, 4, 5, 6, 7] rfl)
          · refine z_swIn hk 94 dX2_goWay_35 hsw35.1 hsw35.2 (by rw [hv35]; rfl) (kk := ?_)
            refine z_aload_n hk dX2_goWay_94 1 rfl (kk := ?_)
            refine z_callV hk [] 0 [(aQ, zI (kG κ) 16 (sqF k m)), (aT, zI (kG κ) 48 tx2), (aO, zI (kG κ) 48 oth), (aF, zI (kG κ) 48 frm), (aL, zI (kG κ) 96 ln)] (ct_X2_layKeyOrder (kL κ) (kG κ) o fs aS aR st m k oc hF0 hF8 (by first | assumption | omega) (by first | assumption | omega) (by first | assumption | omega) (by first | assumption | omega)) q1395 q1397 qs39 q66 q1398 (zSub.ix [0, 1, 5, 2, 3, 4, 6, 7] rfl) 0 2 rfl dX2_goWay_95 rfl (kk := fun u_9 hu95 => ?_)
            obtain ⟨o2_10, rfl⟩ : ∃ z_, z_ = u_9 := ⟨_, rfl⟩
            have hu95 : ∀ p, p < m → o2_10 p = kO k m p := hu95
            show Z κ 98 [(3, .int (iZ ((i : Nat) : Int))), (0, .ref o), (1, .int (iZ (way))), (2, .int (iZ (by_)))] [] [(o, zO 2 fs), (aS, zI (kG κ) 819 st), (aR, zI (kG κ) 6 o2_10), (aQ, zI (kG κ) 16 (sqF k m)), (aT, zI (kG κ) 48 tx2), (aO, zI (kG κ) 48 oth), (aF, zI (kG κ) 48 frm), (aL, zI (kG κ) 96 ln)] 0 0
            refine z_aload_n hk dX2_goWay_98 1 rfl (kk := ?_)
            refine z_aload_n hk dX2_goWay_99 1 rfl (kk := ?_)
            refine z_get hk in_X2 0 0 q1280 dX2_goWay_100 rfl hF0 (kk := ?_)
            refine z_bipush (z := ((55 : Nat) : Int)) hk dX2_goWay_103 (kk := ?_)
            refine z_iald (i := 55) hk 1 dX2_goWay_105 rfl (kk := ?_) 
            have hf105 := hb 55
            refine z_topN (m) (by omega) ?_
            refine z_callV hk [.int (iZ ((m : Nat) : Int))] 1 [(aQ, zI (kG κ) 16 (sqF k m)), (aT, zI (kG κ) 48 tx2), (aO, zI (kG κ) 48 oth), (aL, zI (kG κ) 96 ln)] (ct_X2_layColumns (kL κ) (kG κ) o fs aS aR aF st n o2_10 (kO k m) m frm hF0 hF8 hF9 (by first | assumption | omega) (by first | assumption | omega) (by first | assumption | omega) (by assumption) kO_ok) q1399 q1401 qs40 q66 q1402 (zSub.ix [0, 1, 2, 6, 3, 4, 5, 7] rfl) 0 2 rfl dX2_goWay_106 rfl (kk := fun u_11 hu106 => ?_)
            obtain ⟨f2_12, rfl⟩ : ∃ z_, z_ = u_11 := ⟨_, rfl⟩
            have hu106 : f2_12 = pL (clL (kO k m) m n m) frm := hu106
            show Z κ 109 [(3, .int (iZ ((i : Nat) : Int))), (0, .ref o), (1, .int (iZ (way))), (2, .int (iZ (by_)))] [] [(o, zO 2 fs), (aS, zI (kG κ) 819 st), (aR, zI (kG κ) 6 o2_10), (aF, zI (kG κ) 48 f2_12), (aQ, zI (kG κ) 16 (sqF k m)), (aT, zI (kG κ) 48 tx2), (aO, zI (kG κ) 48 oth), (aL, zI (kG κ) 96 ln)] 0 0
            have hlc : (clL (kO k m) m n m).length = n := clL_len (by omega) kO_ok
            refine z_aload_n hk dX2_goWay_109 1 rfl (kk := ?_)
            refine z_iload_n hk dX2_goWay_110 3 rfl (kk := ?_)
            refine z_callV hk [.int (iZ (by_))] 1 [(aR, zI (kG κ) 6 o2_10), (aQ, zI (kG κ) 16 (sqF k m)), (aL, zI (kG κ) 96 ln)] (ct_X2_readBy (kL κ) (kG κ) o fs aS aT aO aF st tx2 oth f2_12 by_ n t (clL (kO k m) m n m) hF0 hF5 hF6 hF9 (by first | assumption | omega) (by first | assumption | omega) (by first | assumption | omega) (by first | assumption | omega) hlc (fun x => ⟨fun hx => clL_lt (by omega) kO_ok hx, fun hx => clL_all (by omega) kO_ok hx⟩) (fun j hj => by rw [hu106]; exact pL_in (by omega))) q1403 q1405 qs41 q66 q1406 (zSub.ix [0, 1, 5, 6, 3, 2, 4, 7] rfl) 0 2 rfl dX2_goWay_111 rfl (kk := fun u_13 hu111 => ?_)
            obtain ⟨o2_14, rfl⟩ : ∃ z_, z_ = u_13 := ⟨_, rfl⟩
            have hu111 : ∀ j, j < n → o2_14 j = mvF by_ (clL (kO k m) m n m) t n j := hu111
            show Z κ 114 [(3, .int (iZ ((i : Nat) : Int))), (0, .ref o), (1, .int (iZ (way))), (2, .int (iZ (by_)))] [] [(o, zO 2 fs), (aS, zI (kG κ) 819 st), (aT, zI (kG κ) 48 tx2), (aO, zI (kG κ) 48 o2_14), (aF, zI (kG κ) 48 f2_12), (aR, zI (kG κ) 6 o2_10), (aQ, zI (kG κ) 16 (sqF k m)), (aL, zI (kG κ) 96 ln)] 0 0
            refine z_goto hk 143 dX2_goWay_114 (kk := ?_)
            exact z_vret hk hR_ (tx2, o2_14, o2_10, f2_12, ln) dX2_goWay_143 rfl rfl (by (try dsimp only); intro j hj; unfold wyF; first | (rw [hu80, pP_in (by omega) (by omega)]; rcases hwd with ⟨h1, h2⟩ | ⟨h1, h2⟩ <;> simp [h2]; done) | (rw [if_neg (by omega), if_neg (by omega), if_pos (by omega), hu88, pP_in (by omega) (by omega)]; rfl) | (rw [if_neg (by omega), if_neg (by omega), if_neg (by omega), if_pos (by omega)]; exact hu111 j hj) | (rw [if_neg (by omega), if_neg (by omega), if_neg (by omega), if_neg (by omega), if_pos (by omega)]; exact hu132 j hj) | (rw [if_neg (by omega), if_neg (by omega), if_neg (by omega), if_neg (by omega), if_neg (by omega)]; exact hu140 j hj)) (zSub.ix [0, 1, 2, 3, 6, 5, 4, 7] rfl)
          · refine z_swIn hk 117 dX2_goWay_35 hsw35.1 hsw35.2 (by rw [hv35]; rfl) (kk := ?_)
            refine z_aload_n hk dX2_goWay_117 1 rfl (kk := ?_)
            refine z_aload_n hk dX2_goWay_118 1 rfl (kk := ?_)
            refine z_get hk in_X2 0 0 q1280 dX2_goWay_119 rfl hF0 (kk := ?_)
            refine z_bipush (z := ((55 : Nat) : Int)) hk dX2_goWay_122 (kk := ?_)
            refine z_iald (i := 55) hk 1 dX2_goWay_124 rfl (kk := ?_) 
            have hf124 := hb 55
            refine z_iconst (z := ((1 : Nat) : Int)) hk dX2_goWay_125 (kk := ?_)
            refine z_iadd (z := (((st 55) + 1 : Nat) : Int)) hk dX2_goWay_126 (Int.natCast_add _ _).symm (kk := ?_)
            refine z_topN (m + 1) (by omega) ?_
            refine z_callV hk [.int (iZ ((m + 1 : Nat) : Int))] 1 [(aQ, zI (kG κ) 16 (sqF k m)), (aT, zI (kG κ) 48 tx2), (aO, zI (kG κ) 48 oth), (aR, zI (kG κ) 6 oc), (aL, zI (kG κ) 96 ln)] (ct_X2_layRails (kL κ) (kG κ) o fs aS aF st n (m + 1) frm hF0 hF9 (by first | assumption | omega) (by first | assumption | omega) (by first | assumption | omega)) q1407 q1409 qs42 q66 q1410 (zSub.ix [0, 1, 6, 2, 3, 4, 5, 7] rfl) 0 2 rfl dX2_goWay_127 rfl (kk := fun u_15 hu127 => ?_)
            obtain ⟨f2_16, rfl⟩ : ∃ z_, z_ = u_15 := ⟨_, rfl⟩
            have hu127 : f2_16 = pL (rlL (m + 1) n (m + 1)) frm := hu127
            show Z κ 130 [(3, .int (iZ ((i : Nat) : Int))), (0, .ref o), (1, .int (iZ (way))), (2, .int (iZ (by_)))] [] [(o, zO 2 fs), (aS, zI (kG κ) 819 st), (aF, zI (kG κ) 48 f2_16), (aQ, zI (kG κ) 16 (sqF k m)), (aT, zI (kG κ) 48 tx2), (aO, zI (kG κ) 48 oth), (aR, zI (kG κ) 6 oc), (aL, zI (kG κ) 96 ln)] 0 0
            have hlr : (rlL (m + 1) n (m + 1)).length = n := rlL_len (by omega)
            refine z_aload_n hk dX2_goWay_130 1 rfl (kk := ?_)
            refine z_iload_n hk dX2_goWay_131 3 rfl (kk := ?_)
            refine z_callV hk [.int (iZ (by_))] 1 [(aQ, zI (kG κ) 16 (sqF k m)), (aR, zI (kG κ) 6 oc), (aL, zI (kG κ) 96 ln)] (ct_X2_readBy (kL κ) (kG κ) o fs aS aT aO aF st tx2 oth f2_16 by_ n t (rlL (m + 1) n (m + 1)) hF0 hF5 hF6 hF9 (by first | assumption | omega) (by first | assumption | omega) (by first | assumption | omega) (by first | assumption | omega) hlr (fun x => ⟨fun hx => (rlL_mem.mp hx).1, fun hx => rlL_mem.mpr ⟨hx, zig_lt (by omega)⟩⟩) (fun j hj => by rw [hu127]; exact pL_in (by omega))) q1403 q1405 qs41 q66 q1406 (zSub.ix [0, 1, 4, 5, 2, 3, 6, 7] rfl) 0 2 rfl dX2_goWay_132 rfl (kk := fun u_17 hu132 => ?_)
            obtain ⟨o2_18, rfl⟩ : ∃ z_, z_ = u_17 := ⟨_, rfl⟩
            have hu132 : ∀ j, j < n → o2_18 j = mvF by_ (rlL (m + 1) n (m + 1)) t n j := hu132
            show Z κ 135 [(3, .int (iZ ((i : Nat) : Int))), (0, .ref o), (1, .int (iZ (way))), (2, .int (iZ (by_)))] [] [(o, zO 2 fs), (aS, zI (kG κ) 819 st), (aT, zI (kG κ) 48 tx2), (aO, zI (kG κ) 48 o2_18), (aF, zI (kG κ) 48 f2_16), (aQ, zI (kG κ) 16 (sqF k m)), (aR, zI (kG κ) 6 oc), (aL, zI (kG κ) 96 ln)] 0 0
            refine z_goto hk 143 dX2_goWay_135 (kk := ?_)
            exact z_vret hk hR_ (tx2, o2_18, oc, f2_16, ln) dX2_goWay_143 rfl rfl (by (try dsimp only); intro j hj; unfold wyF; first | (rw [hu80, pP_in (by omega) (by omega)]; rcases hwd with ⟨h1, h2⟩ | ⟨h1, h2⟩ <;> simp [h2]; done) | (rw [if_neg (by omega), if_neg (by omega), if_pos (by omega), hu88, pP_in (by omega) (by omega)]; rfl) | (rw [if_neg (by omega), if_neg (by omega), if_neg (by omega), if_pos (by omega)]; exact hu111 j hj) | (rw [if_neg (by omega), if_neg (by omega), if_neg (by omega), if_neg (by omega), if_pos (by omega)]; exact hu132 j hj) | (rw [if_neg (by omega), if_neg (by omega), if_neg (by omega), if_neg (by omega), if_neg (by omega)]; exact hu140 j hj)) (zSub.ix [0, 1, 2, 3, 5, 6, 4, 7] rfl)
        · refine z_swOut hk 138 dX2_goWay_35 (by omega) (kk := ?_)
          refine z_aload_n hk dX2_goWay_138 1 rfl (kk := ?_)
          refine z_iload_n hk dX2_goWay_139 3 rfl (kk := ?_)
          refine z_callV hk [.int (iZ (by_))] 1 [(aR, zI (kG κ) 6 oc), (aF, zI (kG κ) 48 frm)] (ct_X2_apart (kL κ) (kG κ) o fs aS aT aO aQ aL st tx2 oth (sqF k m) (sqP k m) ln by_ n t hF0 hF5 hF6 hF7 hF10 (by first | assumption | omega) (by first | assumption | omega) (by first | assumption | omega) (by first | assumption | omega) (by first | assumption | omega)) q1411 q1413 qs43 q66 q1414 (zSub.ix [0, 1, 3, 4, 2, 7, 5, 6] rfl) 0 2 rfl dX2_goWay_140 rfl (kk := fun u_19 hu140 => ?_)
          obtain ⟨o2_20, l2_21⟩ := u_19
          have hu140 : ∀ j, j < n → o2_20 j = apF (sqF k m) (sqP k m) t n by_ j := hu140
          show Z κ 143 [(3, .int (iZ ((i : Nat) : Int))), (0, .ref o), (1, .int (iZ (way))), (2, .int (iZ (by_)))] [] [(o, zO 2 fs), (aS, zI (kG κ) 819 st), (aT, zI (kG κ) 48 tx2), (aO, zI (kG κ) 48 o2_20), (aQ, zI (kG κ) 16 (sqF k m)), (aL, zI (kG κ) 96 l2_21), (aR, zI (kG κ) 6 oc), (aF, zI (kG κ) 48 frm)] 0 0
          exact z_vret hk hR_ (tx2, o2_20, oc, frm, l2_21) dX2_goWay_143 rfl rfl (by (try dsimp only); intro j hj; unfold wyF; first | (rw [hu80, pP_in (by omega) (by omega)]; rcases hwd with ⟨h1, h2⟩ | ⟨h1, h2⟩ <;> simp [h2]; done) | (rw [if_neg (by omega), if_neg (by omega), if_pos (by omega), hu88, pP_in (by omega) (by omega)]; rfl) | (rw [if_neg (by omega), if_neg (by omega), if_neg (by omega), if_pos (by omega)]; exact hu111 j hj) | (rw [if_neg (by omega), if_neg (by omega), if_neg (by omega), if_neg (by omega), if_pos (by omega)]; exact hu132 j hj) | (rw [if_neg (by omega), if_neg (by omega), if_neg (by omega), if_neg (by omega), if_neg (by omega)]; exact hu140 j hj)) (zSub.ix [0, 1, 2, 3, 4, 6, 7, 5] rfl)
      · skip
        refine z_aload_n hk dX2_goWay_14 1 rfl (kk := ?_)
        refine z_get hk in_X2 0 5 q1285 dX2_goWay_15 rfl hF5 (kk := ?_)
        refine z_iload_n hk dX2_goWay_18 0 rfl (kk := ?_)
        refine z_aload_n hk dX2_goWay_19 1 rfl (kk := ?_)
        refine z_get hk in_X2 0 0 q1280 dX2_goWay_20 rfl hF0 (kk := ?_)
        refine z_iconst (z := ((0 : Nat) : Int)) hk dX2_goWay_23 (kk := ?_)
        refine z_iload_n hk dX2_goWay_24 0 rfl (kk := ?_)
        refine z_iadd (z := ((i : Nat) : Int)) hk dX2_goWay_25 (by omega) (kk := ?_)
        refine z_iald (i := i) hk 1 dX2_goWay_26 rfl (kk := ?_) 
        have hf26 := hb i
        refine z_iast (i := i) hk 3 [(o, zO 2 fs), (aS, zI (kG κ) 819 st), (aQ, zI (kG κ) 16 (sqF k m)), (aT, zI (kG κ) 48 (va_up tx2 i (st i))), (aO, zI (kG κ) 48 oth), (aR, zI (kG κ) 6 oc), (aF, zI (kG κ) 48 frm), (aL, zI (kG κ) 96 ln)] dX2_goWay_27 rfl  (kk := ?_) 
        refine z_iinc hk (z' := ((i + 1 : Nat) : Int)) [(3, .int (iZ ((i + 1 : Nat) : Int))), (0, .ref o), (1, .int (iZ (way))), (2, .int (iZ (by_)))] dX2_goWay_28 0 rfl (kk := ?_)
        refine z_goto hk 6 dX2_goWay_31 (kk := ?_)
        exact ih6  (i + 1) (va_up tx2 i (st i)) (by first | assumption | omega) (by intro j hj; exact if e : j = i then (by rw [e, va_up_self]; exact (ht i (by omega)).1) else (by rw [va_up_ne _ _ e]; exact hT2 j (by omega))) (by omega)
  exact L6 (n - 0 + 1) 0 tx (by first | assumption | omega) (by intro j h; exact absurd h (Nat.not_lt_zero _)) (Nat.lt_succ_self _)

set_option maxHeartbeats 600000 in
theorem ct_X2_keepStep (l_ : Launch) (G : zG) (o : Nat) (fs : List Value) (aS : Nat) (st : Nat → Nat) (hF0 : fs[0]? = some (.ref aS)) (hb : ∀ j, st j < 100) (h10 : st 328 ≤ 10) :
    Ct l_ G yX2_keepStep cX2_keepStep 2 none 1 0 0 [.ref o] [(o, zO 2 fs), (aS, zI G 819 st)]
      (fun _u : Unit => none) (fun _u : Unit => True) (fun _u : Unit => [(o, zO 2 fs), (aS, zI G 819 (keepF st))]) := by
  refine Ct.of (by decide) (Nat.le_of_ble_eq_true rfl) ?_
  intro κ hl_ hG_ hk hR_
  subst hl_
  subst hG_
  show Z κ 0 [(0, .ref o)] [] [(o, zO 2 fs), (aS, zI (kG κ) 819 st)] 0 0
  have gc := keepC_le h10
  have J60 : ∀ (s1 : Nat → Nat), (s1 = keepB st) → Z κ 60 [(0, .ref o)] [] [(o, zO 2 fs), (aS, zI (kG κ) 819 s1)] 0 0 := by
    intro s1 hs1
    have gb := keepB_b hb
    rw [← hs1] at gb
    have gcc : s1 328 = keepC st := by rw [hs1]; exact keepB_c
    refine z_iconst (z := ((0 : Nat) : Int)) hk dX2_keepStep_60 (kk := ?_)
    refine z_istore_n hk [(1, .int (iZ ((0 : Nat) : Int))), (0, .ref o)] dX2_keepStep_61 (kk := ?_)
    have L62 : ∀ (f_ : Nat) (i : Nat) (s3 : Nat → Nat), (i ≤ 49) → (s3 = pP s1 st (329 + 49 * keepC st) i) → 49 - i < f_ → Z κ 62 [(1, .int (iZ ((i : Nat) : Int))), (0, .ref o)] [] [(o, zO 2 fs), (aS, zI (kG κ) 819 s3)] 0 0 := by
      intro f_
      induction f_ with
      | zero => intro i s3 hi hs3 hm_; exact absurd hm_ (Nat.not_lt_zero _)
      | succ f_ ih62 =>
        intro i s3 hi hs3 hm_
        have g3 : s3 328 = keepC st := by rw [hs3, pP_out (by omega)]; exact gcc
        have g4 : ∀ q, q < 49 → s3 q = st q := by
          intro q hq
          rw [hs3, pP_out (by omega), hs1, keepB_lo (by omega)]
        refine z_iload_n hk dX2_keepStep_62 0 rfl (kk := ?_)
        refine z_bipush (z := ((49 : Nat) : Int)) hk dX2_keepStep_63 (kk := ?_)
        refine z_icmp_ge hk 104 dX2_keepStep_65 (kt := fun h65 => ?_) (kf := fun h65 => ?_) 
        · skip
          refine z_aload_n hk dX2_keepStep_104 1 rfl (kk := ?_)
          refine z_get hk in_X2 0 0 q1280 dX2_keepStep_105 rfl hF0 (kk := ?_)
          refine z_sipush (z := ((328 : Nat) : Int)) hk dX2_keepStep_108 (kk := ?_)
          refine z_dup2 hk dX2_keepStep_111 (kk := ?_)
          refine z_iald (i := 328) hk 1 dX2_keepStep_112 rfl (kk := ?_) 
          refine z_iconst (z := ((1 : Nat) : Int)) hk dX2_keepStep_113 (kk := ?_)
          refine z_iadd (z := (((s3 328) + 1 : Nat) : Int)) hk dX2_keepStep_114 (Int.natCast_add _ _).symm (kk := ?_)
          refine z_iast (i := 328) hk 1 [(o, zO 2 fs), (aS, zI (kG κ) 819 (va_up s3 328 ((s3 328) + 1)))] dX2_keepStep_115 rfl  (kk := ?_) 
          have ek : va_up s3 328 (s3 328 + 1) = keepF st := by unfold keepF; rw [g3, hs3, show i = 49 from by omega, hs1]
          refine z_arrI (t' := keepF st) (ws' := [(o, zO 2 fs), (aS, zI (kG κ) 819 (keepF st))]) 1 rfl (fun j_ hj_ => by rw [ek]) rfl ?_
          exact z_vret hk hR_ () dX2_keepStep_116 rfl rfl (by trivial) (zSub.ix [0, 1] rfl)
        · skip
          refine z_aload_n hk dX2_keepStep_68 1 rfl (kk := ?_)
          refine z_get hk in_X2 0 0 q1280 dX2_keepStep_69 rfl hF0 (kk := ?_)
          refine z_sipush (z := ((329 : Nat) : Int)) hk dX2_keepStep_72 (kk := ?_)
          refine z_bipush (z := ((49 : Nat) : Int)) hk dX2_keepStep_75 (kk := ?_)
          refine z_aload_n hk dX2_keepStep_77 1 rfl (kk := ?_)
          refine z_get hk in_X2 0 0 q1280 dX2_keepStep_78 rfl hF0 (kk := ?_)
          refine z_sipush (z := ((328 : Nat) : Int)) hk dX2_keepStep_81 (kk := ?_)
          refine z_iald (i := 328) hk 1 dX2_keepStep_84 rfl (kk := ?_) 
          refine z_imul (z := ((49 * (s3 328) : Nat) : Int)) hk dX2_keepStep_85 (Int.natCast_mul _ _).symm (kk := ?_)
          refine z_iadd (z := ((329 + (49 * (s3 328)) : Nat) : Int)) hk dX2_keepStep_86 (Int.natCast_add _ _).symm (kk := ?_)
          refine z_iload_n hk dX2_keepStep_87 0 rfl (kk := ?_)
          refine z_iadd (z := (((329 + (49 * (s3 328))) + i : Nat) : Int)) hk dX2_keepStep_88 (Int.natCast_add _ _).symm (kk := ?_)
          refine z_aload_n hk dX2_keepStep_89 1 rfl (kk := ?_)
          refine z_get hk in_X2 0 0 q1280 dX2_keepStep_90 rfl hF0 (kk := ?_)
          refine z_iconst (z := ((0 : Nat) : Int)) hk dX2_keepStep_93 (kk := ?_)
          refine z_iload_n hk dX2_keepStep_94 0 rfl (kk := ?_)
          refine z_iadd (z := ((i : Nat) : Int)) hk dX2_keepStep_95 (by omega) (kk := ?_)
          refine z_iald (i := i) hk 1 dX2_keepStep_96 rfl (kk := ?_) 
          refine z_iast (i := (329 + (49 * (s3 328))) + i) hk 1 [(o, zO 2 fs), (aS, zI (kG κ) 819 (va_up s3 ((329 + (49 * (s3 328))) + i) (s3 i)))] dX2_keepStep_97 rfl  (kk := ?_) 
          refine z_iinc hk (z' := ((i + 1 : Nat) : Int)) [(1, .int (iZ ((i + 1 : Nat) : Int))), (0, .ref o)] dX2_keepStep_98 0 rfl (kk := ?_)
          refine z_goto hk 62 dX2_keepStep_101 (kk := ?_)
          exact ih62  (i + 1) (va_up s3 ((329 + (49 * (s3 328))) + i) (s3 i)) (by first | assumption | omega) (by have e1 : 329 + 49 * s3 328 + i = 329 + 49 * keepC st + i := (by rw [g3]); rw [e1, g4 i (by omega), hs3]; exact pP_up rfl) (by omega)
    exact L62 (49 - 0 + 1) 0 s1 (by first | assumption | omega) (by exact (pP_0 _ _ _).symm) (Nat.lt_succ_self _)
  refine z_aload_n hk dX2_keepStep_0 0 rfl (kk := ?_)
  refine z_get hk in_X2 0 0 q1280 dX2_keepStep_1 rfl hF0 (kk := ?_)
  refine z_sipush (z := ((328 : Nat) : Int)) hk dX2_keepStep_4 (kk := ?_)
  refine z_iald (i := 328) hk 1 dX2_keepStep_7 rfl (kk := ?_) 
  have hf7 := hb 328
  refine z_bipush (z := ((10 : Nat) : Int)) hk dX2_keepStep_8 (kk := ?_)
  refine z_icmp_ne hk 60 dX2_keepStep_10 (kt := fun h10 => ?_) (kf := fun h10 => ?_) 
  · skip
    exact J60 st (by unfold keepB; first | (rw [if_pos (by omega)]; rw [hs2, show i = 441 from by omega]) | (rw [if_neg (by omega)]))
  · skip
    refine z_iconst (z := ((0 : Nat) : Int)) hk dX2_keepStep_13 (kk := ?_)
    refine z_istore_n hk [(1, .int (iZ ((0 : Nat) : Int))), (0, .ref o)] dX2_keepStep_14 (kk := ?_)
    have L15 : ∀ (f_ : Nat) (i : Nat) (s2 : Nat → Nat), (i ≤ 441) → (s2 = pP st (fun j => st (378 + j)) 329 i) → 441 - i < f_ → Z κ 15 [(1, .int (iZ ((i : Nat) : Int))), (0, .ref o)] [] [(o, zO 2 fs), (aS, zI (kG κ) 819 s2)] 0 0 := by
      intro f_
      induction f_ with
      | zero => intro i s2 hi hs2 hm_; exact absurd hm_ (Nat.not_lt_zero _)
      | succ f_ ih15 =>
        intro i s2 hi hs2 hm_
        refine z_iload_n hk dX2_keepStep_15 0 rfl (kk := ?_)
        refine z_sipush (z := ((441 : Nat) : Int)) hk dX2_keepStep_16 (kk := ?_)
        refine z_icmp_ge hk 48 dX2_keepStep_19 (kt := fun h19 => ?_) (kf := fun h19 => ?_) 
        · skip
          have g8 : s2 328 = 10 := by rw [hs2, pP_out (by omega)]; omega
          refine z_aload_n hk dX2_keepStep_48 1 rfl (kk := ?_)
          refine z_get hk in_X2 0 0 q1280 dX2_keepStep_49 rfl hF0 (kk := ?_)
          refine z_sipush (z := ((328 : Nat) : Int)) hk dX2_keepStep_52 (kk := ?_)
          refine z_dup2 hk dX2_keepStep_55 (kk := ?_)
          refine z_iald (i := 328) hk 1 dX2_keepStep_56 rfl (kk := ?_) 
          refine z_iconst (z := ((1 : Nat) : Int)) hk dX2_keepStep_57 (kk := ?_)
          refine z_isub (z := ((s2 328 : Nat) : Int) - ((1 : Nat) : Int)) hk dX2_keepStep_58 (kk := ?_)
          refine z_topN (9) (by omega) ?_
          refine z_iast (i := 328) hk 1 [(o, zO 2 fs), (aS, zI (kG κ) 819 (va_up s2 328 9))] dX2_keepStep_59 rfl  (kk := ?_) 
          refine z_lvs [1] (lv' := [(0, .ref o)]) (kk := ?_)
          exact J60 (va_up s2 328 9) (by unfold keepB; first | (rw [if_pos (by omega)]; rw [hs2, show i = 441 from by omega]) | (rw [if_neg (by omega)]))
        · skip
          refine z_aload_n hk dX2_keepStep_22 1 rfl (kk := ?_)
          refine z_get hk in_X2 0 0 q1280 dX2_keepStep_23 rfl hF0 (kk := ?_)
          refine z_sipush (z := ((329 : Nat) : Int)) hk dX2_keepStep_26 (kk := ?_)
          refine z_iload_n hk dX2_keepStep_29 0 rfl (kk := ?_)
          refine z_iadd (z := ((329 + i : Nat) : Int)) hk dX2_keepStep_30 (Int.natCast_add _ _).symm (kk := ?_)
          refine z_aload_n hk dX2_keepStep_31 1 rfl (kk := ?_)
          refine z_get hk in_X2 0 0 q1280 dX2_keepStep_32 rfl hF0 (kk := ?_)
          refine z_sipush (z := ((378 : Nat) : Int)) hk dX2_keepStep_35 (kk := ?_)
          refine z_iload_n hk dX2_keepStep_38 0 rfl (kk := ?_)
          refine z_iadd (z := ((378 + i : Nat) : Int)) hk dX2_keepStep_39 (Int.natCast_add _ _).symm (kk := ?_)
          refine z_iald (i := 378 + i) hk 1 dX2_keepStep_40 rfl (kk := ?_) 
          refine z_iast (i := 329 + i) hk 1 [(o, zO 2 fs), (aS, zI (kG κ) 819 (va_up s2 (329 + i) (s2 (378 + i))))] dX2_keepStep_41 rfl  (kk := ?_) 
          refine z_iinc hk (z' := ((i + 1 : Nat) : Int)) [(1, .int (iZ ((i + 1 : Nat) : Int))), (0, .ref o)] dX2_keepStep_42 0 rfl (kk := ?_)
          refine z_goto hk 15 dX2_keepStep_45 (kk := ?_)
          exact ih15  (i + 1) (va_up s2 (329 + i) (s2 (378 + i))) (by first | assumption | omega) (by rw [hs2, pP_up (a := 329) (n := i) (v := pP st (fun j => st (378 + j)) 329 i (378 + i)) (pP_out (by omega))]) (by omega)
    exact L15 (441 - 0 + 1) 0 st (by first | assumption | omega) (by exact (pP_0 _ _ _).symm) (Nat.lt_succ_self _)
