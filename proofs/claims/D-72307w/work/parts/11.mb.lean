set_option maxHeartbeats 600000 in
theorem ct_X2_laySquare (l_ : Launch) (G : zG) (o : Nat) (fs : List Value) (aS : Nat) (aQ : Nat) (st : Nat → Nat) (m : Nat) (k : Nat → Nat) (sq : Nat → Nat) (hF0 : fs[0]? = some (.ref aS)) (hF7 : fs[7]? = some (.ref aQ)) (hm : st 55 = m) (hm6 : 1 ≤ m ∧ m ≤ 6) (hkk : ∀ j, j < m → st (49 + j) = k j ∧ k j < 16) (hb : ∀ j, st j < 100) :
    Ct l_ G yX2_laySquare cX2_laySquare 5 none 1 0 0 [.ref o] [(o, zO 2 fs), (aS, zI G 819 st), (aQ, zI G 16 sq)]
      (fun _u : Unit => none) (fun _u : Unit => True) (fun _u : Unit => [(o, zO 2 fs), (aS, zI G 819 st), (aQ, zI G 16 (sqF k m))]) := by
  refine Ct.of (by decide) (Nat.le_of_ble_eq_true rfl) ?_
  intro κ hl_ hG_ hk hR_
  subst hl_
  subst hG_
  show Z κ 0 [(0, .ref o)] [] [(o, zO 2 fs), (aS, zI (kG κ) 819 st), (aQ, zI (kG κ) 16 sq)] 0 0
  refine z_iconst (z := ((0 : Nat) : Int)) hk dX2_laySquare_0 (kk := ?_)
  refine z_istore_n hk [(1, .int (iZ ((0 : Nat) : Int))), (0, .ref o)] dX2_laySquare_1 (kk := ?_)
  refine z_iconst (z := ((0 : Nat) : Int)) hk dX2_laySquare_2 (kk := ?_)
  refine z_istore_n hk [(2, .int (iZ ((0 : Nat) : Int))), (1, .int (iZ ((0 : Nat) : Int))), (0, .ref o)] dX2_laySquare_3 (kk := ?_)
  refine z_iconst (z := ((0 : Nat) : Int)) hk dX2_laySquare_4 (kk := ?_)
  refine z_istore_n hk [(3, .int (iZ ((0 : Nat) : Int))), (2, .int (iZ ((0 : Nat) : Int))), (1, .int (iZ ((0 : Nat) : Int))), (0, .ref o)] dX2_laySquare_5 (kk := ?_)
  have L6 : ∀ (f_ : Nat) (j : Nat) (n1 : Nat) (h : Nat) (q : Nat → Nat), (j ≤ m + 16) → (n1 = (dd (sqK k m) j).length) → (q = pL (dd (sqK k m) j) sq) → (bsOf h (dd (sqK k m) j)) → m + 16 - j < f_ → Z κ 6 [(3, .int (iZ ((j : Nat) : Int))), (2, .int (iZ ((h : Nat) : Int))), (1, .int (iZ ((n1 : Nat) : Int))), (0, .ref o)] [] [(o, zO 2 fs), (aS, zI (kG κ) 819 st), (aQ, zI (kG κ) 16 q)] 0 0 := by
    intro f_
    induction f_ with
    | zero => intro j n1 h q hj hn1 hq hh hm_; exact absurd hm_ (Nat.not_lt_zero _)
    | succ f_ ih6 =>
      intro j n1 h q hj hn1 hq hh hm_
      refine z_iload_n hk dX2_laySquare_6 0 rfl (kk := ?_)
      refine z_aload_n hk dX2_laySquare_7 3 rfl (kk := ?_)
      refine z_get hk in_X2 0 0 q1280 dX2_laySquare_8 rfl hF0 (kk := ?_)
      refine z_bipush (z := ((55 : Nat) : Int)) hk dX2_laySquare_11 (kk := ?_)
      refine z_iald (i := 55) hk 1 dX2_laySquare_13 rfl (kk := ?_) 
      have hf13 := hb 55
      refine z_bipush (z := ((16 : Nat) : Int)) hk dX2_laySquare_14 (kk := ?_)
      refine z_iadd (z := (((st 55) + 16 : Nat) : Int)) hk dX2_laySquare_16 (Int.natCast_add _ _).symm (kk := ?_)
      refine z_icmp_ge hk 87 dX2_laySquare_17 (kt := fun h17 => ?_) (kf := fun h17 => ?_) 
      · skip
        refine z_arrI (t' := sqF k m) (ws' := [(o, zO 2 fs), (aS, zI (kG κ) 819 st), (aQ, zI (kG κ) 16 (sqF k m))]) 2 rfl (fun j_ hj_ => by rw [hq, show j = m + 16 from by omega]; exact pL_in (by have := SQ_len (m := m) (fun j hj => (hkk j hj).2); unfold SQ at this; omega)) rfl ?_
        exact z_vret hk hR_ () dX2_laySquare_87 rfl rfl (by trivial) (zSub.ix [0, 1, 2] rfl)
      · skip
        have J52 : ∀ (l : Nat), (l = sqK k m j) → Z κ 52 [(3, .int (iZ ((j : Nat) : Int))), (2, .int (iZ ((h : Nat) : Int))), (1, .int (iZ ((n1 : Nat) : Int))), (0, .ref o)] [.int (iZ ((l : Nat) : Int))] [(o, zO 2 fs), (aS, zI (kG κ) 819 st), (aQ, zI (kG κ) 16 q)] 0 0 := by
          intro l hl2
          have hl16 : l < 16 := by rw [hl2]; exact sqK_lt (fun j hj => (hkk j hj).2) (by omega)
          have g16 := hh.2 l hl16
          have hh1 := hh.1
          have hd1 : h / 2 ^ l ≤ h := Nat.div_le_self _ _
          refine z_istore hk [(4, .int (iZ ((l : Nat) : Int))), (3, .int (iZ ((j : Nat) : Int))), (2, .int (iZ ((h : Nat) : Int))), (1, .int (iZ ((n1 : Nat) : Int))), (0, .ref o)] dX2_laySquare_52 (kk := ?_)
          refine z_iload_n hk dX2_laySquare_54 2 rfl (kk := ?_)
          refine z_iload hk dX2_laySquare_55 0 rfl (kk := ?_)
          refine z_ishr (v := iZ ((h / 2 ^ l : Nat) : Int)) hk dX2_laySquare_57 (by exact iZ_shr (by omega) (by omega)) (kk := ?_)
          refine z_iconst (z := ((1 : Nat) : Int)) hk dX2_laySquare_58 (kk := ?_)
          refine z_iand (v := iZ ((h / 2 ^ l % 2 : Nat) : Int)) hk dX2_laySquare_59 (by exact iZ_and1 (by omega)) (kk := ?_)
          refine z_if_ne hk 81 dX2_laySquare_60 (kt := fun h60 => ?_) (kf := fun h60 => ?_) 
          · skip
            have gm : sqK k m j ∈ dd (sqK k m) j := by
              by_cases e : l ∈ dd (sqK k m) j
              · rw [← hl2]; exact e
              · rw [if_neg e] at g16; omega
            refine z_iinc hk (z' := ((j + 1 : Nat) : Int)) [(3, .int (iZ ((j + 1 : Nat) : Int))), (4, .int (iZ ((l : Nat) : Int))), (2, .int (iZ ((h : Nat) : Int))), (1, .int (iZ ((n1 : Nat) : Int))), (0, .ref o)] dX2_laySquare_81 1 rfl (kk := ?_)
            refine z_goto hk 6 dX2_laySquare_84 (kk := ?_)
            refine z_lvs [0, 2, 3, 4] (lv' := [(3, .int (iZ ((j + 1 : Nat) : Int))), (2, .int (iZ ((h : Nat) : Int))), (1, .int (iZ ((n1 : Nat) : Int))), (0, .ref o)]) (kk := ?_)
            exact ih6  (j + 1) n1 h q (by first | assumption | omega) (by first | (rw [dd_in gm]; exact hn1) | (rw [dd_out gm, List.length_append, hn1]; rfl)) (by first | (rw [dd_in gm]; exact hq) | (rw [dd_out gm, hq, ← hl2]; exact pL_up hn1)) (by first | (rw [dd_in gm]; exact hh) | (rw [dd_out gm, ← hl2]; exact bsOf_add hh hl16)) (by omega)
          · skip
            have gm : sqK k m j ∉ dd (sqK k m) j := by
              intro e
              rw [← hl2] at e
              rw [if_pos e] at g16; omega
            have gr : (dd (sqK k m) j).length < 16 := nd_room (dd_nd _ _) (fun y hy => dd_lt (fun j hj => (hkk j hj).2) (by omega) hy) gm (by rw [← hl2]; exact hl16)
            refine z_aload_n hk dX2_laySquare_63 4 rfl (kk := ?_)
            refine z_get hk in_X2 0 7 q1287 dX2_laySquare_64 rfl hF7 (kk := ?_)
            refine z_iload_n hk dX2_laySquare_67 3 rfl (kk := ?_)
            refine z_iload hk dX2_laySquare_68 0 rfl (kk := ?_)
            refine z_iast (i := n1) hk 2 [(o, zO 2 fs), (aS, zI (kG κ) 819 st), (aQ, zI (kG κ) 16 (va_up q n1 l))] dX2_laySquare_70 rfl  (kk := ?_) 
            refine z_iinc hk (z' := ((n1 + 1 : Nat) : Int)) [(1, .int (iZ ((n1 + 1 : Nat) : Int))), (4, .int (iZ ((l : Nat) : Int))), (3, .int (iZ ((j : Nat) : Int))), (2, .int (iZ ((h : Nat) : Int))), (0, .ref o)] dX2_laySquare_71 3 rfl (kk := ?_)
            refine z_iload_n hk dX2_laySquare_74 3 rfl (kk := ?_)
            refine z_iconst (z := ((1 : Nat) : Int)) hk dX2_laySquare_75 (kk := ?_)
            refine z_iload hk dX2_laySquare_76 1 rfl (kk := ?_)
            refine z_ishl (v := iZ ((2 ^ l : Nat) : Int)) hk dX2_laySquare_78 (by exact iZ_shl1 l (by omega)) (kk := ?_)
            refine z_ior (v := iZ ((h ||| 2 ^ l : Nat) : Int)) hk dX2_laySquare_79 (by exact iZ_or _ _) (kk := ?_)
            refine z_istore_n hk [(2, .int (iZ ((h ||| 2 ^ l : Nat) : Int))), (1, .int (iZ ((n1 + 1 : Nat) : Int))), (4, .int (iZ ((l : Nat) : Int))), (3, .int (iZ ((j : Nat) : Int))), (0, .ref o)] dX2_laySquare_80 (kk := ?_)
            refine z_iinc hk (z' := ((j + 1 : Nat) : Int)) [(3, .int (iZ ((j + 1 : Nat) : Int))), (2, .int (iZ ((h ||| 2 ^ l : Nat) : Int))), (1, .int (iZ ((n1 + 1 : Nat) : Int))), (4, .int (iZ ((l : Nat) : Int))), (0, .ref o)] dX2_laySquare_81 3 rfl (kk := ?_)
            refine z_goto hk 6 dX2_laySquare_84 (kk := ?_)
            refine z_lvs [0, 1, 2, 4] (lv' := [(3, .int (iZ ((j + 1 : Nat) : Int))), (2, .int (iZ ((h ||| 2 ^ l : Nat) : Int))), (1, .int (iZ ((n1 + 1 : Nat) : Int))), (0, .ref o)]) (kk := ?_)
            exact ih6  (j + 1) (n1 + 1) (h ||| 2 ^ l) (va_up q n1 l) (by first | assumption | omega) (by first | (rw [dd_in gm]; exact hn1) | (rw [dd_out gm, List.length_append, hn1]; rfl)) (by first | (rw [dd_in gm]; exact hq) | (rw [dd_out gm, hq, ← hl2]; exact pL_up hn1)) (by first | (rw [dd_in gm]; exact hh) | (rw [dd_out gm, ← hl2]; exact bsOf_add hh hl16)) (by omega)
        refine z_iload_n hk dX2_laySquare_20 0 rfl (kk := ?_)
        refine z_aload_n hk dX2_laySquare_21 3 rfl (kk := ?_)
        refine z_get hk in_X2 0 0 q1280 dX2_laySquare_22 rfl hF0 (kk := ?_)
        refine z_bipush (z := ((55 : Nat) : Int)) hk dX2_laySquare_25 (kk := ?_)
        refine z_iald (i := 55) hk 1 dX2_laySquare_27 rfl (kk := ?_) 
        have hf27 := hb 55
        refine z_icmp_ge hk 43 dX2_laySquare_28 (kt := fun h28 => ?_) (kf := fun h28 => ?_) 
        · skip
          refine z_iload_n hk dX2_laySquare_43 0 rfl (kk := ?_)
          refine z_aload_n hk dX2_laySquare_44 3 rfl (kk := ?_)
          refine z_get hk in_X2 0 0 q1280 dX2_laySquare_45 rfl hF0 (kk := ?_)
          refine z_bipush (z := ((55 : Nat) : Int)) hk dX2_laySquare_48 (kk := ?_)
          refine z_iald (i := 55) hk 1 dX2_laySquare_50 rfl (kk := ?_) 
          have hf50 := hb 55
          refine z_isub (z := ((j - m : Nat) : Int)) hk dX2_laySquare_51 (by omega) (kk := ?_)
          exact J52 (j - m) (by unfold sqK; first | (rw [if_pos (by omega)]; exact (hkk j (by omega)).1) | (rw [if_neg (by omega)]))
        · skip
          refine z_aload_n hk dX2_laySquare_31 3 rfl (kk := ?_)
          refine z_get hk in_X2 0 0 q1280 dX2_laySquare_32 rfl hF0 (kk := ?_)
          refine z_bipush (z := ((49 : Nat) : Int)) hk dX2_laySquare_35 (kk := ?_)
          refine z_iload_n hk dX2_laySquare_37 0 rfl (kk := ?_)
          refine z_iadd (z := ((49 + j : Nat) : Int)) hk dX2_laySquare_38 (Int.natCast_add _ _).symm (kk := ?_)
          refine z_iald (i := 49 + j) hk 1 dX2_laySquare_39 rfl (kk := ?_) 
          have hf39 := hb (49 + j)
          refine z_goto hk 52 dX2_laySquare_40 (kk := ?_)
          exact J52 (st (49 + j)) (by unfold sqK; first | (rw [if_pos (by omega)]; exact (hkk j (by omega)).1) | (rw [if_neg (by omega)]))
  exact L6 (m + 16 - 0 + 1) 0 0 0 sq (by first | assumption | omega) (by rfl) (by exact (pL_nil sq).symm) (by exact bsOf_0) (Nat.lt_succ_self _)

set_option maxHeartbeats 600000 in
theorem ct_X2_placeOf (l_ : Launch) (G : zG) (o : Nat) (fs : List Value) (aQ : Nat) (sq : Nat → Nat) (P : Nat → Nat) (l : Nat) (hF7 : fs[7]? = some (.ref aQ)) (hSq : SqP sq P) (hl : l < 16) :
    Ct l_ G yX2_placeOf cX2_placeOf 3 (some .int) 1 0 0 [.ref o, .int (iZ ((l : Nat) : Int))] [(o, zO 2 fs), (aQ, zI G 16 sq)]
      (fun _u : Unit => some (.int (iZ (((P l) : Nat) : Int)))) (fun _u : Unit => True) (fun _u : Unit => [(o, zO 2 fs), (aQ, zI G 16 sq)]) := by
  refine Ct.of (by decide) (Nat.le_of_ble_eq_true rfl) ?_
  intro κ hl_ hG_ hk hR_
  subst hl_
  subst hG_
  show Z κ 0 [(0, .ref o), (1, .int (iZ ((l : Nat) : Int)))] [] [(o, zO 2 fs), (aQ, zI (kG κ) 16 sq)] 0 0
  refine z_iconst (z := ((0 : Nat) : Int)) hk dX2_placeOf_0 (kk := ?_)
  refine z_istore_n hk [(2, .int (iZ ((0 : Nat) : Int))), (0, .ref o), (1, .int (iZ ((l : Nat) : Int)))] dX2_placeOf_1 (kk := ?_)
  have L2 : ∀ (f_ : Nat) (i : Nat), (i ≤ P l) → P l - i < f_ → Z κ 2 [(2, .int (iZ ((i : Nat) : Int))), (0, .ref o), (1, .int (iZ ((l : Nat) : Int)))] [] [(o, zO 2 fs), (aQ, zI (kG κ) 16 sq)] 0 0 := by
    intro f_
    induction f_ with
    | zero => intro i hi hm_; exact absurd hm_ (Nat.not_lt_zero _)
    | succ f_ ih2 =>
      intro i hi hm_
      have g1 := hSq.2 l hl
      have g2 := (hSq.1 i (by omega)).1
      refine z_aload_n hk dX2_placeOf_2 1 rfl (kk := ?_)
      refine z_get hk in_X2 0 7 q1287 dX2_placeOf_3 rfl hF7 (kk := ?_)
      refine z_iload_n hk dX2_placeOf_6 0 rfl (kk := ?_)
      refine z_iald (i := i) hk 1 dX2_placeOf_7 rfl (kk := ?_) 
      refine z_iload_n hk dX2_placeOf_8 2 rfl (kk := ?_)
      refine z_icmp_eq hk 18 dX2_placeOf_9 (kt := fun h9 => ?_) (kf := fun h9 => ?_) 
      · skip
        have ge : i = P l := hSq.inj (by omega) (by omega)
        refine z_iload_n hk dX2_placeOf_18 0 rfl (kk := ?_)
        exact z_iret hk hR_ () dX2_placeOf_19 rfl (by rw [← ge]) (by trivial) (zSub.ix [0, 1] rfl)
      · skip
        have e1 : i ≠ P l := (fun e => h9 (by rw [e, g1.2]))
        refine z_iinc hk (z' := ((i + 1 : Nat) : Int)) [(2, .int (iZ ((i + 1 : Nat) : Int))), (0, .ref o), (1, .int (iZ ((l : Nat) : Int)))] dX2_placeOf_12 0 rfl (kk := ?_)
        refine z_goto hk 2 dX2_placeOf_15 (kk := ?_)
        exact ih2  (i + 1) (by first | assumption | omega) (by omega)
  exact L2 (P l - 0 + 1) 0 (by first | assumption | omega) (Nat.lt_succ_self _)

set_option maxHeartbeats 600000 in
theorem ct_X2_round (l_ : Launch) (G : zG) (v : Int) (hv : -4 ≤ v ∧ v ≤ 1000) :
    Ct l_ G yX2_round cX2_round 1 (some .int) 1 0 0 [.int (iZ (v))] []
      (fun _u : Unit => some (.int (iZ (((rnd v) : Nat) : Int)))) (fun _u : Unit => True) (fun _u : Unit => []) := by
  refine Ct.of (by decide) (Nat.le_of_ble_eq_true rfl) ?_
  intro κ hl_ hG_ hk hR_
  subst hl_
  subst hG_
  show Z κ 0 [(0, .int (iZ (v)))] [] [] 0 0
  refine z_iload_n hk dX2_round_0 0 rfl (kk := ?_)
  refine z_iconst (z := ((4 : Nat) : Int)) hk dX2_round_1 (kk := ?_)
  refine z_iadd (z := (((v + 4).toNat : Nat) : Int)) hk dX2_round_2 (by omega) (kk := ?_)
  refine z_iconst (z := ((4 : Nat) : Int)) hk dX2_round_3 (kk := ?_)
  refine z_irem (a := (v + 4).toNat) (b := 4) hk dX2_round_4 (kk := ?_) 
  exact z_iret hk hR_ () dX2_round_5 rfl (by rw [show (v + 4).toNat % 4 = rnd v from by unfold rnd; omega]) (by trivial) (zSub.ix [] rfl)

set_option maxHeartbeats 600000 in
theorem ct_X2_atSquare (l_ : Launch) (G : zG) (o : Nat) (fs : List Value) (aQ : Nat) (sq : Nat → Nat) (x : Int) (y : Int) (hF7 : fs[7]? = some (.ref aQ)) (hx : -4 ≤ x ∧ x ≤ 1000) (hy : -4 ≤ y ∧ y ≤ 1000) :
    Ct l_ G yX2_atSquare cX2_atSquare 3 (some .int) 2 0 0 [.ref o, .int (iZ (x)), .int (iZ (y))] [(o, zO 2 fs), (aQ, zI G 16 sq)]
      (fun _u : Unit => some (.int (iZ (((sq (4 * rnd x + rnd y)) : Nat) : Int)))) (fun _u : Unit => True) (fun _u : Unit => [(o, zO 2 fs), (aQ, zI G 16 sq)]) := by
  refine Ct.of (by decide) (Nat.le_of_ble_eq_true rfl) ?_
  intro κ hl_ hG_ hk hR_
  subst hl_
  subst hG_
  show Z κ 0 [(0, .ref o), (1, .int (iZ (x))), (2, .int (iZ (y)))] [] [(o, zO 2 fs), (aQ, zI (kG κ) 16 sq)] 0 0
  refine z_aload_n hk dX2_atSquare_0 0 rfl (kk := ?_)
  refine z_get hk in_X2 0 7 q1287 dX2_atSquare_1 rfl hF7 (kk := ?_)
  refine z_iconst (z := ((4 : Nat) : Int)) hk dX2_atSquare_4 (kk := ?_)
  refine z_iload_n hk dX2_atSquare_5 1 rfl (kk := ?_)
  refine z_callS hk [.int (iZ (x))] 1 [(o, zO 2 fs), (aQ, zI (kG κ) 16 sq)] (ct_X2_round (kL κ) (kG κ) x (by first | assumption | omega)) q1392 q1393 q66 q1394 (zSub.ix [0, 1] rfl) dX2_atSquare_6 rfl (kk := fun _ _ => ?_)
  show Z κ 9 [(0, .ref o), (1, .int (iZ (x))), (2, .int (iZ (y)))] [.int (iZ (((rnd x) : Nat) : Int)), .int (iZ ((4 : Nat) : Int)), .ref aQ] [(o, zO 2 fs), (aQ, zI (kG κ) 16 sq)] 0 0
  refine z_imul (z := ((4 * (rnd x) : Nat) : Int)) hk dX2_atSquare_9 (Int.natCast_mul _ _).symm (kk := ?_)
  refine z_iload_n hk dX2_atSquare_10 2 rfl (kk := ?_)
  refine z_callS hk [.int (iZ (y))] 1 [(o, zO 2 fs), (aQ, zI (kG κ) 16 sq)] (ct_X2_round (kL κ) (kG κ) y (by first | assumption | omega)) q1392 q1393 q66 q1394 (zSub.ix [0, 1] rfl) dX2_atSquare_11 rfl (kk := fun _ _ => ?_)
  show Z κ 14 [(0, .ref o), (1, .int (iZ (x))), (2, .int (iZ (y)))] [.int (iZ (((rnd y) : Nat) : Int)), .int (iZ ((4 * (rnd x) : Nat) : Int)), .ref aQ] [(o, zO 2 fs), (aQ, zI (kG κ) 16 sq)] 0 0
  refine z_iadd (z := (((4 * (rnd x)) + (rnd y) : Nat) : Int)) hk dX2_atSquare_14 (Int.natCast_add _ _).symm (kk := ?_)
  have g1 := rnd_lt x
  have g2 := rnd_lt y
  refine z_iald (i := (4 * (rnd x)) + (rnd y)) hk 1 dX2_atSquare_15 rfl (kk := ?_) 
  exact z_iret hk hR_ () dX2_atSquare_16 rfl rfl (by trivial) (zSub.ix [0, 1] rfl)

set_option maxHeartbeats 600000 in
theorem ct_X2_pair (l_ : Launch) (G : zG) (o : Nat) (fs : List Value) (aT : Nat) (aO : Nat) (aQ : Nat) (tx : Nat → Nat) (oth : Nat → Nat) (sq : Nat → Nat) (P : Nat → Nat) (i : Nat) (by_ : Int) (n : Nat) (t : Nat → Nat) (hF5 : fs[5]? = some (.ref aT)) (hF6 : fs[6]? = some (.ref aO)) (hF7 : fs[7]? = some (.ref aQ)) (hSq : SqP sq P) (hT : ∀ j, j < n → tx j = t j ∧ t j < 16) (hi : i + 1 < n) (hn48 : n ≤ 48) (hby : by_ = 1 ∨ by_ = -1) :
    Ct l_ G yX2_pair cX2_pair 7 none 3 0 0 [.ref o, .int (iZ ((i : Nat) : Int)), .int (iZ (by_))] [(o, zO 2 fs), (aT, zI G 48 tx), (aO, zI G 48 oth), (aQ, zI G 16 sq)]
      (fun u : Nat → Nat => none) (fun u : Nat → Nat => u = va_up (va_up oth i (prT sq (P (t i)) (P (t (i + 1))) by_)) (i + 1) (prT sq (P (t (i + 1))) (P (t i)) by_)) (fun u : Nat → Nat => [(o, zO 2 fs), (aT, zI G 48 tx), (aO, zI G 48 u), (aQ, zI G 16 sq)]) := by
  refine Ct.of (by decide) (Nat.le_of_ble_eq_true rfl) ?_
  intro κ hl_ hG_ hk hR_
  subst hl_
  subst hG_
  show Z κ 0 [(0, .ref o), (1, .int (iZ ((i : Nat) : Int))), (2, .int (iZ (by_)))] [] [(o, zO 2 fs), (aT, zI (kG κ) 48 tx), (aO, zI (kG κ) 48 oth), (aQ, zI (kG κ) 16 sq)] 0 0
  refine z_aload_n hk dX2_pair_0 0 rfl (kk := ?_)
  refine z_aload_n hk dX2_pair_1 0 rfl (kk := ?_)
  refine z_get hk in_X2 0 5 q1285 dX2_pair_2 rfl hF5 (kk := ?_)
  refine z_iload_n hk dX2_pair_5 1 rfl (kk := ?_)
  refine z_iald (i := i) hk 1 dX2_pair_6 rfl (kk := ?_) 
  have g1 := hT i (by omega)
  refine z_callV hk [.int (iZ ((tx i : Nat) : Int))] 1 [(aT, zI (kG κ) 48 tx), (aO, zI (kG κ) 48 oth)] (ct_X2_placeOf (kL κ) (kG κ) o fs aQ sq P (tx i) hF7 (by first | assumption | omega) (by omega)) q1384 q1386 qs37 q66 q1387 (zSub.ix [0, 3, 1, 2] rfl) 0 2 rfl dX2_pair_7 rfl (kk := fun _ _ => ?_)
  show Z κ 10 [(0, .ref o), (1, .int (iZ ((i : Nat) : Int))), (2, .int (iZ (by_)))] [.int (iZ (((P (tx i)) : Nat) : Int))] [(o, zO 2 fs), (aQ, zI (kG κ) 16 sq), (aT, zI (kG κ) 48 tx), (aO, zI (kG κ) 48 oth)] 0 0
  obtain ⟨a, ea⟩ : ∃ x_ : Nat, x_ = (P (tx i)) := ⟨_, rfl⟩
  refine z_topN a (by rw [ea]) ?_
  have ha : a < 16 := by rw [ea, g1.1]; exact (hSq.2 _ g1.2).1
  refine z_istore_n hk [(3, .int (iZ ((a : Nat) : Int))), (0, .ref o), (1, .int (iZ ((i : Nat) : Int))), (2, .int (iZ (by_)))] dX2_pair_10 (kk := ?_)
  refine z_aload_n hk dX2_pair_11 1 rfl (kk := ?_)
  refine z_aload_n hk dX2_pair_12 1 rfl (kk := ?_)
  refine z_get hk in_X2 0 5 q1285 dX2_pair_13 rfl hF5 (kk := ?_)
  refine z_iload_n hk dX2_pair_16 2 rfl (kk := ?_)
  refine z_iconst (z := ((1 : Nat) : Int)) hk dX2_pair_17 (kk := ?_)
  refine z_iadd (z := ((i + 1 : Nat) : Int)) hk dX2_pair_18 (Int.natCast_add _ _).symm (kk := ?_)
  refine z_iald (i := i + 1) hk 2 dX2_pair_19 rfl (kk := ?_) 
  have g2 := hT (i + 1) (by omega)
  refine z_callV hk [.int (iZ ((tx (i + 1) : Nat) : Int))] 1 [(aT, zI (kG κ) 48 tx), (aO, zI (kG κ) 48 oth)] (ct_X2_placeOf (kL κ) (kG κ) o fs aQ sq P (tx (i + 1)) hF7 (by first | assumption | omega) (by omega)) q1384 q1386 qs37 q66 q1387 (zSub.ix [0, 1, 2, 3] rfl) 0 2 rfl dX2_pair_20 rfl (kk := fun _ _ => ?_)
  show Z κ 23 [(3, .int (iZ ((a : Nat) : Int))), (0, .ref o), (1, .int (iZ ((i : Nat) : Int))), (2, .int (iZ (by_)))] [.int (iZ (((P (tx (i + 1))) : Nat) : Int))] [(o, zO 2 fs), (aQ, zI (kG κ) 16 sq), (aT, zI (kG κ) 48 tx), (aO, zI (kG κ) 48 oth)] 0 0
  obtain ⟨b, eb⟩ : ∃ x_ : Nat, x_ = (P (tx (i + 1))) := ⟨_, rfl⟩
  refine z_topN b (by rw [eb]) ?_
  have hb : b < 16 := by rw [eb, g2.1]; exact (hSq.2 _ g2.2).1
  refine z_istore hk [(4, .int (iZ ((b : Nat) : Int))), (3, .int (iZ ((a : Nat) : Int))), (0, .ref o), (1, .int (iZ ((i : Nat) : Int))), (2, .int (iZ (by_)))] dX2_pair_23 (kk := ?_)
  have J56 : ∀ (d : Int), (d = prD a b by_) → Z κ 56 [(4, .int (iZ ((b : Nat) : Int))), (3, .int (iZ ((a : Nat) : Int))), (0, .ref o), (1, .int (iZ ((i : Nat) : Int))), (2, .int (iZ (by_)))] [.int (iZ (d))] [(o, zO 2 fs), (aQ, zI (kG κ) 16 sq), (aT, zI (kG κ) 48 tx), (aO, zI (kG κ) 48 oth)] 0 0 := by
    intro d hd
    have gd : -1 ≤ d ∧ d ≤ 1 := by rw [hd]; unfold prD; split <;> omega
    refine z_istore hk [(5, .int (iZ (d))), (4, .int (iZ ((b : Nat) : Int))), (3, .int (iZ ((a : Nat) : Int))), (0, .ref o), (1, .int (iZ ((i : Nat) : Int))), (2, .int (iZ (by_)))] dX2_pair_56 (kk := ?_)
    have J73 : ∀ (r : Int), (r = prR a b by_) → Z κ 73 [(5, .int (iZ (d))), (4, .int (iZ ((b : Nat) : Int))), (3, .int (iZ ((a : Nat) : Int))), (0, .ref o), (1, .int (iZ ((i : Nat) : Int))), (2, .int (iZ (by_)))] [.int (iZ (r))] [(o, zO 2 fs), (aQ, zI (kG κ) 16 sq), (aT, zI (kG κ) 48 tx), (aO, zI (kG κ) 48 oth)] 0 0 := by
      intro r hrr
      have gr : -1 ≤ r ∧ r ≤ 1 := by rw [hrr]; unfold prR; split <;> omega
      refine z_istore hk [(6, .int (iZ (r))), (5, .int (iZ (d))), (4, .int (iZ ((b : Nat) : Int))), (3, .int (iZ ((a : Nat) : Int))), (0, .ref o), (1, .int (iZ ((i : Nat) : Int))), (2, .int (iZ (by_)))] dX2_pair_73 (kk := ?_)
      refine z_iload hk dX2_pair_75 1 rfl (kk := ?_)
      refine z_if_ne hk 124 dX2_pair_77 (kt := fun h77 => ?_) (kf := fun h77 => ?_) 
      · skip
        have gn : a / 4 = b / 4 ∨ a % 4 = b % 4 := by
          unfold prD at hd
          by_cases e : a = b ∨ (a / 4 ≠ b / 4 ∧ a % 4 = b % 4)
          · omega
          · rw [if_neg e] at hd; omega
        refine z_aload_n hk dX2_pair_124 4 rfl (kk := ?_)
        refine z_get hk in_X2 0 6 q1286 dX2_pair_125 rfl hF6 (kk := ?_)
        refine z_iload_n hk dX2_pair_128 5 rfl (kk := ?_)
        refine z_aload_n hk dX2_pair_129 4 rfl (kk := ?_)
        refine z_iload_n hk dX2_pair_130 3 rfl (kk := ?_)
        refine z_iconst (z := ((4 : Nat) : Int)) hk dX2_pair_131 (kk := ?_)
        refine z_idiv (a := a) (b := 4) hk dX2_pair_132 (kk := ?_) 
        refine z_iload hk dX2_pair_133 1 rfl (kk := ?_)
        refine z_iadd (z := ((a / 4 : Nat) : Int) + d) hk dX2_pair_135 (kk := ?_)
        refine z_iload_n hk dX2_pair_136 3 rfl (kk := ?_)
        refine z_iconst (z := ((4 : Nat) : Int)) hk dX2_pair_137 (kk := ?_)
        refine z_irem (a := a) (b := 4) hk dX2_pair_138 (kk := ?_) 
        refine z_iload hk dX2_pair_139 0 rfl (kk := ?_)
        refine z_iadd (z := ((a % 4 : Nat) : Int) + r) hk dX2_pair_141 (kk := ?_)
        refine z_callV hk [.int (iZ (((a / 4 : Nat) : Int) + d)), .int (iZ (((a % 4 : Nat) : Int) + r))] 2 [(aT, zI (kG κ) 48 tx), (aO, zI (kG κ) 48 oth)] (ct_X2_atSquare (kL κ) (kG κ) o fs aQ sq (((a / 4 : Nat) : Int) + d) (((a % 4 : Nat) : Int) + r) hF7 (by first | assumption | omega) (by first | assumption | omega)) q1388 q1390 qs38 q66 q1391 (zSub.ix [0, 1, 2, 3] rfl) 0 2 rfl dX2_pair_142 rfl (kk := fun _ _ => ?_)
        show Z κ 145 [(6, .int (iZ (r))), (5, .int (iZ (d))), (4, .int (iZ ((b : Nat) : Int))), (3, .int (iZ ((a : Nat) : Int))), (0, .ref o), (1, .int (iZ ((i : Nat) : Int))), (2, .int (iZ (by_)))] [.int (iZ (((sq (4 * rnd (((a / 4 : Nat) : Int) + d) + rnd (((a % 4 : Nat) : Int) + r))) : Nat) : Int)), .int (iZ ((i : Nat) : Int)), .ref aO] [(o, zO 2 fs), (aQ, zI (kG κ) 16 sq), (aT, zI (kG κ) 48 tx), (aO, zI (kG κ) 48 oth)] 0 0
        refine z_iast (i := i) hk 3 [(o, zO 2 fs), (aQ, zI (kG κ) 16 sq), (aT, zI (kG κ) 48 tx), (aO, zI (kG κ) 48 (va_up oth i (sq (4 * rnd (((a / 4 : Nat) : Int) + d) + rnd (((a % 4 : Nat) : Int) + r)))))] dX2_pair_145 rfl  (kk := ?_) 
        refine z_aload_n hk dX2_pair_146 4 rfl (kk := ?_)
        refine z_get hk in_X2 0 6 q1286 dX2_pair_147 rfl hF6 (kk := ?_)
        refine z_iload_n hk dX2_pair_150 5 rfl (kk := ?_)
        refine z_iconst (z := ((1 : Nat) : Int)) hk dX2_pair_151 (kk := ?_)
        refine z_iadd (z := ((i + 1 : Nat) : Int)) hk dX2_pair_152 (Int.natCast_add _ _).symm (kk := ?_)
        refine z_aload_n hk dX2_pair_153 4 rfl (kk := ?_)
        refine z_iload hk dX2_pair_154 2 rfl (kk := ?_)
        refine z_iconst (z := ((4 : Nat) : Int)) hk dX2_pair_156 (kk := ?_)
        refine z_idiv (a := b) (b := 4) hk dX2_pair_157 (kk := ?_) 
        refine z_iload hk dX2_pair_158 1 rfl (kk := ?_)
        refine z_iadd (z := ((b / 4 : Nat) : Int) + d) hk dX2_pair_160 (kk := ?_)
        refine z_iload hk dX2_pair_161 2 rfl (kk := ?_)
        refine z_iconst (z := ((4 : Nat) : Int)) hk dX2_pair_163 (kk := ?_)
        refine z_irem (a := b) (b := 4) hk dX2_pair_164 (kk := ?_) 
        refine z_iload hk dX2_pair_165 0 rfl (kk := ?_)
        refine z_iadd (z := ((b % 4 : Nat) : Int) + r) hk dX2_pair_167 (kk := ?_)
        refine z_callV hk [.int (iZ (((b / 4 : Nat) : Int) + d)), .int (iZ (((b % 4 : Nat) : Int) + r))] 2 [(aT, zI (kG κ) 48 tx), (aO, zI (kG κ) 48 (va_up oth i (sq (4 * rnd (((a / 4 : Nat) : Int) + d) + rnd (((a % 4 : Nat) : Int) + r)))))] (ct_X2_atSquare (kL κ) (kG κ) o fs aQ sq (((b / 4 : Nat) : Int) + d) (((b % 4 : Nat) : Int) + r) hF7 (by first | assumption | omega) (by first | assumption | omega)) q1388 q1390 qs38 q66 q1391 (zSub.ix [0, 1, 2, 3] rfl) 0 2 rfl dX2_pair_168 rfl (kk := fun _ _ => ?_)
        show Z κ 171 [(6, .int (iZ (r))), (5, .int (iZ (d))), (4, .int (iZ ((b : Nat) : Int))), (3, .int (iZ ((a : Nat) : Int))), (0, .ref o), (1, .int (iZ ((i : Nat) : Int))), (2, .int (iZ (by_)))] [.int (iZ (((sq (4 * rnd (((b / 4 : Nat) : Int) + d) + rnd (((b % 4 : Nat) : Int) + r))) : Nat) : Int)), .int (iZ ((i + 1 : Nat) : Int)), .ref aO] [(o, zO 2 fs), (aQ, zI (kG κ) 16 sq), (aT, zI (kG κ) 48 tx), (aO, zI (kG κ) 48 (va_up oth i (sq (4 * rnd (((a / 4 : Nat) : Int) + d) + rnd (((a % 4 : Nat) : Int) + r)))))] 0 0
        refine z_iast (i := i + 1) hk 3 [(o, zO 2 fs), (aQ, zI (kG κ) 16 sq), (aT, zI (kG κ) 48 tx), (aO, zI (kG κ) 48 (va_up (va_up oth i (sq (4 * rnd (((a / 4 : Nat) : Int) + d) + rnd (((a % 4 : Nat) : Int) + r)))) (i + 1) (sq (4 * rnd (((b / 4 : Nat) : Int) + d) + rnd (((b % 4 : Nat) : Int) + r)))))] dX2_pair_171 rfl  (kk := ?_) 
        exact z_vret hk hR_ (va_up (va_up oth i (sq (4 * rnd (((a / 4 : Nat) : Int) + d) + rnd (((a % 4 : Nat) : Int) + r)))) (i + 1) (sq (4 * rnd (((b / 4 : Nat) : Int) + d) + rnd (((b % 4 : Nat) : Int) + r)))) dX2_pair_172 rfl rfl (by rw [← g1.1, ← g2.1, ← ea, ← eb]; first | (rw [prT_X gx.1 gx.2 ha, prT_X (Ne.symm gx.1) (Ne.symm gx.2) hb]; done) | (rw [prT_N gn, prT_N (a := b) (b := a) (by omega), prD_c a b, prR_c a b, ← hd, ← hrr]; done)) (zSub.ix [0, 2, 3, 1] rfl)
      · skip
        refine z_iload hk dX2_pair_80 0 rfl (kk := ?_)
        refine z_if_ne hk 124 dX2_pair_82 (kt := fun h82 => ?_) (kf := fun h82 => ?_) 
        · skip
          have gn : a / 4 = b / 4 ∨ a % 4 = b % 4 := by
            unfold prR at hrr
            by_cases e : a / 4 = b / 4
            · omega
            · rw [if_neg e] at hrr; omega
          refine z_aload_n hk dX2_pair_124 4 rfl (kk := ?_)
          refine z_get hk in_X2 0 6 q1286 dX2_pair_125 rfl hF6 (kk := ?_)
          refine z_iload_n hk dX2_pair_128 5 rfl (kk := ?_)
          refine z_aload_n hk dX2_pair_129 4 rfl (kk := ?_)
          refine z_iload_n hk dX2_pair_130 3 rfl (kk := ?_)
          refine z_iconst (z := ((4 : Nat) : Int)) hk dX2_pair_131 (kk := ?_)
          refine z_idiv (a := a) (b := 4) hk dX2_pair_132 (kk := ?_) 
          refine z_iload hk dX2_pair_133 1 rfl (kk := ?_)
          refine z_iadd (z := ((a / 4 : Nat) : Int) + d) hk dX2_pair_135 (kk := ?_)
          refine z_iload_n hk dX2_pair_136 3 rfl (kk := ?_)
          refine z_iconst (z := ((4 : Nat) : Int)) hk dX2_pair_137 (kk := ?_)
          refine z_irem (a := a) (b := 4) hk dX2_pair_138 (kk := ?_) 
          refine z_iload hk dX2_pair_139 0 rfl (kk := ?_)
          refine z_iadd (z := ((a % 4 : Nat) : Int) + r) hk dX2_pair_141 (kk := ?_)
          refine z_callV hk [.int (iZ (((a / 4 : Nat) : Int) + d)), .int (iZ (((a % 4 : Nat) : Int) + r))] 2 [(aT, zI (kG κ) 48 tx), (aO, zI (kG κ) 48 oth)] (ct_X2_atSquare (kL κ) (kG κ) o fs aQ sq (((a / 4 : Nat) : Int) + d) (((a % 4 : Nat) : Int) + r) hF7 (by first | assumption | omega) (by first | assumption | omega)) q1388 q1390 qs38 q66 q1391 (zSub.ix [0, 1, 2, 3] rfl) 0 2 rfl dX2_pair_142 rfl (kk := fun _ _ => ?_)
          show Z κ 145 [(6, .int (iZ (r))), (5, .int (iZ (d))), (4, .int (iZ ((b : Nat) : Int))), (3, .int (iZ ((a : Nat) : Int))), (0, .ref o), (1, .int (iZ ((i : Nat) : Int))), (2, .int (iZ (by_)))] [.int (iZ (((sq (4 * rnd (((a / 4 : Nat) : Int) + d) + rnd (((a % 4 : Nat) : Int) + r))) : Nat) : Int)), .int (iZ ((i : Nat) : Int)), .ref aO] [(o, zO 2 fs), (aQ, zI (kG κ) 16 sq), (aT, zI (kG κ) 48 tx), (aO, zI (kG κ) 48 oth)] 0 0
          refine z_iast (i := i) hk 3 [(o, zO 2 fs), (aQ, zI (kG κ) 16 sq), (aT, zI (kG κ) 48 tx), (aO, zI (kG κ) 48 (va_up oth i (sq (4 * rnd (((a / 4 : Nat) : Int) + d) + rnd (((a % 4 : Nat) : Int) + r)))))] dX2_pair_145 rfl  (kk := ?_) 
          refine z_aload_n hk dX2_pair_146 4 rfl (kk := ?_)
          refine z_get hk in_X2 0 6 q1286 dX2_pair_147 rfl hF6 (kk := ?_)
          refine z_iload_n hk dX2_pair_150 5 rfl (kk := ?_)
          refine z_iconst (z := ((1 : Nat) : Int)) hk dX2_pair_151 (kk := ?_)
          refine z_iadd (z := ((i + 1 : Nat) : Int)) hk dX2_pair_152 (Int.natCast_add _ _).symm (kk := ?_)
          refine z_aload_n hk dX2_pair_153 4 rfl (kk := ?_)
          refine z_iload hk dX2_pair_154 2 rfl (kk := ?_)
          refine z_iconst (z := ((4 : Nat) : Int)) hk dX2_pair_156 (kk := ?_)
          refine z_idiv (a := b) (b := 4) hk dX2_pair_157 (kk := ?_) 
          refine z_iload hk dX2_pair_158 1 rfl (kk := ?_)
          refine z_iadd (z := ((b / 4 : Nat) : Int) + d) hk dX2_pair_160 (kk := ?_)
          refine z_iload hk dX2_pair_161 2 rfl (kk := ?_)
          refine z_iconst (z := ((4 : Nat) : Int)) hk dX2_pair_163 (kk := ?_)
          refine z_irem (a := b) (b := 4) hk dX2_pair_164 (kk := ?_) 
          refine z_iload hk dX2_pair_165 0 rfl (kk := ?_)
          refine z_iadd (z := ((b % 4 : Nat) : Int) + r) hk dX2_pair_167 (kk := ?_)
          refine z_callV hk [.int (iZ (((b / 4 : Nat) : Int) + d)), .int (iZ (((b % 4 : Nat) : Int) + r))] 2 [(aT, zI (kG κ) 48 tx), (aO, zI (kG κ) 48 (va_up oth i (sq (4 * rnd (((a / 4 : Nat) : Int) + d) + rnd (((a % 4 : Nat) : Int) + r)))))] (ct_X2_atSquare (kL κ) (kG κ) o fs aQ sq (((b / 4 : Nat) : Int) + d) (((b % 4 : Nat) : Int) + r) hF7 (by first | assumption | omega) (by first | assumption | omega)) q1388 q1390 qs38 q66 q1391 (zSub.ix [0, 1, 2, 3] rfl) 0 2 rfl dX2_pair_168 rfl (kk := fun _ _ => ?_)
          show Z κ 171 [(6, .int (iZ (r))), (5, .int (iZ (d))), (4, .int (iZ ((b : Nat) : Int))), (3, .int (iZ ((a : Nat) : Int))), (0, .ref o), (1, .int (iZ ((i : Nat) : Int))), (2, .int (iZ (by_)))] [.int (iZ (((sq (4 * rnd (((b / 4 : Nat) : Int) + d) + rnd (((b % 4 : Nat) : Int) + r))) : Nat) : Int)), .int (iZ ((i + 1 : Nat) : Int)), .ref aO] [(o, zO 2 fs), (aQ, zI (kG κ) 16 sq), (aT, zI (kG κ) 48 tx), (aO, zI (kG κ) 48 (va_up oth i (sq (4 * rnd (((a / 4 : Nat) : Int) + d) + rnd (((a % 4 : Nat) : Int) + r)))))] 0 0
          refine z_iast (i := i + 1) hk 3 [(o, zO 2 fs), (aQ, zI (kG κ) 16 sq), (aT, zI (kG κ) 48 tx), (aO, zI (kG κ) 48 (va_up (va_up oth i (sq (4 * rnd (((a / 4 : Nat) : Int) + d) + rnd (((a % 4 : Nat) : Int) + r)))) (i + 1) (sq (4 * rnd (((b / 4 : Nat) : Int) + d) + rnd (((b % 4 : Nat) : Int) + r)))))] dX2_pair_171 rfl  (kk := ?_) 
          exact z_vret hk hR_ (va_up (va_up oth i (sq (4 * rnd (((a / 4 : Nat) : Int) + d) + rnd (((a % 4 : Nat) : Int) + r)))) (i + 1) (sq (4 * rnd (((b / 4 : Nat) : Int) + d) + rnd (((b % 4 : Nat) : Int) + r)))) dX2_pair_172 rfl rfl (by rw [← g1.1, ← g2.1, ← ea, ← eb]; first | (rw [prT_X gx.1 gx.2 ha, prT_X (Ne.symm gx.1) (Ne.symm gx.2) hb]; done) | (rw [prT_N gn, prT_N (a := b) (b := a) (by omega), prD_c a b, prR_c a b, ← hd, ← hrr]; done)) (zSub.ix [0, 2, 3, 1] rfl)
        · skip
          have gx : a / 4 ≠ b / 4 ∧ a % 4 ≠ b % 4 := by
            unfold prD at hd; unfold prR at hrr
            have e1 : ¬ a / 4 = b / 4 := by intro e; rw [if_pos e] at hrr; omega
            refine ⟨e1, fun e => ?_⟩
            rw [if_pos (Or.inr ⟨e1, e⟩)] at hd; omega
          refine z_aload_n hk dX2_pair_85 4 rfl (kk := ?_)
          refine z_get hk in_X2 0 6 q1286 dX2_pair_86 rfl hF6 (kk := ?_)
          refine z_iload_n hk dX2_pair_89 5 rfl (kk := ?_)
          refine z_aload_n hk dX2_pair_90 4 rfl (kk := ?_)
          refine z_iload_n hk dX2_pair_91 3 rfl (kk := ?_)
          refine z_iconst (z := ((4 : Nat) : Int)) hk dX2_pair_92 (kk := ?_)
          refine z_idiv (a := a) (b := 4) hk dX2_pair_93 (kk := ?_) 
          refine z_iload hk dX2_pair_94 2 rfl (kk := ?_)
          refine z_iconst (z := ((4 : Nat) : Int)) hk dX2_pair_96 (kk := ?_)
          refine z_irem (a := b) (b := 4) hk dX2_pair_97 (kk := ?_) 
          refine z_callV hk [.int (iZ ((a / 4 : Nat) : Int)), .int (iZ ((b % 4 : Nat) : Int))] 2 [(aT, zI (kG κ) 48 tx), (aO, zI (kG κ) 48 oth)] (ct_X2_atSquare (kL κ) (kG κ) o fs aQ sq ((a / 4 : Nat) : Int) ((b % 4 : Nat) : Int) hF7 (by first | assumption | omega) (by first | assumption | omega)) q1388 q1390 qs38 q66 q1391 (zSub.ix [0, 1, 2, 3] rfl) 0 2 rfl dX2_pair_98 rfl (kk := fun _ _ => ?_)
          show Z κ 101 [(6, .int (iZ (r))), (5, .int (iZ (d))), (4, .int (iZ ((b : Nat) : Int))), (3, .int (iZ ((a : Nat) : Int))), (0, .ref o), (1, .int (iZ ((i : Nat) : Int))), (2, .int (iZ (by_)))] [.int (iZ (((sq (4 * rnd ((a / 4 : Nat) : Int) + rnd ((b % 4 : Nat) : Int))) : Nat) : Int)), .int (iZ ((i : Nat) : Int)), .ref aO] [(o, zO 2 fs), (aQ, zI (kG κ) 16 sq), (aT, zI (kG κ) 48 tx), (aO, zI (kG κ) 48 oth)] 0 0
          refine z_iast (i := i) hk 3 [(o, zO 2 fs), (aQ, zI (kG κ) 16 sq), (aT, zI (kG κ) 48 tx), (aO, zI (kG κ) 48 (va_up oth i (sq (4 * rnd ((a / 4 : Nat) : Int) + rnd ((b % 4 : Nat) : Int)))))] dX2_pair_101 rfl  (kk := ?_) 
          refine z_aload_n hk dX2_pair_102 4 rfl (kk := ?_)
          refine z_get hk in_X2 0 6 q1286 dX2_pair_103 rfl hF6 (kk := ?_)
          refine z_iload_n hk dX2_pair_106 5 rfl (kk := ?_)
          refine z_iconst (z := ((1 : Nat) : Int)) hk dX2_pair_107 (kk := ?_)
          refine z_iadd (z := ((i + 1 : Nat) : Int)) hk dX2_pair_108 (Int.natCast_add _ _).symm (kk := ?_)
          refine z_aload_n hk dX2_pair_109 4 rfl (kk := ?_)
          refine z_iload hk dX2_pair_110 2 rfl (kk := ?_)
          refine z_iconst (z := ((4 : Nat) : Int)) hk dX2_pair_112 (kk := ?_)
          refine z_idiv (a := b) (b := 4) hk dX2_pair_113 (kk := ?_) 
          refine z_iload_n hk dX2_pair_114 3 rfl (kk := ?_)
          refine z_iconst (z := ((4 : Nat) : Int)) hk dX2_pair_115 (kk := ?_)
          refine z_irem (a := a) (b := 4) hk dX2_pair_116 (kk := ?_) 
          refine z_callV hk [.int (iZ ((b / 4 : Nat) : Int)), .int (iZ ((a % 4 : Nat) : Int))] 2 [(aT, zI (kG κ) 48 tx), (aO, zI (kG κ) 48 (va_up oth i (sq (4 * rnd ((a / 4 : Nat) : Int) + rnd ((b % 4 : Nat) : Int)))))] (ct_X2_atSquare (kL κ) (kG κ) o fs aQ sq ((b / 4 : Nat) : Int) ((a % 4 : Nat) : Int) hF7 (by first | assumption | omega) (by first | assumption | omega)) q1388 q1390 qs38 q66 q1391 (zSub.ix [0, 1, 2, 3] rfl) 0 2 rfl dX2_pair_117 rfl (kk := fun _ _ => ?_)
          show Z κ 120 [(6, .int (iZ (r))), (5, .int (iZ (d))), (4, .int (iZ ((b : Nat) : Int))), (3, .int (iZ ((a : Nat) : Int))), (0, .ref o), (1, .int (iZ ((i : Nat) : Int))), (2, .int (iZ (by_)))] [.int (iZ (((sq (4 * rnd ((b / 4 : Nat) : Int) + rnd ((a % 4 : Nat) : Int))) : Nat) : Int)), .int (iZ ((i + 1 : Nat) : Int)), .ref aO] [(o, zO 2 fs), (aQ, zI (kG κ) 16 sq), (aT, zI (kG κ) 48 tx), (aO, zI (kG κ) 48 (va_up oth i (sq (4 * rnd ((a / 4 : Nat) : Int) + rnd ((b % 4 : Nat) : Int)))))] 0 0
          refine z_iast (i := i + 1) hk 3 [(o, zO 2 fs), (aQ, zI (kG κ) 16 sq), (aT, zI (kG κ) 48 tx), (aO, zI (kG κ) 48 (va_up (va_up oth i (sq (4 * rnd ((a / 4 : Nat) : Int) + rnd ((b % 4 : Nat) : Int)))) (i + 1) (sq (4 * rnd ((b / 4 : Nat) : Int) + rnd ((a % 4 : Nat) : Int)))))] dX2_pair_120 rfl  (kk := ?_) 
          refine z_goto hk 172 dX2_pair_121 (kk := ?_)
          exact z_vret hk hR_ (va_up (va_up oth i (sq (4 * rnd ((a / 4 : Nat) : Int) + rnd ((b % 4 : Nat) : Int)))) (i + 1) (sq (4 * rnd ((b / 4 : Nat) : Int) + rnd ((a % 4 : Nat) : Int)))) dX2_pair_172 rfl rfl (by rw [← g1.1, ← g2.1, ← ea, ← eb]; first | (rw [prT_X gx.1 gx.2 ha, prT_X (Ne.symm gx.1) (Ne.symm gx.2) hb]; done) | (rw [prT_N gn, prT_N (a := b) (b := a) (by omega), prD_c a b, prR_c a b, ← hd, ← hrr]; done)) (zSub.ix [0, 2, 3, 1] rfl)
    refine z_iload_n hk dX2_pair_58 2 rfl (kk := ?_)
    refine z_iconst (z := ((4 : Nat) : Int)) hk dX2_pair_59 (kk := ?_)
    refine z_idiv (a := a) (b := 4) hk dX2_pair_60 (kk := ?_) 
    refine z_iload hk dX2_pair_61 1 rfl (kk := ?_)
    refine z_iconst (z := ((4 : Nat) : Int)) hk dX2_pair_63 (kk := ?_)
    refine z_idiv (a := b) (b := 4) hk dX2_pair_64 (kk := ?_) 
    refine z_icmp_ne hk 72 dX2_pair_65 (kt := fun h65 => ?_) (kf := fun h65 => ?_) 
    · skip
      refine z_iconst (z := ((0 : Nat) : Int)) hk dX2_pair_72 (kk := ?_)
      exact J73 ((0 : Nat) : Int) (by unfold prR; first | (rw [if_pos (by omega)]; done) | (rw [if_neg (by omega)]; rfl))
    · skip
      refine z_iload_n hk dX2_pair_68 5 rfl (kk := ?_)
      refine z_goto hk 73 dX2_pair_69 (kk := ?_)
      exact J73 by_ (by unfold prR; first | (rw [if_pos (by omega)]; done) | (rw [if_neg (by omega)]; rfl))
  refine z_iload_n hk dX2_pair_25 1 rfl (kk := ?_)
  refine z_iload hk dX2_pair_26 0 rfl (kk := ?_)
  refine z_icmp_eq hk 51 dX2_pair_28 (kt := fun h28 => ?_) (kf := fun h28 => ?_) 
  · skip
    refine z_iload_n hk dX2_pair_51 4 rfl (kk := ?_)
    refine z_goto hk 56 dX2_pair_52 (kk := ?_)
    exact J56 by_ (by unfold prD; first | (rw [if_pos (by omega)]; done) | (rw [if_neg (by omega)]; rfl))
  · skip
    refine z_iload_n hk dX2_pair_31 1 rfl (kk := ?_)
    refine z_iconst (z := ((4 : Nat) : Int)) hk dX2_pair_32 (kk := ?_)
    refine z_idiv (a := a) (b := 4) hk dX2_pair_33 (kk := ?_) 
    refine z_iload hk dX2_pair_34 0 rfl (kk := ?_)
    refine z_iconst (z := ((4 : Nat) : Int)) hk dX2_pair_36 (kk := ?_)
    refine z_idiv (a := b) (b := 4) hk dX2_pair_37 (kk := ?_) 
    refine z_icmp_eq hk 55 dX2_pair_38 (kt := fun h38 => ?_) (kf := fun h38 => ?_) 
    · skip
      refine z_iconst (z := ((0 : Nat) : Int)) hk dX2_pair_55 (kk := ?_)
      exact J56 ((0 : Nat) : Int) (by unfold prD; first | (rw [if_pos (by omega)]; done) | (rw [if_neg (by omega)]; rfl))
    · skip
      refine z_iload_n hk dX2_pair_41 1 rfl (kk := ?_)
      refine z_iconst (z := ((4 : Nat) : Int)) hk dX2_pair_42 (kk := ?_)
      refine z_irem (a := a) (b := 4) hk dX2_pair_43 (kk := ?_) 
      refine z_iload hk dX2_pair_44 0 rfl (kk := ?_)
      refine z_iconst (z := ((4 : Nat) : Int)) hk dX2_pair_46 (kk := ?_)
      refine z_irem (a := b) (b := 4) hk dX2_pair_47 (kk := ?_) 
      refine z_icmp_ne hk 55 dX2_pair_48 (kt := fun h48 => ?_) (kf := fun h48 => ?_) 
      · skip
        refine z_iconst (z := ((0 : Nat) : Int)) hk dX2_pair_55 (kk := ?_)
        exact J56 ((0 : Nat) : Int) (by unfold prD; first | (rw [if_pos (by omega)]; done) | (rw [if_neg (by omega)]; rfl))
      · skip
        refine z_iload_n hk dX2_pair_51 4 rfl (kk := ?_)
        refine z_goto hk 56 dX2_pair_52 (kk := ?_)
        exact J56 by_ (by unfold prD; first | (rw [if_pos (by omega)]; done) | (rw [if_neg (by omega)]; rfl))

set_option maxHeartbeats 600000 in
theorem ct_X2_pairs (l_ : Launch) (G : zG) (o : Nat) (fs : List Value) (aS : Nat) (aT : Nat) (aO : Nat) (aQ : Nat) (st : Nat → Nat) (tx : Nat → Nat) (oth : Nat → Nat) (sq : Nat → Nat) (P : Nat → Nat) (by_ : Int) (n : Nat) (t : Nat → Nat) (hF0 : fs[0]? = some (.ref aS)) (hF5 : fs[5]? = some (.ref aT)) (hF6 : fs[6]? = some (.ref aO)) (hF7 : fs[7]? = some (.ref aQ)) (hn : st 48 = n) (hn48 : n ≤ 48) (hev : n % 2 = 0) (hSq : SqP sq P) (hT : ∀ j, j < n → tx j = t j ∧ t j < 16) (hby : by_ = 1 ∨ by_ = -1) :
    Ct l_ G yX2_pairs cX2_pairs 3 none 4 0 0 [.ref o, .int (iZ (by_))] [(o, zO 2 fs), (aS, zI G 819 st), (aT, zI G 48 tx), (aO, zI G 48 oth), (aQ, zI G 16 sq)]
      (fun u : Nat → Nat => none) (fun u : Nat → Nat => u = pP oth (prF sq P t by_) 0 n) (fun u : Nat → Nat => [(o, zO 2 fs), (aS, zI G 819 st), (aT, zI G 48 tx), (aO, zI G 48 u), (aQ, zI G 16 sq)]) := by
  refine Ct.of (by decide) (Nat.le_of_ble_eq_true rfl) ?_
  intro κ hl_ hG_ hk hR_
  subst hl_
  subst hG_
  show Z κ 0 [(0, .ref o), (1, .int (iZ (by_)))] [] [(o, zO 2 fs), (aS, zI (kG κ) 819 st), (aT, zI (kG κ) 48 tx), (aO, zI (kG κ) 48 oth), (aQ, zI (kG κ) 16 sq)] 0 0
  refine z_iconst (z := ((0 : Nat) : Int)) hk dX2_pairs_0 (kk := ?_)
  refine z_istore_n hk [(2, .int (iZ ((0 : Nat) : Int))), (0, .ref o), (1, .int (iZ (by_)))] dX2_pairs_1 (kk := ?_)
  have L2 : ∀ (f_ : Nat) (i : Nat) (o2 : Nat → Nat), (i ≤ n ∧ i % 2 = 0) → (o2 = pP oth (prF sq P t by_) 0 i) → n - i < f_ → Z κ 2 [(2, .int (iZ ((i : Nat) : Int))), (0, .ref o), (1, .int (iZ (by_)))] [] [(o, zO 2 fs), (aS, zI (kG κ) 819 st), (aT, zI (kG κ) 48 tx), (aO, zI (kG κ) 48 o2), (aQ, zI (kG κ) 16 sq)] 0 0 := by
    intro f_
    induction f_ with
    | zero => intro i o2 hi ho2 hm_; exact absurd hm_ (Nat.not_lt_zero _)
    | succ f_ ih2 =>
      intro i o2 hi ho2 hm_
      refine z_iload_n hk dX2_pairs_2 0 rfl (kk := ?_)
      refine z_iconst (z := ((1 : Nat) : Int)) hk dX2_pairs_3 (kk := ?_)
      refine z_iadd (z := ((i + 1 : Nat) : Int)) hk dX2_pairs_4 (Int.natCast_add _ _).symm (kk := ?_)
      refine z_aload_n hk dX2_pairs_5 1 rfl (kk := ?_)
      refine z_callV hk [] 0 [(aT, zI (kG κ) 48 tx), (aO, zI (kG κ) 48 o2), (aQ, zI (kG κ) 16 sq)] (ct_X2_many (kL κ) (kG κ) o fs aS st n hF0 (by first | assumption | omega)) q1352 q1354 qs30 q66 q1355 (zSub.ix [0, 1, 2, 3, 4] rfl) 0 2 rfl dX2_pairs_6 rfl (kk := fun _ _ => ?_)
      show Z κ 9 [(2, .int (iZ ((i : Nat) : Int))), (0, .ref o), (1, .int (iZ (by_)))] [.int (iZ ((n : Nat) : Int)), .int (iZ ((i + 1 : Nat) : Int))] [(o, zO 2 fs), (aS, zI (kG κ) 819 st), (aT, zI (kG κ) 48 tx), (aO, zI (kG κ) 48 o2), (aQ, zI (kG κ) 16 sq)] 0 0
      refine z_icmp_ge hk 24 dX2_pairs_9 (kt := fun h9 => ?_) (kf := fun h9 => ?_) 
      · skip
        exact z_vret hk hR_ o2 dX2_pairs_24 rfl rfl (by rw [ho2, show i = n from by omega]) (zSub.ix [0, 1, 2, 3, 4] rfl)
      · skip
        refine z_aload_n hk dX2_pairs_12 1 rfl (kk := ?_)
        refine z_iload_n hk dX2_pairs_13 0 rfl (kk := ?_)
        refine z_iload_n hk dX2_pairs_14 2 rfl (kk := ?_)
        refine z_callV hk [.int (iZ ((i : Nat) : Int)), .int (iZ (by_))] 2 [(aS, zI (kG κ) 819 st)] (ct_X2_pair (kL κ) (kG κ) o fs aT aO aQ tx o2 sq P i by_ n t hF5 hF6 hF7 (by first | assumption | omega) (by first | assumption | omega) (by first | assumption | omega) (by first | assumption | omega) (by first | assumption | omega)) q1380 q1382 qs36 q66 q1383 (zSub.ix [0, 2, 3, 4, 1] rfl) 0 2 rfl dX2_pairs_15 rfl (kk := fun u_2 hu15 => ?_)
        obtain ⟨o2_3, rfl⟩ : ∃ z_, z_ = u_2 := ⟨_, rfl⟩
        have hu15 : o2_3 = va_up (va_up o2 i (prT sq (P (t i)) (P (t (i + 1))) by_)) (i + 1) (prT sq (P (t (i + 1))) (P (t i)) by_) := hu15
        show Z κ 18 [(2, .int (iZ ((i : Nat) : Int))), (0, .ref o), (1, .int (iZ (by_)))] [] [(o, zO 2 fs), (aT, zI (kG κ) 48 tx), (aO, zI (kG κ) 48 o2_3), (aQ, zI (kG κ) 16 sq), (aS, zI (kG κ) 819 st)] 0 0
        refine z_iinc hk (z' := ((i + 2 : Nat) : Int)) [(2, .int (iZ ((i + 2 : Nat) : Int))), (0, .ref o), (1, .int (iZ (by_)))] dX2_pairs_18 0 rfl (kk := ?_)
        refine z_goto hk 2 dX2_pairs_21 (kk := ?_)
        refine z_sub (zSub.ix [0, 4, 1, 2, 3] (ws' := [(o, zO 2 fs), (aS, zI (kG κ) 819 st), (aT, zI (kG κ) 48 tx), (aO, zI (kG κ) 48 o2_3), (aQ, zI (kG κ) 16 sq)]) rfl) ?_
        exact ih2  (i + 2) o2_3 (by first | assumption | omega) (by rw [hu15, ho2, pP_up0 (by unfold prF; rw [if_pos hi.2]), pP_up0 (by unfold prF; rw [if_neg (by omega)]; rfl)]) (by omega)
  exact L2 (n - 0 + 1) 0 oth (by first | assumption | omega) (by exact (pP_0 _ _ _).symm) (Nat.lt_succ_self _)

set_option maxHeartbeats 600000 in
theorem ct_X2_shiftAll (l_ : Launch) (G : zG) (o : Nat) (fs : List Value) (aS : Nat) (aT : Nat) (aO : Nat) (st : Nat → Nat) (tx : Nat → Nat) (oth : Nat → Nat) (by_ : Int) (wd : Nat) (n : Nat) (t : Nat → Nat) (m : Nat) (k : Nat → Nat) (w : Nat) (hF0 : fs[0]? = some (.ref aS)) (hF5 : fs[5]? = some (.ref aT)) (hF6 : fs[6]? = some (.ref aO)) (hn : st 48 = n) (hn48 : n ≤ 48) (hm : st 55 = m) (hm6 : 1 ≤ m ∧ m ≤ 6) (hkk : ∀ j, j < m → st (49 + j) = k j ∧ k j < 16) (hT : ∀ j, j < n → tx j = t j ∧ t j < 16) (hby : by_ = 1 ∨ by_ = -1) (hw : (wd = 1 ∧ w = m) ∨ (wd = 0 ∧ w = 1)) (hb : ∀ j, st j < 100) :
    Ct l_ G yX2_shiftAll cX2_shiftAll 5 none 2 0 0 [.ref o, .int (iZ (by_)), .int (iZ ((wd : Nat) : Int))] [(o, zO 2 fs), (aS, zI G 819 st), (aT, zI G 48 tx), (aO, zI G 48 oth)]
      (fun u : Nat → Nat => none) (fun u : Nat → Nat => u = pP oth (shF t k w by_) 0 n) (fun u : Nat → Nat => [(o, zO 2 fs), (aS, zI G 819 st), (aT, zI G 48 tx), (aO, zI G 48 u)]) := by
  refine Ct.of (by decide) (Nat.le_of_ble_eq_true rfl) ?_
  intro κ hl_ hG_ hk hR_
  subst hl_
  subst hG_
  show Z κ 0 [(0, .ref o), (1, .int (iZ (by_))), (2, .int (iZ ((wd : Nat) : Int)))] [] [(o, zO 2 fs), (aS, zI (kG κ) 819 st), (aT, zI (kG κ) 48 tx), (aO, zI (kG κ) 48 oth)] 0 0
  refine z_iconst (z := ((0 : Nat) : Int)) hk dX2_shiftAll_0 (kk := ?_)
  refine z_istore_n hk [(3, .int (iZ ((0 : Nat) : Int))), (0, .ref o), (1, .int (iZ (by_))), (2, .int (iZ ((wd : Nat) : Int)))] dX2_shiftAll_1 (kk := ?_)
  have L2 : ∀ (f_ : Nat) (i : Nat) (o2 : Nat → Nat), (i ≤ n) → (o2 = pP oth (shF t k w by_) 0 i) → n - i < f_ → Z κ 2 [(3, .int (iZ ((i : Nat) : Int))), (0, .ref o), (1, .int (iZ (by_))), (2, .int (iZ ((wd : Nat) : Int)))] [] [(o, zO 2 fs), (aS, zI (kG κ) 819 st), (aT, zI (kG κ) 48 tx), (aO, zI (kG κ) 48 o2)] 0 0 := by
    intro f_
    induction f_ with
    | zero => intro i o2 hi ho2 hm_; exact absurd hm_ (Nat.not_lt_zero _)
    | succ f_ ih2 =>
      intro i o2 hi ho2 hm_
      refine z_iload_n hk dX2_shiftAll_2 0 rfl (kk := ?_)
      refine z_aload_n hk dX2_shiftAll_3 1 rfl (kk := ?_)
      refine z_callV hk [] 0 [(aT, zI (kG κ) 48 tx), (aO, zI (kG κ) 48 o2)] (ct_X2_many (kL κ) (kG κ) o fs aS st n hF0 (by first | assumption | omega)) q1352 q1354 qs30 q66 q1355 (zSub.ix [0, 1, 2, 3] rfl) 0 2 rfl dX2_shiftAll_4 rfl (kk := fun _ _ => ?_)
      show Z κ 7 [(3, .int (iZ ((i : Nat) : Int))), (0, .ref o), (1, .int (iZ (by_))), (2, .int (iZ ((wd : Nat) : Int)))] [.int (iZ ((n : Nat) : Int)), .int (iZ ((i : Nat) : Int))] [(o, zO 2 fs), (aS, zI (kG κ) 819 st), (aT, zI (kG κ) 48 tx), (aO, zI (kG κ) 48 o2)] 0 0
      refine z_icmp_ge hk 66 dX2_shiftAll_7 (kt := fun h7 => ?_) (kf := fun h7 => ?_) 
      · skip
        exact z_vret hk hR_ o2 dX2_shiftAll_66 rfl rfl (by rw [ho2, show i = n from by omega]) (zSub.ix [0, 1, 2, 3] rfl)
      · skip
        refine z_aload_n hk dX2_shiftAll_10 1 rfl (kk := ?_)
        refine z_get hk in_X2 0 0 q1280 dX2_shiftAll_11 rfl hF0 (kk := ?_)
        refine z_bipush (z := ((49 : Nat) : Int)) hk dX2_shiftAll_14 (kk := ?_)
        have J33 : ∀ (x : Nat), (x = i % w) → Z κ 33 [(3, .int (iZ ((i : Nat) : Int))), (0, .ref o), (1, .int (iZ (by_))), (2, .int (iZ ((wd : Nat) : Int)))] [.int (iZ ((x : Nat) : Int)), .int (iZ ((49 : Nat) : Int)), .ref aS] [(o, zO 2 fs), (aS, zI (kG κ) 819 st), (aT, zI (kG κ) 48 tx), (aO, zI (kG κ) 48 o2)] 0 0 := by
          intro x hx
          have gx : x < m := by rw [hx]; rcases hw with ⟨h1, h2⟩ | ⟨h1, h2⟩ <;> rw [h2] <;> first | exact Nat.mod_lt _ (by omega) | omega
          have gk := hkk x gx
          have gby : -15 ≤ by_ * (k x : Int) ∧ by_ * (k x : Int) ≤ 15 := by rcases hby with h1 | h1 <;> rw [h1] <;> omega
          have gt := hT i (by omega)
          refine z_iadd (z := ((49 + x : Nat) : Int)) hk dX2_shiftAll_33 (Int.natCast_add _ _).symm (kk := ?_)
          refine z_iald (i := 49 + x) hk 1 dX2_shiftAll_34 rfl (kk := ?_) 
          have hf34 := hb (49 + x)
          refine z_istore hk [(4, .int (iZ ((st (49 + x) : Nat) : Int))), (3, .int (iZ ((i : Nat) : Int))), (0, .ref o), (1, .int (iZ (by_))), (2, .int (iZ ((wd : Nat) : Int)))] dX2_shiftAll_35 (kk := ?_)
          refine z_aload_n hk dX2_shiftAll_37 2 rfl (kk := ?_)
          refine z_get hk in_X2 0 6 q1286 dX2_shiftAll_38 rfl hF6 (kk := ?_)
          refine z_iload_n hk dX2_shiftAll_41 1 rfl (kk := ?_)
          refine z_aload_n hk dX2_shiftAll_42 2 rfl (kk := ?_)
          refine z_get hk in_X2 0 5 q1285 dX2_shiftAll_43 rfl hF5 (kk := ?_)
          refine z_iload_n hk dX2_shiftAll_46 1 rfl (kk := ?_)
          refine z_iald (i := i) hk 2 dX2_shiftAll_47 rfl (kk := ?_) 
          refine z_iload_n hk dX2_shiftAll_48 3 rfl (kk := ?_)
          refine z_iload hk dX2_shiftAll_49 0 rfl (kk := ?_)
          refine z_imul (z := by_ * (k x : Int)) hk dX2_shiftAll_51 (by rw [show st (49 + x) = k x from gk.1]) (kk := ?_)
          refine z_iadd (z := ((tx i : Nat) : Int) + (by_ * (k x : Int))) hk dX2_shiftAll_52 (kk := ?_)
          refine z_bipush (z := ((16 : Nat) : Int)) hk dX2_shiftAll_53 (kk := ?_)
          refine z_iadd (z := ((((t i : Int) + by_ * (k x : Int) + 16).toNat : Nat) : Int)) hk dX2_shiftAll_55 (by rcases hby with h1 | h1 <;> rw [h1] <;> omega) (kk := ?_)
          refine z_bipush (z := ((16 : Nat) : Int)) hk dX2_shiftAll_56 (kk := ?_)
          refine z_irem (a := ((t i : Int) + by_ * (k x : Int) + 16).toNat) (b := 16) hk dX2_shiftAll_58 (kk := ?_) 
          refine z_iast (i := i) hk 3 [(o, zO 2 fs), (aS, zI (kG κ) 819 st), (aT, zI (kG κ) 48 tx), (aO, zI (kG κ) 48 (va_up o2 i ((((t i : Int) + by_ * (k x : Int) + 16).toNat) % 16)))] dX2_shiftAll_59 rfl  (kk := ?_) 
          refine z_iinc hk (z' := ((i + 1 : Nat) : Int)) [(3, .int (iZ ((i + 1 : Nat) : Int))), (4, .int (iZ ((st (49 + x) : Nat) : Int))), (0, .ref o), (1, .int (iZ (by_))), (2, .int (iZ ((wd : Nat) : Int)))] dX2_shiftAll_60 1 rfl (kk := ?_)
          refine z_goto hk 2 dX2_shiftAll_63 (kk := ?_)
          refine z_lvs [0, 2, 3, 4] (lv' := [(3, .int (iZ ((i + 1 : Nat) : Int))), (0, .ref o), (1, .int (iZ (by_))), (2, .int (iZ ((wd : Nat) : Int)))]) (kk := ?_)
          exact ih2  (i + 1) (va_up o2 i ((((t i : Int) + by_ * (k x : Int) + 16).toNat) % 16)) (by first | assumption | omega) (by rw [ho2]; exact pP_up0 (by unfold shF; rw [← hx]; rcases hby with h1 | h1 <;> rw [h1] <;> omega)) (by omega)
        refine z_iload_n hk dX2_shiftAll_16 3 rfl (kk := ?_)
        refine z_if_eq hk 32 dX2_shiftAll_17 (kt := fun h17 => ?_) (kf := fun h17 => ?_) 
        · skip
          refine z_iconst (z := ((0 : Nat) : Int)) hk dX2_shiftAll_32 (kk := ?_)
          exact J33 0 (by rcases hw with ⟨h1, h2⟩ | ⟨h1, h2⟩ <;> first | omega | (rw [h2, hm]) | (rw [h2]; omega))
        · skip
          refine z_iload_n hk dX2_shiftAll_20 0 rfl (kk := ?_)
          refine z_aload_n hk dX2_shiftAll_21 1 rfl (kk := ?_)
          refine z_get hk in_X2 0 0 q1280 dX2_shiftAll_22 rfl hF0 (kk := ?_)
          refine z_bipush (z := ((55 : Nat) : Int)) hk dX2_shiftAll_25 (kk := ?_)
          refine z_iald (i := 55) hk 1 dX2_shiftAll_27 rfl (kk := ?_) 
          have hf27 := hb 55
          refine z_irem (a := i) (b := st 55) hk dX2_shiftAll_28 (kk := ?_) 
          refine z_goto hk 33 dX2_shiftAll_29 (kk := ?_)
          exact J33 (i % (st 55)) (by rcases hw with ⟨h1, h2⟩ | ⟨h1, h2⟩ <;> first | omega | (rw [h2, hm]) | (rw [h2]; omega))
  exact L2 (n - 0 + 1) 0 oth (by first | assumption | omega) (by exact (pP_0 _ _ _).symm) (Nat.lt_succ_self _)

set_option maxHeartbeats 600000 in
theorem ct_X2_layKeyOrder (l_ : Launch) (G : zG) (o : Nat) (fs : List Value) (aS : Nat) (aR : Nat) (st : Nat → Nat) (m : Nat) (k : Nat → Nat) (oc : Nat → Nat) (hF0 : fs[0]? = some (.ref aS)) (hF8 : fs[8]? = some (.ref aR)) (hm : st 55 = m) (hm6 : 1 ≤ m ∧ m ≤ 6) (hkk : ∀ j, j < m → st (49 + j) = k j ∧ k j < 16) (hb : ∀ j, st j < 100) :
    Ct l_ G yX2_layKeyOrder cX2_layKeyOrder 4 none 1 0 0 [.ref o] [(o, zO 2 fs), (aS, zI G 819 st), (aR, zI G 6 oc)]
      (fun u : Nat → Nat => none) (fun u : Nat → Nat => ∀ p, p < m → u p = kO k m p) (fun u : Nat → Nat => [(o, zO 2 fs), (aS, zI G 819 st), (aR, zI G 6 u)]) := by
  refine Ct.of (by decide) (Nat.le_of_ble_eq_true rfl) ?_
  intro κ hl_ hG_ hk hR_
  subst hl_
  subst hG_
  show Z κ 0 [(0, .ref o)] [] [(o, zO 2 fs), (aS, zI (kG κ) 819 st), (aR, zI (kG κ) 6 oc)] 0 0
  refine z_iconst (z := ((0 : Nat) : Int)) hk dX2_layKeyOrder_0 (kk := ?_)
  refine z_istore_n hk [(1, .int (iZ ((0 : Nat) : Int))), (0, .ref o)] dX2_layKeyOrder_1 (kk := ?_)
  have L2 : ∀ (f_ : Nat) (c : Nat) (u : Nat → Nat), (c ≤ m) → (∀ c0, c0 < c → u (rk k m c0) = c0) → m - c < f_ → Z κ 2 [(1, .int (iZ ((c : Nat) : Int))), (0, .ref o)] [] [(o, zO 2 fs), (aS, zI (kG κ) 819 st), (aR, zI (kG κ) 6 u)] 0 0 := by
    intro f_
    induction f_ with
    | zero => intro c u hc hu hm_; exact absurd hm_ (Nat.not_lt_zero _)
    | succ f_ ih2 =>
      intro c u hc hu hm_
      refine z_iload_n hk dX2_layKeyOrder_2 0 rfl (kk := ?_)
      refine z_aload_n hk dX2_layKeyOrder_3 1 rfl (kk := ?_)
      refine z_get hk in_X2 0 0 q1280 dX2_layKeyOrder_4 rfl hF0 (kk := ?_)
      refine z_bipush (z := ((55 : Nat) : Int)) hk dX2_layKeyOrder_7 (kk := ?_)
      refine z_iald (i := 55) hk 1 dX2_layKeyOrder_9 rfl (kk := ?_) 
      have hf9 := hb 55
      refine z_icmp_ge hk 102 dX2_layKeyOrder_10 (kt := fun h10 => ?_) (kf := fun h10 => ?_) 
      · skip
        exact z_vret hk hR_ u dX2_layKeyOrder_102 rfl rfl (by exact kO_fill (fun c0 h0 => hu c0 (by omega))) (zSub.ix [0, 1, 2] rfl)
      · skip
        refine z_iconst (z := ((0 : Nat) : Int)) hk dX2_layKeyOrder_13 (kk := ?_)
        refine z_istore_n hk [(2, .int (iZ ((0 : Nat) : Int))), (1, .int (iZ ((c : Nat) : Int))), (0, .ref o)] dX2_layKeyOrder_14 (kk := ?_)
        refine z_iconst (z := ((0 : Nat) : Int)) hk dX2_layKeyOrder_15 (kk := ?_)
        refine z_istore_n hk [(3, .int (iZ ((0 : Nat) : Int))), (2, .int (iZ ((0 : Nat) : Int))), (1, .int (iZ ((c : Nat) : Int))), (0, .ref o)] dX2_layKeyOrder_16 (kk := ?_)
        have L17 : ∀ (f_ : Nat) (j : Nat) (r : Nat), (j ≤ m) → (r = pC (fun j => decide (k j < k c ∨ (k j = k c ∧ j < c))) j) → m - j < f_ → Z κ 17 [(3, .int (iZ ((j : Nat) : Int))), (2, .int (iZ ((r : Nat) : Int))), (1, .int (iZ ((c : Nat) : Int))), (0, .ref o)] [] [(o, zO 2 fs), (aS, zI (kG κ) 819 st), (aR, zI (kG κ) 6 u)] 0 0 := by
          intro f_
          induction f_ with
          | zero => intro j r hj hr hm_; exact absurd hm_ (Nat.not_lt_zero _)
          | succ f_ ih17 =>
            intro j r hj hr hm_
            refine z_iload_n hk dX2_layKeyOrder_17 0 rfl (kk := ?_)
            refine z_aload_n hk dX2_layKeyOrder_18 3 rfl (kk := ?_)
            refine z_get hk in_X2 0 0 q1280 dX2_layKeyOrder_19 rfl hF0 (kk := ?_)
            refine z_bipush (z := ((55 : Nat) : Int)) hk dX2_layKeyOrder_22 (kk := ?_)
            refine z_iald (i := 55) hk 1 dX2_layKeyOrder_24 rfl (kk := ?_) 
            have hf24 := hb 55
            refine z_icmp_ge hk 89 dX2_layKeyOrder_25 (kt := fun h25 => ?_) (kf := fun h25 => ?_) 
            · skip
              have hrk : r = rk k m c := by rw [hr, show j = m from by omega]; rfl
              have grk := rk_lt (key := k) (m := m) (c := c) (by omega)
              refine z_aload_n hk dX2_layKeyOrder_89 3 rfl (kk := ?_)
              refine z_get hk in_X2 0 8 q1288 dX2_layKeyOrder_90 rfl hF8 (kk := ?_)
              refine z_iload_n hk dX2_layKeyOrder_93 1 rfl (kk := ?_)
              refine z_iload_n hk dX2_layKeyOrder_94 2 rfl (kk := ?_)
              refine z_iast (i := r) hk 2 [(o, zO 2 fs), (aS, zI (kG κ) 819 st), (aR, zI (kG κ) 6 (va_up u r c))] dX2_layKeyOrder_95 rfl  (kk := ?_) 
              refine z_iinc hk (z' := ((c + 1 : Nat) : Int)) [(1, .int (iZ ((c + 1 : Nat) : Int))), (3, .int (iZ ((j : Nat) : Int))), (2, .int (iZ ((r : Nat) : Int))), (0, .ref o)] dX2_layKeyOrder_96 2 rfl (kk := ?_)
              refine z_goto hk 2 dX2_layKeyOrder_99 (kk := ?_)
              refine z_lvs [0, 3] (lv' := [(1, .int (iZ ((c + 1 : Nat) : Int))), (0, .ref o)]) (kk := ?_)
              exact ih2  (c + 1) (va_up u r c) (by first | assumption | omega) (by intro c0 h0; exact if e : c0 = c then (by rw [e, ← hrk, va_up_self]) else (by rw [va_up_ne _ _ (by rw [hrk]; exact fun q => e (rk_inj (by omega) (by omega) q))]; exact hu c0 (by omega))) (by omega)
            · skip
              refine z_iload_n hk dX2_layKeyOrder_28 1 rfl (kk := ?_)
              refine z_aload_n hk dX2_layKeyOrder_29 3 rfl (kk := ?_)
              refine z_get hk in_X2 0 0 q1280 dX2_layKeyOrder_30 rfl hF0 (kk := ?_)
              refine z_bipush (z := ((49 : Nat) : Int)) hk dX2_layKeyOrder_33 (kk := ?_)
              refine z_iload_n hk dX2_layKeyOrder_35 0 rfl (kk := ?_)
              refine z_iadd (z := ((49 + j : Nat) : Int)) hk dX2_layKeyOrder_36 (Int.natCast_add _ _).symm (kk := ?_)
              refine z_iald (i := 49 + j) hk 1 dX2_layKeyOrder_37 rfl (kk := ?_) 
              have hf37 := hb (49 + j)
              refine z_aload_n hk dX2_layKeyOrder_38 3 rfl (kk := ?_)
              refine z_get hk in_X2 0 0 q1280 dX2_layKeyOrder_39 rfl hF0 (kk := ?_)
              refine z_bipush (z := ((49 : Nat) : Int)) hk dX2_layKeyOrder_42 (kk := ?_)
              refine z_iload_n hk dX2_layKeyOrder_44 2 rfl (kk := ?_)
              refine z_iadd (z := ((49 + c : Nat) : Int)) hk dX2_layKeyOrder_45 (Int.natCast_add _ _).symm (kk := ?_)
              refine z_iald (i := 49 + c) hk 1 dX2_layKeyOrder_46 rfl (kk := ?_) 
              have hf46 := hb (49 + c)
              have g1 := hkk j (by omega)
              have g2 := hkk c (by omega)
              refine z_icmp_lt hk 76 dX2_layKeyOrder_47 (kt := fun h47 => ?_) (kf := fun h47 => ?_) 
              · skip
                refine z_iconst (z := ((1 : Nat) : Int)) hk dX2_layKeyOrder_76 (kk := ?_)
                refine z_goto hk 81 dX2_layKeyOrder_77 (kk := ?_)
                refine z_iadd (z := ((r + 1 : Nat) : Int)) hk dX2_layKeyOrder_81 (Int.natCast_add _ _).symm (kk := ?_)
                refine z_istore_n hk [(2, .int (iZ ((r + 1 : Nat) : Int))), (3, .int (iZ ((j : Nat) : Int))), (1, .int (iZ ((c : Nat) : Int))), (0, .ref o)] dX2_layKeyOrder_82 (kk := ?_)
                refine z_iinc hk (z' := ((j + 1 : Nat) : Int)) [(3, .int (iZ ((j + 1 : Nat) : Int))), (2, .int (iZ ((r + 1 : Nat) : Int))), (1, .int (iZ ((c : Nat) : Int))), (0, .ref o)] dX2_layKeyOrder_83 1 rfl (kk := ?_)
                refine z_goto hk 17 dX2_layKeyOrder_86 (kk := ?_)
                exact ih17  (j + 1) (r + 1) (by first | assumption | omega) (by first | exact pC_yes hr (decide_eq_true (by omega)) | exact pC_no hr (decide_eq_false (by omega))) (by omega)
              · skip
                refine z_aload_n hk dX2_layKeyOrder_50 3 rfl (kk := ?_)
                refine z_get hk in_X2 0 0 q1280 dX2_layKeyOrder_51 rfl hF0 (kk := ?_)
                refine z_bipush (z := ((49 : Nat) : Int)) hk dX2_layKeyOrder_54 (kk := ?_)
                refine z_iload_n hk dX2_layKeyOrder_56 0 rfl (kk := ?_)
                refine z_iadd (z := ((49 + j : Nat) : Int)) hk dX2_layKeyOrder_57 (Int.natCast_add _ _).symm (kk := ?_)
                refine z_iald (i := 49 + j) hk 1 dX2_layKeyOrder_58 rfl (kk := ?_) 
                have hf58 := hb (49 + j)
                refine z_aload_n hk dX2_layKeyOrder_59 3 rfl (kk := ?_)
                refine z_get hk in_X2 0 0 q1280 dX2_layKeyOrder_60 rfl hF0 (kk := ?_)
                refine z_bipush (z := ((49 : Nat) : Int)) hk dX2_layKeyOrder_63 (kk := ?_)
                refine z_iload_n hk dX2_layKeyOrder_65 2 rfl (kk := ?_)
                refine z_iadd (z := ((49 + c : Nat) : Int)) hk dX2_layKeyOrder_66 (Int.natCast_add _ _).symm (kk := ?_)
                refine z_iald (i := 49 + c) hk 1 dX2_layKeyOrder_67 rfl (kk := ?_) 
                have hf67 := hb (49 + c)
                refine z_icmp_ne hk 80 dX2_layKeyOrder_68 (kt := fun h68 => ?_) (kf := fun h68 => ?_) 
                · skip
                  refine z_iconst (z := ((0 : Nat) : Int)) hk dX2_layKeyOrder_80 (kk := ?_)
                  refine z_iadd (z := ((r : Nat) : Int)) hk dX2_layKeyOrder_81 (by omega) (kk := ?_)
                  refine z_istore_n hk [(2, .int (iZ ((r : Nat) : Int))), (3, .int (iZ ((j : Nat) : Int))), (1, .int (iZ ((c : Nat) : Int))), (0, .ref o)] dX2_layKeyOrder_82 (kk := ?_)
                  refine z_iinc hk (z' := ((j + 1 : Nat) : Int)) [(3, .int (iZ ((j + 1 : Nat) : Int))), (2, .int (iZ ((r : Nat) : Int))), (1, .int (iZ ((c : Nat) : Int))), (0, .ref o)] dX2_layKeyOrder_83 1 rfl (kk := ?_)
                  refine z_goto hk 17 dX2_layKeyOrder_86 (kk := ?_)
                  exact ih17  (j + 1) r (by first | assumption | omega) (by first | exact pC_yes hr (decide_eq_true (by omega)) | exact pC_no hr (decide_eq_false (by omega))) (by omega)
                · skip
                  refine z_iload_n hk dX2_layKeyOrder_71 0 rfl (kk := ?_)
                  refine z_iload_n hk dX2_layKeyOrder_72 2 rfl (kk := ?_)
                  refine z_icmp_ge hk 80 dX2_layKeyOrder_73 (kt := fun h73 => ?_) (kf := fun h73 => ?_) 
                  · skip
                    refine z_iconst (z := ((0 : Nat) : Int)) hk dX2_layKeyOrder_80 (kk := ?_)
                    refine z_iadd (z := ((r : Nat) : Int)) hk dX2_layKeyOrder_81 (by omega) (kk := ?_)
                    refine z_istore_n hk [(2, .int (iZ ((r : Nat) : Int))), (3, .int (iZ ((j : Nat) : Int))), (1, .int (iZ ((c : Nat) : Int))), (0, .ref o)] dX2_layKeyOrder_82 (kk := ?_)
                    refine z_iinc hk (z' := ((j + 1 : Nat) : Int)) [(3, .int (iZ ((j + 1 : Nat) : Int))), (2, .int (iZ ((r : Nat) : Int))), (1, .int (iZ ((c : Nat) : Int))), (0, .ref o)] dX2_layKeyOrder_83 1 rfl (kk := ?_)
                    refine z_goto hk 17 dX2_layKeyOrder_86 (kk := ?_)
                    exact ih17  (j + 1) r (by first | assumption | omega) (by first | exact pC_yes hr (decide_eq_true (by omega)) | exact pC_no hr (decide_eq_false (by omega))) (by omega)
                  · skip
                    refine z_iconst (z := ((1 : Nat) : Int)) hk dX2_layKeyOrder_76 (kk := ?_)
                    refine z_goto hk 81 dX2_layKeyOrder_77 (kk := ?_)
                    refine z_iadd (z := ((r + 1 : Nat) : Int)) hk dX2_layKeyOrder_81 (Int.natCast_add _ _).symm (kk := ?_)
                    refine z_istore_n hk [(2, .int (iZ ((r + 1 : Nat) : Int))), (3, .int (iZ ((j : Nat) : Int))), (1, .int (iZ ((c : Nat) : Int))), (0, .ref o)] dX2_layKeyOrder_82 (kk := ?_)
                    refine z_iinc hk (z' := ((j + 1 : Nat) : Int)) [(3, .int (iZ ((j + 1 : Nat) : Int))), (2, .int (iZ ((r + 1 : Nat) : Int))), (1, .int (iZ ((c : Nat) : Int))), (0, .ref o)] dX2_layKeyOrder_83 1 rfl (kk := ?_)
                    refine z_goto hk 17 dX2_layKeyOrder_86 (kk := ?_)
                    exact ih17  (j + 1) (r + 1) (by first | assumption | omega) (by first | exact pC_yes hr (decide_eq_true (by omega)) | exact pC_no hr (decide_eq_false (by omega))) (by omega)
        exact L17 (m - 0 + 1) 0 0 (by first | assumption | omega) (by rfl) (Nat.lt_succ_self _)
  exact L2 (m - 0 + 1) 0 oc (by first | assumption | omega) (by intro c0 h; exact absurd h (Nat.not_lt_zero _)) (Nat.lt_succ_self _)

set_option maxHeartbeats 600000 in
theorem ct_X2_layColumns (l_ : Launch) (G : zG) (o : Nat) (fs : List Value) (aS : Nat) (aR : Nat) (aF : Nat) (st : Nat → Nat) (n : Nat) (oc : Nat → Nat) (od : Nat → Nat) (nc : Nat) (frm : Nat → Nat) (hF0 : fs[0]? = some (.ref aS)) (hF8 : fs[8]? = some (.ref aR)) (hF9 : fs[9]? = some (.ref aF)) (hn : st 48 = n) (hn48 : n ≤ 48) (hc6 : 1 ≤ nc ∧ nc ≤ 6) (ho : ∀ p, p < nc → oc p = od p) (hO : OrdP od nc) :
    Ct l_ G yX2_layColumns cX2_layColumns 5 none 2 0 0 [.ref o, .int (iZ ((nc : Nat) : Int))] [(o, zO 2 fs), (aS, zI G 819 st), (aR, zI G 6 oc), (aF, zI G 48 frm)]
      (fun u : Nat → Nat => none) (fun u : Nat → Nat => u = pL (clL od nc n nc) frm) (fun u : Nat → Nat => [(o, zO 2 fs), (aS, zI G 819 st), (aR, zI G 6 oc), (aF, zI G 48 u)]) := by
  refine Ct.of (by decide) (Nat.le_of_ble_eq_true rfl) ?_
  intro κ hl_ hG_ hk hR_
  subst hl_
  subst hG_
  show Z κ 0 [(0, .ref o), (1, .int (iZ ((nc : Nat) : Int)))] [] [(o, zO 2 fs), (aS, zI (kG κ) 819 st), (aR, zI (kG κ) 6 oc), (aF, zI (kG κ) 48 frm)] 0 0
  refine z_iconst (z := ((0 : Nat) : Int)) hk dX2_layColumns_0 (kk := ?_)
  refine z_istore_n hk [(2, .int (iZ ((0 : Nat) : Int))), (0, .ref o), (1, .int (iZ ((nc : Nat) : Int)))] dX2_layColumns_1 (kk := ?_)
  refine z_iconst (z := ((0 : Nat) : Int)) hk dX2_layColumns_2 (kk := ?_)
  refine z_istore_n hk [(3, .int (iZ ((0 : Nat) : Int))), (2, .int (iZ ((0 : Nat) : Int))), (0, .ref o), (1, .int (iZ ((nc : Nat) : Int)))] dX2_layColumns_3 (kk := ?_)
  have L4 : ∀ (f_ : Nat) (c : Nat) (at_ : Nat) (f : Nat → Nat), (c ≤ nc) → (at_ = (clL od nc n c).length) → (f = pL (clL od nc n c) frm) → nc - c < f_ → Z κ 4 [(3, .int (iZ ((c : Nat) : Int))), (2, .int (iZ ((at_ : Nat) : Int))), (0, .ref o), (1, .int (iZ ((nc : Nat) : Int)))] [] [(o, zO 2 fs), (aS, zI (kG κ) 819 st), (aR, zI (kG κ) 6 oc), (aF, zI (kG κ) 48 f)] 0 0 := by
    intro f_
    induction f_ with
    | zero => intro c at_ f hc hat hf hm_; exact absurd hm_ (Nat.not_lt_zero _)
    | succ f_ ih4 =>
      intro c at_ f hc hat hf hm_
      refine z_iload_n hk dX2_layColumns_4 0 rfl (kk := ?_)
      refine z_iload_n hk dX2_layColumns_5 3 rfl (kk := ?_)
      refine z_icmp_ge hk 52 dX2_layColumns_6 (kt := fun h6 => ?_) (kf := fun h6 => ?_) 
      · skip
        exact z_vret hk hR_ f dX2_layColumns_52 rfl rfl (by rw [hf, show c = nc from by omega]) (zSub.ix [0, 1, 2, 3] rfl)
      · skip
        have go := hO.1 c (by omega)
        have go2 := ho c (by omega)
        refine z_aload_n hk dX2_layColumns_9 2 rfl (kk := ?_)
        refine z_get hk in_X2 0 8 q1288 dX2_layColumns_10 rfl hF8 (kk := ?_)
        refine z_iload_n hk dX2_layColumns_13 0 rfl (kk := ?_)
        refine z_iald (i := c) hk 2 dX2_layColumns_14 rfl (kk := ?_) 
        refine z_istore hk [(4, .int (iZ ((oc c : Nat) : Int))), (3, .int (iZ ((c : Nat) : Int))), (2, .int (iZ ((at_ : Nat) : Int))), (0, .ref o), (1, .int (iZ ((nc : Nat) : Int)))] dX2_layColumns_15 (kk := ?_)
        have L17 : ∀ (f_ : Nat) (i : Nat) (at_ : Nat) (f : Nat → Nat), (∃ (L : List Nat) (g : Nat), L ++ stp nc n g i = clL od nc n (c + 1) ∧ f = pL L frm ∧ at_ = L.length ∧ n - i ≤ g) → (i < 100) → n - i < f_ → Z κ 17 [(4, .int (iZ ((i : Nat) : Int))), (3, .int (iZ ((c : Nat) : Int))), (2, .int (iZ ((at_ : Nat) : Int))), (0, .ref o), (1, .int (iZ ((nc : Nat) : Int)))] [] [(o, zO 2 fs), (aS, zI (kG κ) 819 st), (aR, zI (kG κ) 6 oc), (aF, zI (kG κ) 48 f)] 0 0 := by
          intro f_
          induction f_ with
          | zero => intro i at_ f hL hib hm_; exact absurd hm_ (Nat.not_lt_zero _)
          | succ f_ ih17 =>
            intro i at_ f hL hib hm_
            obtain ⟨L, g, gL, hf2, hat2, hg⟩ := hL
            refine z_iload hk dX2_layColumns_17 0 rfl (kk := ?_)
            refine z_aload_n hk dX2_layColumns_19 3 rfl (kk := ?_)
            refine z_callV hk [] 0 [(aR, zI (kG κ) 6 oc), (aF, zI (kG κ) 48 f)] (ct_X2_many (kL κ) (kG κ) o fs aS st n hF0 (by first | assumption | omega)) q1352 q1354 qs30 q66 q1355 (zSub.ix [0, 1, 2, 3] rfl) 0 2 rfl dX2_layColumns_20 rfl (kk := fun _ _ => ?_)
            show Z κ 23 [(4, .int (iZ ((i : Nat) : Int))), (3, .int (iZ ((c : Nat) : Int))), (2, .int (iZ ((at_ : Nat) : Int))), (0, .ref o), (1, .int (iZ ((nc : Nat) : Int)))] [.int (iZ ((n : Nat) : Int)), .int (iZ ((i : Nat) : Int))] [(o, zO 2 fs), (aS, zI (kG κ) 819 st), (aR, zI (kG κ) 6 oc), (aF, zI (kG κ) 48 f)] 0 0
            refine z_icmp_ge hk 46 dX2_layColumns_23 (kt := fun h23 => ?_) (kf := fun h23 => ?_) 
            · skip
              have gL2 : clL od nc n (c + 1) = L := by rw [← gL, stp_stop (by omega), List.append_nil]
              refine z_iinc hk (z' := ((c + 1 : Nat) : Int)) [(3, .int (iZ ((c + 1 : Nat) : Int))), (4, .int (iZ ((i : Nat) : Int))), (2, .int (iZ ((at_ : Nat) : Int))), (0, .ref o), (1, .int (iZ ((nc : Nat) : Int)))] dX2_layColumns_46 1 rfl (kk := ?_)
              refine z_goto hk 4 dX2_layColumns_49 (kk := ?_)
              refine z_lvs [0, 2, 3, 4] (lv' := [(3, .int (iZ ((c + 1 : Nat) : Int))), (2, .int (iZ ((at_ : Nat) : Int))), (0, .ref o), (1, .int (iZ ((nc : Nat) : Int)))]) (kk := ?_)
              exact ih4  (c + 1) at_ f (by first | assumption | omega) (by rw [hat2, gL2]) (by rw [hf2, gL2]) (by omega)
            · skip
              obtain ⟨g2, eg⟩ : ∃ g2, g = g2 + 1 := ⟨g - 1, by omega⟩
              rw [eg, stp_go (by omega)] at gL
              have gl := congrArg List.length gL
              rw [List.length_append, List.length_cons] at gl
              have gl2 := clL_len_le (ord := od) (n := n) (show c + 1 ≤ nc by omega)
              rw [clL_len (by omega) hO] at gl2
              refine z_aload_n hk dX2_layColumns_26 3 rfl (kk := ?_)
              refine z_get hk in_X2 0 9 q1289 dX2_layColumns_27 rfl hF9 (kk := ?_)
              refine z_iload_n hk dX2_layColumns_30 2 rfl (kk := ?_)
              refine z_iload hk dX2_layColumns_31 0 rfl (kk := ?_)
              refine z_iast (i := at_) hk 3 [(o, zO 2 fs), (aS, zI (kG κ) 819 st), (aR, zI (kG κ) 6 oc), (aF, zI (kG κ) 48 (va_up f at_ i))] dX2_layColumns_33 rfl  (kk := ?_) 
              refine z_iinc hk (z' := ((at_ + 1 : Nat) : Int)) [(2, .int (iZ ((at_ + 1 : Nat) : Int))), (4, .int (iZ ((i : Nat) : Int))), (3, .int (iZ ((c : Nat) : Int))), (0, .ref o), (1, .int (iZ ((nc : Nat) : Int)))] dX2_layColumns_34 2 rfl (kk := ?_)
              refine z_iload hk dX2_layColumns_37 1 rfl (kk := ?_)
              refine z_iload_n hk dX2_layColumns_39 4 rfl (kk := ?_)
              refine z_iadd (z := ((i + nc : Nat) : Int)) hk dX2_layColumns_40 (Int.natCast_add _ _).symm (kk := ?_)
              refine z_istore hk [(4, .int (iZ ((i + nc : Nat) : Int))), (2, .int (iZ ((at_ + 1 : Nat) : Int))), (3, .int (iZ ((c : Nat) : Int))), (0, .ref o), (1, .int (iZ ((nc : Nat) : Int)))] dX2_layColumns_41 (kk := ?_)
              refine z_goto hk 17 dX2_layColumns_43 (kk := ?_)
              refine z_lvs [0, 2, 1, 3, 4] (lv' := [(4, .int (iZ ((i + nc : Nat) : Int))), (3, .int (iZ ((c : Nat) : Int))), (2, .int (iZ ((at_ + 1 : Nat) : Int))), (0, .ref o), (1, .int (iZ ((nc : Nat) : Int)))]) (kk := ?_)
              exact ih17  (i + nc) (at_ + 1) (va_up f at_ i) (by exact ⟨L ++ [i], g2, by rw [List.append_assoc]; exact gL, by rw [hf2]; exact pL_up hat2, by rw [List.length_append, hat2]; rfl, by omega⟩) (by first | assumption | omega) (by omega)
        exact L17 (n - (oc c) + 1) (oc c) at_ f (by exact ⟨clL od nc n c, n, by rw [ho c (by omega)]; rfl, hf, hat, by omega⟩) (by have := hO.1 c (by omega); rw [ho c (by omega)]; omega) (Nat.lt_succ_self _)
  exact L4 (nc - 0 + 1) 0 0 frm (by first | assumption | omega) (by rfl) (by exact (pL_nil _).symm) (Nat.lt_succ_self _)

set_option maxHeartbeats 600000 in
theorem ct_X2_layRails (l_ : Launch) (G : zG) (o : Nat) (fs : List Value) (aS : Nat) (aF : Nat) (st : Nat → Nat) (n : Nat) (nr : Nat) (frm : Nat → Nat) (hF0 : fs[0]? = some (.ref aS)) (hF9 : fs[9]? = some (.ref aF)) (hn : st 48 = n) (hn48 : n ≤ 48) (hr7 : 2 ≤ nr ∧ nr ≤ 7) :
    Ct l_ G yX2_layRails cX2_layRails 7 none 2 0 0 [.ref o, .int (iZ ((nr : Nat) : Int))] [(o, zO 2 fs), (aS, zI G 819 st), (aF, zI G 48 frm)]
      (fun u : Nat → Nat => none) (fun u : Nat → Nat => u = pL (rlL nr n nr) frm) (fun u : Nat → Nat => [(o, zO 2 fs), (aS, zI G 819 st), (aF, zI G 48 u)]) := by
  refine Ct.of (by decide) (Nat.le_of_ble_eq_true rfl) ?_
  intro κ hl_ hG_ hk hR_
  subst hl_
  subst hG_
  show Z κ 0 [(0, .ref o), (1, .int (iZ ((nr : Nat) : Int)))] [] [(o, zO 2 fs), (aS, zI (kG κ) 819 st), (aF, zI (kG κ) 48 frm)] 0 0
  refine z_iconst (z := ((0 : Nat) : Int)) hk dX2_layRails_0 (kk := ?_)
  refine z_istore_n hk [(2, .int (iZ ((0 : Nat) : Int))), (0, .ref o), (1, .int (iZ ((nr : Nat) : Int)))] dX2_layRails_1 (kk := ?_)
  refine z_iconst (z := ((2 : Nat) : Int)) hk dX2_layRails_2 (kk := ?_)
  refine z_iload_n hk dX2_layRails_3 2 rfl (kk := ?_)
  refine z_iconst (z := ((1 : Nat) : Int)) hk dX2_layRails_4 (kk := ?_)
  refine z_isub (z := ((nr - 1 : Nat) : Int)) hk dX2_layRails_5 (by omega) (kk := ?_)
  refine z_imul (z := ((2 * (nr - 1) : Nat) : Int)) hk dX2_layRails_6 (by omega) (kk := ?_)
  refine z_istore_n hk [(3, .int (iZ ((2 * (nr - 1) : Nat) : Int))), (2, .int (iZ ((0 : Nat) : Int))), (0, .ref o), (1, .int (iZ ((nr : Nat) : Int)))] dX2_layRails_7 (kk := ?_)
  refine z_iconst (z := ((0 : Nat) : Int)) hk dX2_layRails_8 (kk := ?_)
  refine z_istore hk [(4, .int (iZ ((0 : Nat) : Int))), (3, .int (iZ ((2 * (nr - 1) : Nat) : Int))), (2, .int (iZ ((0 : Nat) : Int))), (0, .ref o), (1, .int (iZ ((nr : Nat) : Int)))] dX2_layRails_9 (kk := ?_)
  have L11 : ∀ (f_ : Nat) (r : Nat) (at_ : Nat) (f : Nat → Nat), (r ≤ nr) → (at_ = (rlL nr n r).length) → (f = pL (rlL nr n r) frm) → nr - r < f_ → Z κ 11 [(4, .int (iZ ((r : Nat) : Int))), (3, .int (iZ ((2 * (nr - 1) : Nat) : Int))), (2, .int (iZ ((at_ : Nat) : Int))), (0, .ref o), (1, .int (iZ ((nr : Nat) : Int)))] [] [(o, zO 2 fs), (aS, zI (kG κ) 819 st), (aF, zI (kG κ) 48 f)] 0 0 := by
    intro f_
    induction f_ with
    | zero => intro r at_ f hrr hat hf hm_; exact absurd hm_ (Nat.not_lt_zero _)
    | succ f_ ih11 =>
      intro r at_ f hrr hat hf hm_
      refine z_iload hk dX2_layRails_11 0 rfl (kk := ?_)
      refine z_iload_n hk dX2_layRails_13 4 rfl (kk := ?_)
      refine z_icmp_ge hk 78 dX2_layRails_14 (kt := fun h14 => ?_) (kf := fun h14 => ?_) 
      · skip
        exact z_vret hk hR_ f dX2_layRails_78 rfl rfl (by rw [hf, show r = nr from by omega]) (zSub.ix [0, 1, 2] rfl)
      · skip
        refine z_iconst (z := ((0 : Nat) : Int)) hk dX2_layRails_17 (kk := ?_)
        refine z_istore hk [(5, .int (iZ ((0 : Nat) : Int))), (4, .int (iZ ((r : Nat) : Int))), (3, .int (iZ ((2 * (nr - 1) : Nat) : Int))), (2, .int (iZ ((at_ : Nat) : Int))), (0, .ref o), (1, .int (iZ ((nr : Nat) : Int)))] dX2_layRails_18 (kk := ?_)
        have L20 : ∀ (f_ : Nat) (i : Nat) (at_ : Nat) (f : Nat → Nat), (i ≤ n) → (at_ = (rlI nr n r i).length) → (f = pL (rlI nr n r i) frm) → n - i < f_ → Z κ 20 [(5, .int (iZ ((i : Nat) : Int))), (4, .int (iZ ((r : Nat) : Int))), (3, .int (iZ ((2 * (nr - 1) : Nat) : Int))), (2, .int (iZ ((at_ : Nat) : Int))), (0, .ref o), (1, .int (iZ ((nr : Nat) : Int)))] [] [(o, zO 2 fs), (aS, zI (kG κ) 819 st), (aF, zI (kG κ) 48 f)] 0 0 := by
          intro f_
          induction f_ with
          | zero => intro i at_ f hi hat hf hm_; exact absurd hm_ (Nat.not_lt_zero _)
          | succ f_ ih20 =>
            intro i at_ f hi hat hf hm_
            refine z_iload hk dX2_layRails_20 0 rfl (kk := ?_)
            refine z_aload_n hk dX2_layRails_22 4 rfl (kk := ?_)
            refine z_callV hk [] 0 [(aF, zI (kG κ) 48 f)] (ct_X2_many (kL κ) (kG κ) o fs aS st n hF0 (by first | assumption | omega)) q1352 q1354 qs30 q66 q1355 (zSub.ix [0, 1, 2] rfl) 0 2 rfl dX2_layRails_23 rfl (kk := fun _ _ => ?_)
            show Z κ 26 [(5, .int (iZ ((i : Nat) : Int))), (4, .int (iZ ((r : Nat) : Int))), (3, .int (iZ ((2 * (nr - 1) : Nat) : Int))), (2, .int (iZ ((at_ : Nat) : Int))), (0, .ref o), (1, .int (iZ ((nr : Nat) : Int)))] [.int (iZ ((n : Nat) : Int)), .int (iZ ((i : Nat) : Int))] [(o, zO 2 fs), (aS, zI (kG κ) 819 st), (aF, zI (kG κ) 48 f)] 0 0
            refine z_icmp_ge hk 72 dX2_layRails_26 (kt := fun h26 => ?_) (kf := fun h26 => ?_) 
            · skip
              refine z_iinc hk (z' := ((r + 1 : Nat) : Int)) [(4, .int (iZ ((r + 1 : Nat) : Int))), (5, .int (iZ ((i : Nat) : Int))), (3, .int (iZ ((2 * (nr - 1) : Nat) : Int))), (2, .int (iZ ((at_ : Nat) : Int))), (0, .ref o), (1, .int (iZ ((nr : Nat) : Int)))] dX2_layRails_72 1 rfl (kk := ?_)
              refine z_goto hk 11 dX2_layRails_75 (kk := ?_)
              refine z_lvs [0, 2, 3, 4, 5] (lv' := [(4, .int (iZ ((r + 1 : Nat) : Int))), (3, .int (iZ ((2 * (nr - 1) : Nat) : Int))), (2, .int (iZ ((at_ : Nat) : Int))), (0, .ref o), (1, .int (iZ ((nr : Nat) : Int)))]) (kk := ?_)
              exact ih11  (r + 1) at_ f (by first | assumption | omega) (by rw [← rlI_end, hat, show i = n from by omega]) (by rw [← rlI_end, hf, show i = n from by omega]) (by omega)
            · skip
              refine z_iload hk dX2_layRails_29 0 rfl (kk := ?_)
              refine z_iload_n hk dX2_layRails_31 2 rfl (kk := ?_)
              refine z_irem (a := i) (b := 2 * (nr - 1)) hk dX2_layRails_32 (kk := ?_) 
              obtain ⟨dn, edn⟩ : ∃ x_ : Nat, x_ = i % (2 * (nr - 1)) := ⟨_, rfl⟩
              refine z_topN dn (by rw [edn]) ?_
              have gdn : dn < 2 * (nr - 1) := by rw [edn]; exact Nat.mod_lt _ (by omega)
              refine z_istore hk [(6, .int (iZ ((dn : Nat) : Int))), (5, .int (iZ ((i : Nat) : Int))), (4, .int (iZ ((r : Nat) : Int))), (3, .int (iZ ((2 * (nr - 1) : Nat) : Int))), (2, .int (iZ ((at_ : Nat) : Int))), (0, .ref o), (1, .int (iZ ((nr : Nat) : Int)))] dX2_layRails_33 (kk := ?_)
              have J50 : ∀ (z : Nat), (z = zig nr i) → Z κ 50 [(6, .int (iZ ((dn : Nat) : Int))), (5, .int (iZ ((i : Nat) : Int))), (4, .int (iZ ((r : Nat) : Int))), (3, .int (iZ ((2 * (nr - 1) : Nat) : Int))), (2, .int (iZ ((at_ : Nat) : Int))), (0, .ref o), (1, .int (iZ ((nr : Nat) : Int)))] [.int (iZ ((z : Nat) : Int))] [(o, zO 2 fs), (aS, zI (kG κ) 819 st), (aF, zI (kG κ) 48 f)] 0 0 := by
                intro z hz
                have gz := zig_lt (r := nr) (p := i) (by omega)
                refine z_iload hk dX2_layRails_50 2 rfl (kk := ?_)
                refine z_icmp_ne hk 66 dX2_layRails_52 (kt := fun h52 => ?_) (kf := fun h52 => ?_) 
                · skip
                  refine z_iinc hk (z' := ((i + 1 : Nat) : Int)) [(5, .int (iZ ((i + 1 : Nat) : Int))), (6, .int (iZ ((dn : Nat) : Int))), (4, .int (iZ ((r : Nat) : Int))), (3, .int (iZ ((2 * (nr - 1) : Nat) : Int))), (2, .int (iZ ((at_ : Nat) : Int))), (0, .ref o), (1, .int (iZ ((nr : Nat) : Int)))] dX2_layRails_66 1 rfl (kk := ?_)
                  refine z_goto hk 20 dX2_layRails_69 (kk := ?_)
                  refine z_lvs [0, 2, 3, 4, 5, 6] (lv' := [(5, .int (iZ ((i + 1 : Nat) : Int))), (4, .int (iZ ((r : Nat) : Int))), (3, .int (iZ ((2 * (nr - 1) : Nat) : Int))), (2, .int (iZ ((at_ : Nat) : Int))), (0, .ref o), (1, .int (iZ ((nr : Nat) : Int)))]) (kk := ?_)
                  exact ih20  (i + 1) at_ f (by first | assumption | omega) (by first | (rw [rlI_yes (by omega), List.length_append, hat]; rfl) | (rw [rlI_no (by omega)]; exact hat)) (by first | (rw [rlI_yes (by omega), hf]; exact pL_up hat) | (rw [rlI_no (by omega)]; exact hf)) (by omega)
                · skip
                  have gr := rlI_room (r := nr) (n := n) (k := r) (i := i) (by omega) (by omega)
                  refine z_aload_n hk dX2_layRails_55 5 rfl (kk := ?_)
                  refine z_get hk in_X2 0 9 q1289 dX2_layRails_56 rfl hF9 (kk := ?_)
                  refine z_iload_n hk dX2_layRails_59 4 rfl (kk := ?_)
                  refine z_iload hk dX2_layRails_60 1 rfl (kk := ?_)
                  refine z_iast (i := at_) hk 2 [(o, zO 2 fs), (aS, zI (kG κ) 819 st), (aF, zI (kG κ) 48 (va_up f at_ i))] dX2_layRails_62 rfl  (kk := ?_) 
                  refine z_iinc hk (z' := ((at_ + 1 : Nat) : Int)) [(2, .int (iZ ((at_ + 1 : Nat) : Int))), (6, .int (iZ ((dn : Nat) : Int))), (5, .int (iZ ((i : Nat) : Int))), (4, .int (iZ ((r : Nat) : Int))), (3, .int (iZ ((2 * (nr - 1) : Nat) : Int))), (0, .ref o), (1, .int (iZ ((nr : Nat) : Int)))] dX2_layRails_63 4 rfl (kk := ?_)
                  refine z_iinc hk (z' := ((i + 1 : Nat) : Int)) [(5, .int (iZ ((i + 1 : Nat) : Int))), (2, .int (iZ ((at_ + 1 : Nat) : Int))), (6, .int (iZ ((dn : Nat) : Int))), (4, .int (iZ ((r : Nat) : Int))), (3, .int (iZ ((2 * (nr - 1) : Nat) : Int))), (0, .ref o), (1, .int (iZ ((nr : Nat) : Int)))] dX2_layRails_66 2 rfl (kk := ?_)
                  refine z_goto hk 20 dX2_layRails_69 (kk := ?_)
                  refine z_lvs [0, 3, 4, 1, 5, 6] (lv' := [(5, .int (iZ ((i + 1 : Nat) : Int))), (4, .int (iZ ((r : Nat) : Int))), (3, .int (iZ ((2 * (nr - 1) : Nat) : Int))), (2, .int (iZ ((at_ + 1 : Nat) : Int))), (0, .ref o), (1, .int (iZ ((nr : Nat) : Int)))]) (kk := ?_)
                  exact ih20  (i + 1) (at_ + 1) (va_up f at_ i) (by first | assumption | omega) (by first | (rw [rlI_yes (by omega), List.length_append, hat]; rfl) | (rw [rlI_no (by omega)]; exact hat)) (by first | (rw [rlI_yes (by omega), hf]; exact pL_up hat) | (rw [rlI_no (by omega)]; exact hf)) (by omega)
              refine z_iload hk dX2_layRails_35 0 rfl (kk := ?_)
              refine z_iload_n hk dX2_layRails_37 6 rfl (kk := ?_)
              refine z_icmp_ge hk 46 dX2_layRails_38 (kt := fun h38 => ?_) (kf := fun h38 => ?_) 
              · skip
                refine z_iload_n hk dX2_layRails_46 3 rfl (kk := ?_)
                refine z_iload hk dX2_layRails_47 0 rfl (kk := ?_)
                refine z_isub (z := ((2 * (nr - 1) - dn : Nat) : Int)) hk dX2_layRails_49 (by omega) (kk := ?_)
                exact J50 (2 * (nr - 1) - dn) (by unfold zig; rw [← edn]; first | rw [if_pos (by omega)] | rw [if_neg (by omega)])
              · skip
                refine z_iload hk dX2_layRails_41 0 rfl (kk := ?_)
                refine z_goto hk 50 dX2_layRails_43 (kk := ?_)
                exact J50 dn (by unfold zig; rw [← edn]; first | rw [if_pos (by omega)] | rw [if_neg (by omega)])
        exact L20 (n - 0 + 1) 0 at_ f (by first | assumption | omega) (by rw [rlI_0]; exact hat) (by rw [rlI_0]; exact hf) (Nat.lt_succ_self _)
  exact L11 (nr - 0 + 1) 0 0 frm (by first | assumption | omega) (by rfl) (by exact (pL_nil _).symm) (Nat.lt_succ_self _)

set_option maxHeartbeats 600000 in
theorem ct_X2_readBy (l_ : Launch) (G : zG) (o : Nat) (fs : List Value) (aS : Nat) (aT : Nat) (aO : Nat) (aF : Nat) (st : Nat → Nat) (tx : Nat → Nat) (oth : Nat → Nat) (fr : Nat → Nat) (by_ : Int) (n : Nat) (t : Nat → Nat) (L : List Nat) (hF0 : fs[0]? = some (.ref aS)) (hF5 : fs[5]? = some (.ref aT)) (hF6 : fs[6]? = some (.ref aO)) (hF9 : fs[9]? = some (.ref aF)) (hn : st 48 = n) (hn48 : n ≤ 48) (hT : ∀ j, j < n → tx j = t j ∧ t j < 16) (hby : by_ = 1 ∨ by_ = -1) (hLl : L.length = n) (hLm : ∀ x, x ∈ L ↔ x < n) (hfr : ∀ j, j < n → fr j = L.getD j 0) :
    Ct l_ G yX2_readBy cX2_readBy 3 none 2 0 0 [.ref o, .int (iZ (by_))] [(o, zO 2 fs), (aS, zI G 819 st), (aT, zI G 48 tx), (aO, zI G 48 oth), (aF, zI G 48 fr)]
      (fun u : Nat → Nat => none) (fun u : Nat → Nat => ∀ j, j < n → u j = mvF by_ L t n j) (fun u : Nat → Nat => [(o, zO 2 fs), (aS, zI G 819 st), (aT, zI G 48 tx), (aO, zI G 48 u), (aF, zI G 48 fr)]) := by
  refine Ct.of (by decide) (Nat.le_of_ble_eq_true rfl) ?_
  intro κ hl_ hG_ hk hR_
  subst hl_
  subst hG_
  show Z κ 0 [(0, .ref o), (1, .int (iZ (by_)))] [] [(o, zO 2 fs), (aS, zI (kG κ) 819 st), (aT, zI (kG κ) 48 tx), (aO, zI (kG κ) 48 oth), (aF, zI (kG κ) 48 fr)] 0 0
  rcases hby with hby | hby
  · skip
    refine z_to (lv' := [(0, .ref o), (1, .int (iZ ((1 : Nat) : Int)))]) rfl (by rw [hby]; rfl) rfl rfl ?_
    refine z_iconst (z := ((0 : Nat) : Int)) hk dX2_readBy_0 (kk := ?_)
    refine z_istore_n hk [(2, .int (iZ ((0 : Nat) : Int))), (0, .ref o), (1, .int (iZ ((1 : Nat) : Int)))] dX2_readBy_1 (kk := ?_)
    have L2 : ∀ (f_ : Nat) (i : Nat) (o2 : Nat → Nat), (i ≤ n) → ((by_ = 1 ∧ o2 = pP oth (fun j => t (L.getD j 0)) 0 i) ∨ (by_ = -1 ∧ o2 = sct (fun j => L.getD j 0) t oth i)) → n - i < f_ → Z κ 2 [(2, .int (iZ ((i : Nat) : Int))), (0, .ref o), (1, .int (iZ ((1 : Nat) : Int)))] [] [(o, zO 2 fs), (aS, zI (kG κ) 819 st), (aT, zI (kG κ) 48 tx), (aO, zI (kG κ) 48 o2), (aF, zI (kG κ) 48 fr)] 0 0 := by
      intro f_
      induction f_ with
      | zero => intro i o2 hi ho2 hm_; exact absurd hm_ (Nat.not_lt_zero _)
      | succ f_ ih2 =>
        intro i o2 hi ho2 hm_
        refine z_iload_n hk dX2_readBy_2 0 rfl (kk := ?_)
        refine z_aload_n hk dX2_readBy_3 1 rfl (kk := ?_)
        refine z_callV hk [] 0 [(aT, zI (kG κ) 48 tx), (aO, zI (kG κ) 48 o2), (aF, zI (kG κ) 48 fr)] (ct_X2_many (kL κ) (kG κ) o fs aS st n hF0 (by first | assumption | omega)) q1352 q1354 qs30 q66 q1355 (zSub.ix [0, 1, 2, 3, 4] rfl) 0 2 rfl dX2_readBy_4 rfl (kk := fun _ _ => ?_)
        show Z κ 7 [(2, .int (iZ ((i : Nat) : Int))), (0, .ref o), (1, .int (iZ ((1 : Nat) : Int)))] [.int (iZ ((n : Nat) : Int)), .int (iZ ((i : Nat) : Int))] [(o, zO 2 fs), (aS, zI (kG κ) 819 st), (aT, zI (kG κ) 48 tx), (aO, zI (kG κ) 48 o2), (aF, zI (kG κ) 48 fr)] 0 0
        refine z_icmp_ge hk 57 dX2_readBy_7 (kt := fun h7 => ?_) (kf := fun h7 => ?_) 
        · skip
          exact z_vret hk hR_ o2 dX2_readBy_57 rfl rfl (by intro j hj; rcases ho2 with ⟨b1, b2⟩ | ⟨b1, b2⟩ <;> unfold mvF <;> first | (exfalso; omega) | (rw [if_pos (by omega), b2, pP_in (by omega) (by omega)]; rfl) | (rw [if_neg (by omega), b2, show i = n from by omega]; exact sct_hit (by obtain ⟨q, h1, h2⟩ := mem_getD ((hLm j).mpr hj); exact ⟨q, by omega, h2⟩))) (zSub.ix [0, 1, 2, 3, 4] rfl)
        · skip
          refine z_iload_n hk dX2_readBy_10 2 rfl (kk := ?_)
          refine z_if_le hk 34 dX2_readBy_11 (kt := fun h11 => ?_) (kf := fun h11 => ?_) 
          · skip
            exfalso; omega
          · skip
            have gf := hfr i (by omega)
            have gL := (hLm _).mp (getD_mem (L := L) (j := i) (by omega))
            have gt := hT (L.getD i 0) gL
            refine z_aload_n hk dX2_readBy_14 1 rfl (kk := ?_)
            refine z_get hk in_X2 0 6 q1286 dX2_readBy_15 rfl hF6 (kk := ?_)
            refine z_iload_n hk dX2_readBy_18 0 rfl (kk := ?_)
            refine z_aload_n hk dX2_readBy_19 1 rfl (kk := ?_)
            refine z_get hk in_X2 0 5 q1285 dX2_readBy_20 rfl hF5 (kk := ?_)
            refine z_aload_n hk dX2_readBy_23 1 rfl (kk := ?_)
            refine z_get hk in_X2 0 9 q1289 dX2_readBy_24 rfl hF9 (kk := ?_)
            refine z_iload_n hk dX2_readBy_27 0 rfl (kk := ?_)
            refine z_iald (i := i) hk 4 dX2_readBy_28 rfl (kk := ?_) 
            refine z_iald (i := fr i) hk 2 dX2_readBy_29 rfl (kk := ?_) 
            refine z_iast (i := i) hk 3 [(o, zO 2 fs), (aS, zI (kG κ) 819 st), (aT, zI (kG κ) 48 tx), (aO, zI (kG κ) 48 (va_up o2 i (tx (fr i)))), (aF, zI (kG κ) 48 fr)] dX2_readBy_30 rfl  (kk := ?_) 
            refine z_goto hk 51 dX2_readBy_31 (kk := ?_)
            refine z_iinc hk (z' := ((i + 1 : Nat) : Int)) [(2, .int (iZ ((i + 1 : Nat) : Int))), (0, .ref o), (1, .int (iZ ((1 : Nat) : Int)))] dX2_readBy_51 0 rfl (kk := ?_)
            refine z_goto hk 2 dX2_readBy_54 (kk := ?_)
            exact ih2  (i + 1) (va_up o2 i (tx (fr i))) (by first | assumption | omega) (by rcases ho2 with ⟨b1, b2⟩ | ⟨b1, b2⟩ <;> first | (exfalso; omega) | (exact Or.inl ⟨b1, by rw [b2]; exact pP_up0 (by rw [gf]; exact gt.1)⟩) | (exact Or.inr ⟨b1, by rw [b2, gf, gt.1]; rfl⟩)) (by omega)
    exact L2 (n - 0 + 1) 0 oth (by first | assumption | omega) (by first | exact Or.inl ⟨hby, (pP_0 _ _ _).symm⟩ | exact Or.inr ⟨hby, rfl⟩) (Nat.lt_succ_self _)
  · skip
    refine z_to (lv' := [(0, .ref o), (1, .int (iZ (-1)))]) rfl (by rw [hby]) rfl rfl ?_
    refine z_iconst (z := ((0 : Nat) : Int)) hk dX2_readBy_0 (kk := ?_)
    refine z_istore_n hk [(2, .int (iZ ((0 : Nat) : Int))), (0, .ref o), (1, .int (iZ (-1)))] dX2_readBy_1 (kk := ?_)
    have L2 : ∀ (f_ : Nat) (i : Nat) (o2 : Nat → Nat), (i ≤ n) → ((by_ = 1 ∧ o2 = pP oth (fun j => t (L.getD j 0)) 0 i) ∨ (by_ = -1 ∧ o2 = sct (fun j => L.getD j 0) t oth i)) → n - i < f_ → Z κ 2 [(2, .int (iZ ((i : Nat) : Int))), (0, .ref o), (1, .int (iZ (-1)))] [] [(o, zO 2 fs), (aS, zI (kG κ) 819 st), (aT, zI (kG κ) 48 tx), (aO, zI (kG κ) 48 o2), (aF, zI (kG κ) 48 fr)] 0 0 := by
      intro f_
      induction f_ with
      | zero => intro i o2 hi ho2 hm_; exact absurd hm_ (Nat.not_lt_zero _)
      | succ f_ ih2 =>
        intro i o2 hi ho2 hm_
        refine z_iload_n hk dX2_readBy_2 0 rfl (kk := ?_)
        refine z_aload_n hk dX2_readBy_3 1 rfl (kk := ?_)
        refine z_callV hk [] 0 [(aT, zI (kG κ) 48 tx), (aO, zI (kG κ) 48 o2), (aF, zI (kG κ) 48 fr)] (ct_X2_many (kL κ) (kG κ) o fs aS st n hF0 (by first | assumption | omega)) q1352 q1354 qs30 q66 q1355 (zSub.ix [0, 1, 2, 3, 4] rfl) 0 2 rfl dX2_readBy_4 rfl (kk := fun _ _ => ?_)
        show Z κ 7 [(2, .int (iZ ((i : Nat) : Int))), (0, .ref o), (1, .int (iZ (-1)))] [.int (iZ ((n : Nat) : Int)), .int (iZ ((i : Nat) : Int))] [(o, zO 2 fs), (aS, zI (kG κ) 819 st), (aT, zI (kG κ) 48 tx), (aO, zI (kG κ) 48 o2), (aF, zI (kG κ) 48 fr)] 0 0
        refine z_icmp_ge hk 57 dX2_readBy_7 (kt := fun h7 => ?_) (kf := fun h7 => ?_) 
        · skip
          exact z_vret hk hR_ o2 dX2_readBy_57 rfl rfl (by intro j hj; rcases ho2 with ⟨b1, b2⟩ | ⟨b1, b2⟩ <;> unfold mvF <;> first | (exfalso; omega) | (rw [if_pos (by omega), b2, pP_in (by omega) (by omega)]; rfl) | (rw [if_neg (by omega), b2, show i = n from by omega]; exact sct_hit (by obtain ⟨q, h1, h2⟩ := mem_getD ((hLm j).mpr hj); exact ⟨q, by omega, h2⟩))) (zSub.ix [0, 1, 2, 3, 4] rfl)
        · skip
          refine z_iload_n hk dX2_readBy_10 2 rfl (kk := ?_)
          refine z_if_le hk 34 dX2_readBy_11 (kt := fun h11 => ?_) (kf := fun h11 => ?_) 
          · skip
            have gf := hfr i (by omega)
            have gL := (hLm _).mp (getD_mem (L := L) (j := i) (by omega))
            have gt := hT i (by omega)
            refine z_aload_n hk dX2_readBy_34 1 rfl (kk := ?_)
            refine z_get hk in_X2 0 6 q1286 dX2_readBy_35 rfl hF6 (kk := ?_)
            refine z_aload_n hk dX2_readBy_38 1 rfl (kk := ?_)
            refine z_get hk in_X2 0 9 q1289 dX2_readBy_39 rfl hF9 (kk := ?_)
            refine z_iload_n hk dX2_readBy_42 0 rfl (kk := ?_)
            refine z_iald (i := i) hk 4 dX2_readBy_43 rfl (kk := ?_) 
            refine z_aload_n hk dX2_readBy_44 1 rfl (kk := ?_)
            refine z_get hk in_X2 0 5 q1285 dX2_readBy_45 rfl hF5 (kk := ?_)
            refine z_iload_n hk dX2_readBy_48 0 rfl (kk := ?_)
            refine z_iald (i := i) hk 2 dX2_readBy_49 rfl (kk := ?_) 
            refine z_iast (i := fr i) hk 3 [(o, zO 2 fs), (aS, zI (kG κ) 819 st), (aT, zI (kG κ) 48 tx), (aO, zI (kG κ) 48 (va_up o2 (fr i) (tx i))), (aF, zI (kG κ) 48 fr)] dX2_readBy_50 rfl  (kk := ?_) 
            refine z_iinc hk (z' := ((i + 1 : Nat) : Int)) [(2, .int (iZ ((i + 1 : Nat) : Int))), (0, .ref o), (1, .int (iZ (-1)))] dX2_readBy_51 0 rfl (kk := ?_)
            refine z_goto hk 2 dX2_readBy_54 (kk := ?_)
            exact ih2  (i + 1) (va_up o2 (fr i) (tx i)) (by first | assumption | omega) (by rcases ho2 with ⟨b1, b2⟩ | ⟨b1, b2⟩ <;> first | (exfalso; omega) | (exact Or.inl ⟨b1, by rw [b2]; exact pP_up0 (by rw [gf]; exact gt.1)⟩) | (exact Or.inr ⟨b1, by rw [b2, gf, gt.1]; rfl⟩)) (by omega)
          · skip
            exfalso; omega
    exact L2 (n - 0 + 1) 0 oth (by first | assumption | omega) (by first | exact Or.inl ⟨hby, (pP_0 _ _ _).symm⟩ | exact Or.inr ⟨hby, rfl⟩) (Nat.lt_succ_self _)

set_option maxHeartbeats 600000 in
theorem ct_X2_apart (l_ : Launch) (G : zG) (o : Nat) (fs : List Value) (aS : Nat) (aT : Nat) (aO : Nat) (aQ : Nat) (aL : Nat) (st : Nat → Nat) (tx : Nat → Nat) (oth : Nat → Nat) (sq : Nat → Nat) (P : Nat → Nat) (ln : Nat → Nat) (by_ : Int) (n : Nat) (t : Nat → Nat) (hF0 : fs[0]? = some (.ref aS)) (hF5 : fs[5]? = some (.ref aT)) (hF6 : fs[6]? = some (.ref aO)) (hF7 : fs[7]? = some (.ref aQ)) (hF10 : fs[10]? = some (.ref aL)) (hn : st 48 = n) (hn48 : n ≤ 48) (hSq : SqP sq P) (hT : ∀ j, j < n → tx j = t j ∧ t j < 16) (hby : by_ = 1 ∨ by_ = -1) :
    Ct l_ G yX2_apart cX2_apart 5 none 2 0 0 [.ref o, .int (iZ (by_))] [(o, zO 2 fs), (aS, zI G 819 st), (aT, zI G 48 tx), (aO, zI G 48 oth), (aQ, zI G 16 sq), (aL, zI G 96 ln)]
      (fun u : (Nat → Nat) × (Nat → Nat) => none) (fun u : (Nat → Nat) × (Nat → Nat) => ∀ j, j < n → u.1 j = apF sq P t n by_ j) (fun u : (Nat → Nat) × (Nat → Nat) => [(o, zO 2 fs), (aS, zI G 819 st), (aT, zI G 48 tx), (aO, zI G 48 u.1), (aQ, zI G 16 sq), (aL, zI G 96 u.2)]) := by
  refine Ct.of (by decide) (Nat.le_of_ble_eq_true rfl) ?_
  intro κ hl_ hG_ hk hR_
  subst hl_
  subst hG_
  show Z κ 0 [(0, .ref o), (1, .int (iZ (by_)))] [] [(o, zO 2 fs), (aS, zI (kG κ) 819 st), (aT, zI (kG κ) 48 tx), (aO, zI (kG κ) 48 oth), (aQ, zI (kG κ) 16 sq), (aL, zI (kG κ) 96 ln)] 0 0
  rcases hby with hby | hby
  · skip
    refine z_to (lv' := [(0, .ref o), (1, .int (iZ ((1 : Nat) : Int)))]) rfl (by rw [hby]; rfl) rfl rfl ?_
    refine z_aload_n hk dX2_apart_0 0 rfl (kk := ?_)
    refine z_callV hk [] 0 [(aT, zI (kG κ) 48 tx), (aO, zI (kG κ) 48 oth), (aQ, zI (kG κ) 16 sq), (aL, zI (kG κ) 96 ln)] (ct_X2_many (kL κ) (kG κ) o fs aS st n hF0 (by first | assumption | omega)) q1352 q1354 qs30 q66 q1355 (zSub.ix [0, 1, 2, 3, 4, 5] rfl) 0 2 rfl dX2_apart_1 rfl (kk := fun _ _ => ?_)
    show Z κ 4 [(0, .ref o), (1, .int (iZ ((1 : Nat) : Int)))] [.int (iZ ((n : Nat) : Int))] [(o, zO 2 fs), (aS, zI (kG κ) 819 st), (aT, zI (kG κ) 48 tx), (aO, zI (kG κ) 48 oth), (aQ, zI (kG κ) 16 sq), (aL, zI (kG κ) 96 ln)] 0 0
    refine z_istore_n hk [(2, .int (iZ ((n : Nat) : Int))), (0, .ref o), (1, .int (iZ ((1 : Nat) : Int)))] dX2_apart_4 (kk := ?_)
    refine z_iconst (z := ((0 : Nat) : Int)) hk dX2_apart_5 (kk := ?_)
    refine z_istore_n hk [(3, .int (iZ ((0 : Nat) : Int))), (2, .int (iZ ((n : Nat) : Int))), (0, .ref o), (1, .int (iZ ((1 : Nat) : Int)))] dX2_apart_6 (kk := ?_)
    have L7 : ∀ (f_ : Nat) (i : Nat) (l2 : Nat → Nat), (i ≤ n) → ((by_ = 1 ∧ ∀ j, j < i → l2 j = P (t j) / 4 ∧ l2 (n + j) = P (t j) % 4) ∨ (by_ = -1 ∧ ∀ j, j < i → l2 (2 * j) = P (t j) / 4 ∧ l2 (2 * j + 1) = P (t j) % 4)) → n - i < f_ → Z κ 7 [(3, .int (iZ ((i : Nat) : Int))), (2, .int (iZ ((n : Nat) : Int))), (0, .ref o), (1, .int (iZ ((1 : Nat) : Int)))] [] [(o, zO 2 fs), (aS, zI (kG κ) 819 st), (aT, zI (kG κ) 48 tx), (aO, zI (kG κ) 48 oth), (aQ, zI (kG κ) 16 sq), (aL, zI (kG κ) 96 l2)] 0 0 := by
      intro f_
      induction f_ with
      | zero => intro i l2 hi hln hm_; exact absurd hm_ (Nat.not_lt_zero _)
      | succ f_ ih7 =>
        intro i l2 hi hln hm_
        refine z_iload_n hk dX2_apart_7 0 rfl (kk := ?_)
        refine z_iload_n hk dX2_apart_8 1 rfl (kk := ?_)
        refine z_icmp_ge hk 74 dX2_apart_9 (kt := fun h9 => ?_) (kf := fun h9 => ?_) 
        · skip
          have hl2 : ∀ j, j < 2 * n → l2 j = (if by_ = 1 then lnH P t n j else lnF P t j) := by
            intro j hj
            rcases hln with ⟨b1, b2⟩ | ⟨b1, b2⟩
            · rw [if_pos b1]
              unfold lnH
              by_cases e : j < n
              · rw [if_pos e]; exact (b2 j (by omega)).1
              · rw [if_neg e]
                have := (b2 (j - n) (by omega)).2
                rw [show n + (j - n) = j from by omega] at this
                exact this
            · rw [if_neg (by omega)]
              unfold lnF
              by_cases e : j % 2 = 0
              · rw [if_pos e]
                have := (b2 (j / 2) (by omega)).1
                rw [show 2 * (j / 2) = j from by omega] at this
                exact this
              · rw [if_neg e]
                have := (b2 (j / 2) (by omega)).2
                rw [show 2 * (j / 2) + 1 = j from by omega] at this
                exact this
          have hl4 : ∀ j, j < 2 * n → l2 j < 4 := by
            intro j hj
            rw [hl2 j hj]
            by_cases e1 : by_ = 1
            · rw [if_pos e1]
              unfold lnH
              split
              · have := (hSq.2 _ (hT j (by omega)).2).1; omega
              · omega
            · rw [if_neg e1]
              unfold lnF
              split
              · have := (hSq.2 _ (hT (j / 2) (by omega)).2).1; omega
              · omega
          refine z_iconst (z := ((0 : Nat) : Int)) hk dX2_apart_74 (kk := ?_)
          refine z_istore_n hk [(3, .int (iZ ((0 : Nat) : Int))), (2, .int (iZ ((n : Nat) : Int))), (0, .ref o), (1, .int (iZ ((1 : Nat) : Int)))] dX2_apart_75 (kk := ?_)
          have L76 : ∀ (f_ : Nat) (i : Nat) (o2 : Nat → Nat), (i ≤ n) → (o2 = pP oth (apF sq P t n by_) 0 i) → n - i < f_ → Z κ 76 [(3, .int (iZ ((i : Nat) : Int))), (2, .int (iZ ((n : Nat) : Int))), (0, .ref o), (1, .int (iZ ((1 : Nat) : Int)))] [] [(o, zO 2 fs), (aS, zI (kG κ) 819 st), (aT, zI (kG κ) 48 tx), (aO, zI (kG κ) 48 o2), (aQ, zI (kG κ) 16 sq), (aL, zI (kG κ) 96 l2)] 0 0 := by
            intro f_
            induction f_ with
            | zero => intro i o2 hi ho2 hm_; exact absurd hm_ (Nat.not_lt_zero _)
            | succ f_ ih76 =>
              intro i o2 hi ho2 hm_
              refine z_iload_n hk dX2_apart_76 0 rfl (kk := ?_)
              refine z_iload_n hk dX2_apart_77 1 rfl (kk := ?_)
              refine z_icmp_ge hk 148 dX2_apart_78 (kt := fun h78 => ?_) (kf := fun h78 => ?_) 
              · skip
                exact z_vret hk hR_ (o2, l2) dX2_apart_148 rfl rfl (by (try dsimp only); intro j hj; rw [ho2, pP_in (by omega) (by omega)]; rfl) (zSub.ix [0, 1, 2, 3, 4, 5] rfl)
              · skip
                refine z_aload_n hk dX2_apart_81 2 rfl (kk := ?_)
                refine z_get hk in_X2 0 6 q1286 dX2_apart_82 rfl hF6 (kk := ?_)
                refine z_iload_n hk dX2_apart_85 0 rfl (kk := ?_)
                refine z_iload_n hk dX2_apart_86 3 rfl (kk := ?_)
                refine z_if_le hk 119 dX2_apart_87 (kt := fun h87 => ?_) (kf := fun h87 => ?_) 
                · skip
                  exfalso; omega
                · skip
                  have g1 := hl4 (2 * i) (by omega)
                  have g2 := hl4 (2 * i + 1) (by omega)
                  refine z_aload_n hk dX2_apart_90 2 rfl (kk := ?_)
                  refine z_get hk in_X2 0 7 q1287 dX2_apart_91 rfl hF7 (kk := ?_)
                  refine z_iconst (z := ((4 : Nat) : Int)) hk dX2_apart_94 (kk := ?_)
                  refine z_aload_n hk dX2_apart_95 2 rfl (kk := ?_)
                  refine z_get hk in_X2 0 10 q1290 dX2_apart_96 rfl hF10 (kk := ?_)
                  refine z_iconst (z := ((2 : Nat) : Int)) hk dX2_apart_99 (kk := ?_)
                  refine z_iload_n hk dX2_apart_100 0 rfl (kk := ?_)
                  refine z_imul (z := ((2 * i : Nat) : Int)) hk dX2_apart_101 (Int.natCast_mul _ _).symm (kk := ?_)
                  refine z_iald (i := 2 * i) hk 5 dX2_apart_102 rfl (kk := ?_) 
                  refine z_imul (z := ((4 * (l2 (2 * i)) : Nat) : Int)) hk dX2_apart_103 (Int.natCast_mul _ _).symm (kk := ?_)
                  refine z_aload_n hk dX2_apart_104 2 rfl (kk := ?_)
                  refine z_get hk in_X2 0 10 q1290 dX2_apart_105 rfl hF10 (kk := ?_)
                  refine z_iconst (z := ((2 : Nat) : Int)) hk dX2_apart_108 (kk := ?_)
                  refine z_iload_n hk dX2_apart_109 0 rfl (kk := ?_)
                  refine z_imul (z := ((2 * i : Nat) : Int)) hk dX2_apart_110 (Int.natCast_mul _ _).symm (kk := ?_)
                  refine z_iconst (z := ((1 : Nat) : Int)) hk dX2_apart_111 (kk := ?_)
                  refine z_iadd (z := (((2 * i) + 1 : Nat) : Int)) hk dX2_apart_112 (Int.natCast_add _ _).symm (kk := ?_)
                  refine z_iald (i := (2 * i) + 1) hk 5 dX2_apart_113 rfl (kk := ?_) 
                  refine z_iadd (z := (((4 * (l2 (2 * i))) + (l2 ((2 * i) + 1)) : Nat) : Int)) hk dX2_apart_114 (Int.natCast_add _ _).symm (kk := ?_)
                  refine z_iald (i := (4 * (l2 (2 * i))) + (l2 ((2 * i) + 1))) hk 4 dX2_apart_115 rfl (kk := ?_) 
                  refine z_goto hk 141 dX2_apart_116 (kk := ?_)
                  refine z_iast (i := i) hk 3 [(o, zO 2 fs), (aS, zI (kG κ) 819 st), (aT, zI (kG κ) 48 tx), (aO, zI (kG κ) 48 (va_up o2 i (sq ((4 * (l2 (2 * i))) + (l2 ((2 * i) + 1)))))), (aQ, zI (kG κ) 16 sq), (aL, zI (kG κ) 96 l2)] dX2_apart_141 rfl  (kk := ?_) 
                  refine z_iinc hk (z' := ((i + 1 : Nat) : Int)) [(3, .int (iZ ((i + 1 : Nat) : Int))), (2, .int (iZ ((n : Nat) : Int))), (0, .ref o), (1, .int (iZ ((1 : Nat) : Int)))] dX2_apart_142 0 rfl (kk := ?_)
                  refine z_goto hk 76 dX2_apart_145 (kk := ?_)
                  exact ih76  (i + 1) (va_up o2 i (sq ((4 * (l2 (2 * i))) + (l2 ((2 * i) + 1))))) (by first | assumption | omega) (by rw [ho2]; refine pP_up0 ?_; unfold apF; first | (rw [if_pos (by omega), hl2 _ (by omega), hl2 _ (by omega), if_pos hby, if_pos hby]; done) | (rw [if_neg (by omega), hl2 _ (by omega), hl2 _ (by omega), if_neg (by omega), if_neg (by omega)]; done)) (by omega)
          exact L76 (n - 0 + 1) 0 oth (by first | assumption | omega) (by exact (pP_0 _ _ _).symm) (Nat.lt_succ_self _)
        · skip
          refine z_aload_n hk dX2_apart_12 2 rfl (kk := ?_)
          refine z_aload_n hk dX2_apart_13 2 rfl (kk := ?_)
          refine z_get hk in_X2 0 5 q1285 dX2_apart_14 rfl hF5 (kk := ?_)
          refine z_iload_n hk dX2_apart_17 0 rfl (kk := ?_)
          refine z_iald (i := i) hk 2 dX2_apart_18 rfl (kk := ?_) 
          have gt := hT i (by omega)
          refine z_callV hk [.int (iZ ((tx i : Nat) : Int))] 1 [(aS, zI (kG κ) 819 st), (aT, zI (kG κ) 48 tx), (aO, zI (kG κ) 48 oth), (aL, zI (kG κ) 96 l2)] (ct_X2_placeOf (kL κ) (kG κ) o fs aQ sq P (tx i) hF7 (by first | assumption | omega) (by omega)) q1384 q1386 qs37 q66 q1387 (zSub.ix [0, 4, 1, 2, 3, 5] rfl) 0 2 rfl dX2_apart_19 rfl (kk := fun _ _ => ?_)
          show Z κ 22 [(3, .int (iZ ((i : Nat) : Int))), (2, .int (iZ ((n : Nat) : Int))), (0, .ref o), (1, .int (iZ ((1 : Nat) : Int)))] [.int (iZ (((P (tx i)) : Nat) : Int))] [(o, zO 2 fs), (aQ, zI (kG κ) 16 sq), (aS, zI (kG κ) 819 st), (aT, zI (kG κ) 48 tx), (aO, zI (kG κ) 48 oth), (aL, zI (kG κ) 96 l2)] 0 0
          obtain ⟨a, ea⟩ : ∃ x_ : Nat, x_ = (P (tx i)) := ⟨_, rfl⟩
          refine z_topN a (by rw [ea]) ?_
          have ha : a < 16 := by rw [ea, gt.1]; exact (hSq.2 _ gt.2).1
          refine z_istore hk [(4, .int (iZ ((a : Nat) : Int))), (3, .int (iZ ((i : Nat) : Int))), (2, .int (iZ ((n : Nat) : Int))), (0, .ref o), (1, .int (iZ ((1 : Nat) : Int)))] dX2_apart_22 (kk := ?_)
          refine z_aload_n hk dX2_apart_24 3 rfl (kk := ?_)
          refine z_get hk in_X2 0 10 q1290 dX2_apart_25 rfl hF10 (kk := ?_)
          refine z_iload_n hk dX2_apart_28 4 rfl (kk := ?_)
          refine z_if_le hk 36 dX2_apart_29 (kt := fun h29 => ?_) (kf := fun h29 => ?_) 
          · skip
            exfalso; omega
          · skip
            refine z_iload_n hk dX2_apart_32 1 rfl (kk := ?_)
            refine z_goto hk 39 dX2_apart_33 (kk := ?_)
            refine z_iload hk dX2_apart_39 0 rfl (kk := ?_)
            refine z_iconst (z := ((4 : Nat) : Int)) hk dX2_apart_41 (kk := ?_)
            refine z_idiv (a := a) (b := 4) hk dX2_apart_42 (kk := ?_) 
            refine z_iast (i := i) hk 5 [(o, zO 2 fs), (aQ, zI (kG κ) 16 sq), (aS, zI (kG κ) 819 st), (aT, zI (kG κ) 48 tx), (aO, zI (kG κ) 48 oth), (aL, zI (kG κ) 96 (va_up l2 i (a / 4)))] dX2_apart_43 rfl  (kk := ?_) 
            refine z_aload_n hk dX2_apart_44 3 rfl (kk := ?_)
            refine z_get hk in_X2 0 10 q1290 dX2_apart_45 rfl hF10 (kk := ?_)
            refine z_iload_n hk dX2_apart_48 4 rfl (kk := ?_)
            refine z_if_le hk 58 dX2_apart_49 (kt := fun h49 => ?_) (kf := fun h49 => ?_) 
            · skip
              exfalso; omega
            · skip
              refine z_iload_n hk dX2_apart_52 2 rfl (kk := ?_)
              refine z_iload_n hk dX2_apart_53 1 rfl (kk := ?_)
              refine z_iadd (z := ((n + i : Nat) : Int)) hk dX2_apart_54 (Int.natCast_add _ _).symm (kk := ?_)
              refine z_goto hk 63 dX2_apart_55 (kk := ?_)
              refine z_iload hk dX2_apart_63 0 rfl (kk := ?_)
              refine z_iconst (z := ((4 : Nat) : Int)) hk dX2_apart_65 (kk := ?_)
              refine z_irem (a := a) (b := 4) hk dX2_apart_66 (kk := ?_) 
              refine z_iast (i := n + i) hk 5 [(o, zO 2 fs), (aQ, zI (kG κ) 16 sq), (aS, zI (kG κ) 819 st), (aT, zI (kG κ) 48 tx), (aO, zI (kG κ) 48 oth), (aL, zI (kG κ) 96 (va_up (va_up l2 i (a / 4)) (n + i) (a % 4)))] dX2_apart_67 rfl  (kk := ?_) 
              refine z_iinc hk (z' := ((i + 1 : Nat) : Int)) [(3, .int (iZ ((i + 1 : Nat) : Int))), (4, .int (iZ ((a : Nat) : Int))), (2, .int (iZ ((n : Nat) : Int))), (0, .ref o), (1, .int (iZ ((1 : Nat) : Int)))] dX2_apart_68 1 rfl (kk := ?_)
              refine z_goto hk 7 dX2_apart_71 (kk := ?_)
              refine z_lvs [0, 2, 3, 4] (lv' := [(3, .int (iZ ((i + 1 : Nat) : Int))), (2, .int (iZ ((n : Nat) : Int))), (0, .ref o), (1, .int (iZ ((1 : Nat) : Int)))]) (kk := ?_)
              refine z_sub (zSub.ix [0, 2, 3, 4, 1, 5] (ws' := [(o, zO 2 fs), (aS, zI (kG κ) 819 st), (aT, zI (kG κ) 48 tx), (aO, zI (kG κ) 48 oth), (aQ, zI (kG κ) 16 sq), (aL, zI (kG κ) 96 (va_up (va_up l2 i (a / 4)) (n + i) (a % 4)))]) rfl) ?_
              exact ih7  (i + 1) (va_up (va_up l2 i (a / 4)) (n + i) (a % 4)) (by first | assumption | omega) (by rcases hln with ⟨b1, b2⟩ | ⟨b1, b2⟩ <;> first | (exfalso; omega) | (refine Or.inl ⟨b1, fun j hj => ?_⟩; exact if e : j = i then (by rw [e, va_up_ne _ _ (by omega), va_up_self, va_up_self, ea, gt.1]; exact ⟨rfl, rfl⟩) else (by rw [va_up_ne _ _ (by omega), va_up_ne _ _ (by omega), va_up_ne _ _ (by omega), va_up_ne _ _ (by omega)]; exact b2 j (by omega))) | (refine Or.inr ⟨b1, fun j hj => ?_⟩; exact if e : j = i then (by rw [e, va_up_ne _ _ (by omega), va_up_self, va_up_self, ea, gt.1]; exact ⟨rfl, rfl⟩) else (by rw [va_up_ne _ _ (by omega), va_up_ne _ _ (by omega), va_up_ne _ _ (by omega), va_up_ne _ _ (by omega)]; exact b2 j (by omega)))) (by omega)
    exact L7 (n - 0 + 1) 0 ln (by first | assumption | omega) (by first | exact Or.inl ⟨hby, fun j h => absurd h (Nat.not_lt_zero _)⟩ | exact Or.inr ⟨hby, fun j h => absurd h (Nat.not_lt_zero _)⟩) (Nat.lt_succ_self _)
  · skip
    refine z_to (lv' := [(0, .ref o), (1, .int (iZ (-1)))]) rfl (by rw [hby]) rfl rfl ?_
    refine z_aload_n hk dX2_apart_0 0 rfl (kk := ?_)
    refine z_callV hk [] 0 [(aT, zI (kG κ) 48 tx), (aO, zI (kG κ) 48 oth), (aQ, zI (kG κ) 16 sq), (aL, zI (kG κ) 96 ln)] (ct_X2_many (kL κ) (kG κ) o fs aS st n hF0 (by first | assumption | omega)) q1352 q1354 qs30 q66 q1355 (zSub.ix [0, 1, 2, 3, 4, 5] rfl) 0 2 rfl dX2_apart_1 rfl (kk := fun _ _ => ?_)
    show Z κ 4 [(0, .ref o), (1, .int (iZ (-1)))] [.int (iZ ((n : Nat) : Int))] [(o, zO 2 fs), (aS, zI (kG κ) 819 st), (aT, zI (kG κ) 48 tx), (aO, zI (kG κ) 48 oth), (aQ, zI (kG κ) 16 sq), (aL, zI (kG κ) 96 ln)] 0 0
    refine z_istore_n hk [(2, .int (iZ ((n : Nat) : Int))), (0, .ref o), (1, .int (iZ (-1)))] dX2_apart_4 (kk := ?_)
    refine z_iconst (z := ((0 : Nat) : Int)) hk dX2_apart_5 (kk := ?_)
    refine z_istore_n hk [(3, .int (iZ ((0 : Nat) : Int))), (2, .int (iZ ((n : Nat) : Int))), (0, .ref o), (1, .int (iZ (-1)))] dX2_apart_6 (kk := ?_)
    have L7 : ∀ (f_ : Nat) (i : Nat) (l2 : Nat → Nat), (i ≤ n) → ((by_ = 1 ∧ ∀ j, j < i → l2 j = P (t j) / 4 ∧ l2 (n + j) = P (t j) % 4) ∨ (by_ = -1 ∧ ∀ j, j < i → l2 (2 * j) = P (t j) / 4 ∧ l2 (2 * j + 1) = P (t j) % 4)) → n - i < f_ → Z κ 7 [(3, .int (iZ ((i : Nat) : Int))), (2, .int (iZ ((n : Nat) : Int))), (0, .ref o), (1, .int (iZ (-1)))] [] [(o, zO 2 fs), (aS, zI (kG κ) 819 st), (aT, zI (kG κ) 48 tx), (aO, zI (kG κ) 48 oth), (aQ, zI (kG κ) 16 sq), (aL, zI (kG κ) 96 l2)] 0 0 := by
      intro f_
      induction f_ with
      | zero => intro i l2 hi hln hm_; exact absurd hm_ (Nat.not_lt_zero _)
      | succ f_ ih7 =>
        intro i l2 hi hln hm_
        refine z_iload_n hk dX2_apart_7 0 rfl (kk := ?_)
        refine z_iload_n hk dX2_apart_8 1 rfl (kk := ?_)
        refine z_icmp_ge hk 74 dX2_apart_9 (kt := fun h9 => ?_) (kf := fun h9 => ?_) 
        · skip
          have hl2 : ∀ j, j < 2 * n → l2 j = (if by_ = 1 then lnH P t n j else lnF P t j) := by
            intro j hj
            rcases hln with ⟨b1, b2⟩ | ⟨b1, b2⟩
            · rw [if_pos b1]
              unfold lnH
              by_cases e : j < n
              · rw [if_pos e]; exact (b2 j (by omega)).1
              · rw [if_neg e]
                have := (b2 (j - n) (by omega)).2
                rw [show n + (j - n) = j from by omega] at this
                exact this
            · rw [if_neg (by omega)]
              unfold lnF
              by_cases e : j % 2 = 0
              · rw [if_pos e]
                have := (b2 (j / 2) (by omega)).1
                rw [show 2 * (j / 2) = j from by omega] at this
                exact this
              · rw [if_neg e]
                have := (b2 (j / 2) (by omega)).2
                rw [show 2 * (j / 2) + 1 = j from by omega] at this
                exact this
          have hl4 : ∀ j, j < 2 * n → l2 j < 4 := by
            intro j hj
            rw [hl2 j hj]
            by_cases e1 : by_ = 1
            · rw [if_pos e1]
              unfold lnH
              split
              · have := (hSq.2 _ (hT j (by omega)).2).1; omega
              · omega
            · rw [if_neg e1]
              unfold lnF
              split
              · have := (hSq.2 _ (hT (j / 2) (by omega)).2).1; omega
              · omega
          refine z_iconst (z := ((0 : Nat) : Int)) hk dX2_apart_74 (kk := ?_)
          refine z_istore_n hk [(3, .int (iZ ((0 : Nat) : Int))), (2, .int (iZ ((n : Nat) : Int))), (0, .ref o), (1, .int (iZ (-1)))] dX2_apart_75 (kk := ?_)
          have L76 : ∀ (f_ : Nat) (i : Nat) (o2 : Nat → Nat), (i ≤ n) → (o2 = pP oth (apF sq P t n by_) 0 i) → n - i < f_ → Z κ 76 [(3, .int (iZ ((i : Nat) : Int))), (2, .int (iZ ((n : Nat) : Int))), (0, .ref o), (1, .int (iZ (-1)))] [] [(o, zO 2 fs), (aS, zI (kG κ) 819 st), (aT, zI (kG κ) 48 tx), (aO, zI (kG κ) 48 o2), (aQ, zI (kG κ) 16 sq), (aL, zI (kG κ) 96 l2)] 0 0 := by
            intro f_
            induction f_ with
            | zero => intro i o2 hi ho2 hm_; exact absurd hm_ (Nat.not_lt_zero _)
            | succ f_ ih76 =>
              intro i o2 hi ho2 hm_
              refine z_iload_n hk dX2_apart_76 0 rfl (kk := ?_)
              refine z_iload_n hk dX2_apart_77 1 rfl (kk := ?_)
              refine z_icmp_ge hk 148 dX2_apart_78 (kt := fun h78 => ?_) (kf := fun h78 => ?_) 
              · skip
                exact z_vret hk hR_ (o2, l2) dX2_apart_148 rfl rfl (by (try dsimp only); intro j hj; rw [ho2, pP_in (by omega) (by omega)]; rfl) (zSub.ix [0, 1, 2, 3, 4, 5] rfl)
              · skip
                refine z_aload_n hk dX2_apart_81 2 rfl (kk := ?_)
                refine z_get hk in_X2 0 6 q1286 dX2_apart_82 rfl hF6 (kk := ?_)
                refine z_iload_n hk dX2_apart_85 0 rfl (kk := ?_)
                refine z_iload_n hk dX2_apart_86 3 rfl (kk := ?_)
                refine z_if_le hk 119 dX2_apart_87 (kt := fun h87 => ?_) (kf := fun h87 => ?_) 
                · skip
                  have g1 := hl4 i (by omega)
                  have g2 := hl4 (n + i) (by omega)
                  refine z_aload_n hk dX2_apart_119 2 rfl (kk := ?_)
                  refine z_get hk in_X2 0 7 q1287 dX2_apart_120 rfl hF7 (kk := ?_)
                  refine z_iconst (z := ((4 : Nat) : Int)) hk dX2_apart_123 (kk := ?_)
                  refine z_aload_n hk dX2_apart_124 2 rfl (kk := ?_)
                  refine z_get hk in_X2 0 10 q1290 dX2_apart_125 rfl hF10 (kk := ?_)
                  refine z_iload_n hk dX2_apart_128 0 rfl (kk := ?_)
                  refine z_iald (i := i) hk 5 dX2_apart_129 rfl (kk := ?_) 
                  refine z_imul (z := ((4 * (l2 i) : Nat) : Int)) hk dX2_apart_130 (Int.natCast_mul _ _).symm (kk := ?_)
                  refine z_aload_n hk dX2_apart_131 2 rfl (kk := ?_)
                  refine z_get hk in_X2 0 10 q1290 dX2_apart_132 rfl hF10 (kk := ?_)
                  refine z_iload_n hk dX2_apart_135 1 rfl (kk := ?_)
                  refine z_iload_n hk dX2_apart_136 0 rfl (kk := ?_)
                  refine z_iadd (z := ((n + i : Nat) : Int)) hk dX2_apart_137 (Int.natCast_add _ _).symm (kk := ?_)
                  refine z_iald (i := n + i) hk 5 dX2_apart_138 rfl (kk := ?_) 
                  refine z_iadd (z := (((4 * (l2 i)) + (l2 (n + i)) : Nat) : Int)) hk dX2_apart_139 (Int.natCast_add _ _).symm (kk := ?_)
                  refine z_iald (i := (4 * (l2 i)) + (l2 (n + i))) hk 4 dX2_apart_140 rfl (kk := ?_) 
                  refine z_iast (i := i) hk 3 [(o, zO 2 fs), (aS, zI (kG κ) 819 st), (aT, zI (kG κ) 48 tx), (aO, zI (kG κ) 48 (va_up o2 i (sq ((4 * (l2 i)) + (l2 (n + i)))))), (aQ, zI (kG κ) 16 sq), (aL, zI (kG κ) 96 l2)] dX2_apart_141 rfl  (kk := ?_) 
                  refine z_iinc hk (z' := ((i + 1 : Nat) : Int)) [(3, .int (iZ ((i + 1 : Nat) : Int))), (2, .int (iZ ((n : Nat) : Int))), (0, .ref o), (1, .int (iZ (-1)))] dX2_apart_142 0 rfl (kk := ?_)
                  refine z_goto hk 76 dX2_apart_145 (kk := ?_)
                  exact ih76  (i + 1) (va_up o2 i (sq ((4 * (l2 i)) + (l2 (n + i))))) (by first | assumption | omega) (by rw [ho2]; refine pP_up0 ?_; unfold apF; first | (rw [if_pos (by omega), hl2 _ (by omega), hl2 _ (by omega), if_pos hby, if_pos hby]; done) | (rw [if_neg (by omega), hl2 _ (by omega), hl2 _ (by omega), if_neg (by omega), if_neg (by omega)]; done)) (by omega)
                · skip
                  exfalso; omega
          exact L76 (n - 0 + 1) 0 oth (by first | assumption | omega) (by exact (pP_0 _ _ _).symm) (Nat.lt_succ_self _)
        · skip
          refine z_aload_n hk dX2_apart_12 2 rfl (kk := ?_)
          refine z_aload_n hk dX2_apart_13 2 rfl (kk := ?_)
          refine z_get hk in_X2 0 5 q1285 dX2_apart_14 rfl hF5 (kk := ?_)
          refine z_iload_n hk dX2_apart_17 0 rfl (kk := ?_)
          refine z_iald (i := i) hk 2 dX2_apart_18 rfl (kk := ?_) 
          have gt := hT i (by omega)
          refine z_callV hk [.int (iZ ((tx i : Nat) : Int))] 1 [(aS, zI (kG κ) 819 st), (aT, zI (kG κ) 48 tx), (aO, zI (kG κ) 48 oth), (aL, zI (kG κ) 96 l2)] (ct_X2_placeOf (kL κ) (kG κ) o fs aQ sq P (tx i) hF7 (by first | assumption | omega) (by omega)) q1384 q1386 qs37 q66 q1387 (zSub.ix [0, 4, 1, 2, 3, 5] rfl) 0 2 rfl dX2_apart_19 rfl (kk := fun _ _ => ?_)
          show Z κ 22 [(3, .int (iZ ((i : Nat) : Int))), (2, .int (iZ ((n : Nat) : Int))), (0, .ref o), (1, .int (iZ (-1)))] [.int (iZ (((P (tx i)) : Nat) : Int))] [(o, zO 2 fs), (aQ, zI (kG κ) 16 sq), (aS, zI (kG κ) 819 st), (aT, zI (kG κ) 48 tx), (aO, zI (kG κ) 48 oth), (aL, zI (kG κ) 96 l2)] 0 0
          obtain ⟨a, ea⟩ : ∃ x_ : Nat, x_ = (P (tx i)) := ⟨_, rfl⟩
          refine z_topN a (by rw [ea]) ?_
          have ha : a < 16 := by rw [ea, gt.1]; exact (hSq.2 _ gt.2).1
          refine z_istore hk [(4, .int (iZ ((a : Nat) : Int))), (3, .int (iZ ((i : Nat) : Int))), (2, .int (iZ ((n : Nat) : Int))), (0, .ref o), (1, .int (iZ (-1)))] dX2_apart_22 (kk := ?_)
          refine z_aload_n hk dX2_apart_24 3 rfl (kk := ?_)
          refine z_get hk in_X2 0 10 q1290 dX2_apart_25 rfl hF10 (kk := ?_)
          refine z_iload_n hk dX2_apart_28 4 rfl (kk := ?_)
          refine z_if_le hk 36 dX2_apart_29 (kt := fun h29 => ?_) (kf := fun h29 => ?_) 
          · skip
            refine z_iconst (z := ((2 : Nat) : Int)) hk dX2_apart_36 (kk := ?_)
            refine z_iload_n hk dX2_apart_37 1 rfl (kk := ?_)
            refine z_imul (z := ((2 * i : Nat) : Int)) hk dX2_apart_38 (Int.natCast_mul _ _).symm (kk := ?_)
            refine z_iload hk dX2_apart_39 0 rfl (kk := ?_)
            refine z_iconst (z := ((4 : Nat) : Int)) hk dX2_apart_41 (kk := ?_)
            refine z_idiv (a := a) (b := 4) hk dX2_apart_42 (kk := ?_) 
            refine z_iast (i := 2 * i) hk 5 [(o, zO 2 fs), (aQ, zI (kG κ) 16 sq), (aS, zI (kG κ) 819 st), (aT, zI (kG κ) 48 tx), (aO, zI (kG κ) 48 oth), (aL, zI (kG κ) 96 (va_up l2 (2 * i) (a / 4)))] dX2_apart_43 rfl  (kk := ?_) 
            refine z_aload_n hk dX2_apart_44 3 rfl (kk := ?_)
            refine z_get hk in_X2 0 10 q1290 dX2_apart_45 rfl hF10 (kk := ?_)
            refine z_iload_n hk dX2_apart_48 4 rfl (kk := ?_)
            refine z_if_le hk 58 dX2_apart_49 (kt := fun h49 => ?_) (kf := fun h49 => ?_) 
            · skip
              refine z_iconst (z := ((2 : Nat) : Int)) hk dX2_apart_58 (kk := ?_)
              refine z_iload_n hk dX2_apart_59 1 rfl (kk := ?_)
              refine z_imul (z := ((2 * i : Nat) : Int)) hk dX2_apart_60 (Int.natCast_mul _ _).symm (kk := ?_)
              refine z_iconst (z := ((1 : Nat) : Int)) hk dX2_apart_61 (kk := ?_)
              refine z_iadd (z := (((2 * i) + 1 : Nat) : Int)) hk dX2_apart_62 (Int.natCast_add _ _).symm (kk := ?_)
              refine z_iload hk dX2_apart_63 0 rfl (kk := ?_)
              refine z_iconst (z := ((4 : Nat) : Int)) hk dX2_apart_65 (kk := ?_)
              refine z_irem (a := a) (b := 4) hk dX2_apart_66 (kk := ?_) 
              refine z_iast (i := (2 * i) + 1) hk 5 [(o, zO 2 fs), (aQ, zI (kG κ) 16 sq), (aS, zI (kG κ) 819 st), (aT, zI (kG κ) 48 tx), (aO, zI (kG κ) 48 oth), (aL, zI (kG κ) 96 (va_up (va_up l2 (2 * i) (a / 4)) ((2 * i) + 1) (a % 4)))] dX2_apart_67 rfl  (kk := ?_) 
              refine z_iinc hk (z' := ((i + 1 : Nat) : Int)) [(3, .int (iZ ((i + 1 : Nat) : Int))), (4, .int (iZ ((a : Nat) : Int))), (2, .int (iZ ((n : Nat) : Int))), (0, .ref o), (1, .int (iZ (-1)))] dX2_apart_68 1 rfl (kk := ?_)
              refine z_goto hk 7 dX2_apart_71 (kk := ?_)
              refine z_lvs [0, 2, 3, 4] (lv' := [(3, .int (iZ ((i + 1 : Nat) : Int))), (2, .int (iZ ((n : Nat) : Int))), (0, .ref o), (1, .int (iZ (-1)))]) (kk := ?_)
              refine z_sub (zSub.ix [0, 2, 3, 4, 1, 5] (ws' := [(o, zO 2 fs), (aS, zI (kG κ) 819 st), (aT, zI (kG κ) 48 tx), (aO, zI (kG κ) 48 oth), (aQ, zI (kG κ) 16 sq), (aL, zI (kG κ) 96 (va_up (va_up l2 (2 * i) (a / 4)) ((2 * i) + 1) (a % 4)))]) rfl) ?_
              exact ih7  (i + 1) (va_up (va_up l2 (2 * i) (a / 4)) ((2 * i) + 1) (a % 4)) (by first | assumption | omega) (by rcases hln with ⟨b1, b2⟩ | ⟨b1, b2⟩ <;> first | (exfalso; omega) | (refine Or.inl ⟨b1, fun j hj => ?_⟩; exact if e : j = i then (by rw [e, va_up_ne _ _ (by omega), va_up_self, va_up_self, ea, gt.1]; exact ⟨rfl, rfl⟩) else (by rw [va_up_ne _ _ (by omega), va_up_ne _ _ (by omega), va_up_ne _ _ (by omega), va_up_ne _ _ (by omega)]; exact b2 j (by omega))) | (refine Or.inr ⟨b1, fun j hj => ?_⟩; exact if e : j = i then (by rw [e, va_up_ne _ _ (by omega), va_up_self, va_up_self, ea, gt.1]; exact ⟨rfl, rfl⟩) else (by rw [va_up_ne _ _ (by omega), va_up_ne _ _ (by omega), va_up_ne _ _ (by omega), va_up_ne _ _ (by omega)]; exact b2 j (by omega)))) (by omega)
            · skip
              exfalso; omega
          · skip
            exfalso; omega
    exact L7 (n - 0 + 1) 0 ln (by first | assumption | omega) (by first | exact Or.inl ⟨hby, fun j h => absurd h (Nat.not_lt_zero _)⟩ | exact Or.inr ⟨hby, fun j h => absurd h (Nat.not_lt_zero _)⟩) (Nat.lt_succ_self _)
