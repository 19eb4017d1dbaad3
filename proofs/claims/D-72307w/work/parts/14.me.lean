set_option maxHeartbeats 600000 in
theorem ct_X2_score (l_ : Launch) (G : zG) (o : Nat) (fs : List Value) (aS : Nat) (st : Nat → Nat) (n : Nat) (t : Nat → Nat) (w : Nat → Nat) (s : Nat) (f : Nat) (c : Nat) (hF0 : fs[0]? = some (.ref aS)) (hn : st 48 = n) (hn48 : n ≤ 48) (ht : ∀ j, j < n → st j = t j ∧ t j < 16) (hww : ∀ l, l < 16 → st (56 + l) = w l ∧ w l ≤ 99) (hs8 : 1 ≤ s ∧ s ≤ 8) (hf8 : f < s) (hc : c < 16) :
    Ct l_ G yX2_score cX2_score 6 (some .int) 2 0 0 [.ref o, .int (iZ ((s : Nat) : Int)), .int (iZ ((f : Nat) : Int)), .int (iZ ((c : Nat) : Int))] [(o, zO 2 fs), (aS, zI G 819 st)]
      (fun _u : Unit => some (.int (iZ (((aScore w t n s f c) : Nat) : Int)))) (fun _u : Unit => True) (fun _u : Unit => [(o, zO 2 fs), (aS, zI G 819 st)]) := by
  refine Ct.of (by decide) (Nat.le_of_ble_eq_true rfl) ?_
  intro κ hl_ hG_ hk hR_
  subst hl_
  subst hG_
  show Z κ 0 [(0, .ref o), (1, .int (iZ ((s : Nat) : Int))), (2, .int (iZ ((f : Nat) : Int))), (3, .int (iZ ((c : Nat) : Int)))] [] [(o, zO 2 fs), (aS, zI (kG κ) 819 st)] 0 0
  refine z_iconst (z := ((0 : Nat) : Int)) hk dX2_score_0 (kk := ?_)
  refine z_istore hk [(4, .int (iZ ((0 : Nat) : Int))), (0, .ref o), (1, .int (iZ ((s : Nat) : Int))), (2, .int (iZ ((f : Nat) : Int))), (3, .int (iZ ((c : Nat) : Int)))] dX2_score_1 (kk := ?_)
  refine z_iload_n hk dX2_score_3 3 rfl (kk := ?_)
  refine z_istore hk [(5, .int (iZ ((f : Nat) : Int))), (4, .int (iZ ((0 : Nat) : Int))), (0, .ref o), (1, .int (iZ ((s : Nat) : Int))), (2, .int (iZ ((f : Nat) : Int))), (3, .int (iZ ((c : Nat) : Int)))] dX2_score_4 (kk := ?_)
  have L6 : ∀ (f_ : Nat) (i : Nat) (r : Nat), (∃ g, r + scF w t n s c g i = aScore w t n s f c ∧ n - i ≤ g) → (i < 100) → n - i < f_ → Z κ 6 [(5, .int (iZ ((i : Nat) : Int))), (4, .int (iZ ((r : Nat) : Int))), (0, .ref o), (1, .int (iZ ((s : Nat) : Int))), (2, .int (iZ ((f : Nat) : Int))), (3, .int (iZ ((c : Nat) : Int)))] [] [(o, zO 2 fs), (aS, zI (kG κ) 819 st)] 0 0 := by
    intro f_
    induction f_ with
    | zero => intro i r hg hib hm_; exact absurd hm_ (Nat.not_lt_zero _)
    | succ f_ ih6 =>
      intro i r hg hib hm_
      obtain ⟨g, hg1, hg2⟩ := hg
      have gs := aScore_le (w := w) (t := t) (n := n) (s := s) (f := f) (k := c) (fun l hl => (hww l hl).2) hn48
      refine z_iload hk dX2_score_6 0 rfl (kk := ?_)
      refine z_aload_n hk dX2_score_8 2 rfl (kk := ?_)
      refine z_callV hk [] 0 [] (ct_X2_many (kL κ) (kG κ) o fs aS st n hF0 (by first | assumption | omega)) q1352 q1354 qs30 q66 q1355 (zSub.ix [0, 1] rfl) 0 2 rfl dX2_score_9 rfl (kk := fun _ _ => ?_)
      show Z κ 12 [(5, .int (iZ ((i : Nat) : Int))), (4, .int (iZ ((r : Nat) : Int))), (0, .ref o), (1, .int (iZ ((s : Nat) : Int))), (2, .int (iZ ((f : Nat) : Int))), (3, .int (iZ ((c : Nat) : Int)))] [.int (iZ ((n : Nat) : Int)), .int (iZ ((i : Nat) : Int))] [(o, zO 2 fs), (aS, zI (kG κ) 819 st)] 0 0
      refine z_icmp_ge hk 54 dX2_score_12 (kt := fun h12 => ?_) (kf := fun h12 => ?_) 
      · skip
        refine z_iload hk dX2_score_54 1 rfl (kk := ?_)
        exact z_iret hk hR_ () dX2_score_56 rfl (by rw [← hg1, scF_stop (by omega)]; rfl) (by trivial) (zSub.ix [0, 1] rfl)
      · skip
        refine z_iload hk dX2_score_15 1 rfl (kk := ?_)
        refine z_aload_n hk dX2_score_17 2 rfl (kk := ?_)
        refine z_get hk in_X2 0 0 q1280 dX2_score_18 rfl hF0 (kk := ?_)
        refine z_bipush (z := ((56 : Nat) : Int)) hk dX2_score_21 (kk := ?_)
        refine z_aload_n hk dX2_score_23 2 rfl (kk := ?_)
        refine z_get hk in_X2 0 0 q1280 dX2_score_24 rfl hF0 (kk := ?_)
        refine z_iconst (z := ((0 : Nat) : Int)) hk dX2_score_27 (kk := ?_)
        have gt := ht i (by omega)
        obtain ⟨g2, eg⟩ : ∃ g2, g = g2 + 1 := ⟨g - 1, by omega⟩
        rw [eg, scF, if_pos (by omega)] at hg1
        refine z_iload hk dX2_score_28 0 rfl (kk := ?_)
        refine z_iadd (z := ((i : Nat) : Int)) hk dX2_score_30 (by omega) (kk := ?_)
        refine z_iald (i := i) hk 1 dX2_score_31 rfl (kk := ?_) 
        refine z_iload_n hk dX2_score_32 5 rfl (kk := ?_)
        refine z_isub (z := ((st i : Nat) : Int) - ((c : Nat) : Int)) hk dX2_score_33 (kk := ?_)
        refine z_bipush (z := ((16 : Nat) : Int)) hk dX2_score_34 (kk := ?_)
        refine z_iadd (z := ((st i + 16 - c : Nat) : Int)) hk dX2_score_36 (by omega) (kk := ?_)
        refine z_bipush (z := ((16 : Nat) : Int)) hk dX2_score_37 (kk := ?_)
        refine z_irem (a := st i + 16 - c) (b := 16) hk dX2_score_39 (kk := ?_) 
        refine z_iadd (z := ((56 + ((st i + 16 - c) % 16) : Nat) : Int)) hk dX2_score_40 (Int.natCast_add _ _).symm (kk := ?_)
        have gw : st (56 + (st i + 16 - c) % 16) = scI w t c i := by rw [(hww _ (Nat.mod_lt _ (by omega))).1, gt.1]; rfl
        refine z_iald (i := 56 + ((st i + 16 - c) % 16)) hk 1 dX2_score_41 rfl (kk := ?_) 
        refine z_iadd (z := ((r + (st (56 + ((st i + 16 - c) % 16))) : Nat) : Int)) hk dX2_score_42 (Int.natCast_add _ _).symm (kk := ?_)
        refine z_istore hk [(4, .int (iZ ((r + (st (56 + ((st i + 16 - c) % 16))) : Nat) : Int))), (5, .int (iZ ((i : Nat) : Int))), (0, .ref o), (1, .int (iZ ((s : Nat) : Int))), (2, .int (iZ ((f : Nat) : Int))), (3, .int (iZ ((c : Nat) : Int)))] dX2_score_43 (kk := ?_)
        refine z_iload hk dX2_score_45 1 rfl (kk := ?_)
        refine z_iload_n hk dX2_score_47 3 rfl (kk := ?_)
        refine z_iadd (z := ((i + s : Nat) : Int)) hk dX2_score_48 (Int.natCast_add _ _).symm (kk := ?_)
        refine z_istore hk [(5, .int (iZ ((i + s : Nat) : Int))), (4, .int (iZ ((r + (st (56 + ((st i + 16 - c) % 16))) : Nat) : Int))), (0, .ref o), (1, .int (iZ ((s : Nat) : Int))), (2, .int (iZ ((f : Nat) : Int))), (3, .int (iZ ((c : Nat) : Int)))] dX2_score_49 (kk := ?_)
        refine z_goto hk 6 dX2_score_51 (kk := ?_)
        exact ih6  (i + s) (r + (st (56 + ((st i + 16 - c) % 16)))) (by exact ⟨g2, by rw [gw, Nat.add_assoc]; exact hg1, by omega⟩) (by first | assumption | omega) (by omega)
  exact L6 (n - f + 1) f 0 (by exact ⟨n, by rw [Nat.zero_add]; rfl, by omega⟩) (by first | assumption | omega) (Nat.lt_succ_self _)

set_option maxHeartbeats 600000 in
theorem ct_X2_rankOf (l_ : Launch) (G : zG) (o : Nat) (fs : List Value) (aS : Nat) (st : Nat → Nat) (n : Nat) (t : Nat → Nat) (w : Nat → Nat) (s : Nat) (f : Nat) (c : Nat) (hF0 : fs[0]? = some (.ref aS)) (hn : st 48 = n) (hn48 : n ≤ 48) (ht : ∀ j, j < n → st j = t j ∧ t j < 16) (hww : ∀ l, l < 16 → st (56 + l) = w l ∧ w l ≤ 99) (hs8 : 1 ≤ s ∧ s ≤ 8) (hf8 : f < s) (hc : c < 16) :
    Ct l_ G yX2_rankOf cX2_rankOf 8 (some .int) 3 0 0 [.ref o, .int (iZ ((s : Nat) : Int)), .int (iZ ((f : Nat) : Int)), .int (iZ ((c : Nat) : Int))] [(o, zO 2 fs), (aS, zI G 819 st)]
      (fun _u : Unit => some (.int (iZ (((aRank w t n s f c) : Nat) : Int)))) (fun _u : Unit => True) (fun _u : Unit => [(o, zO 2 fs), (aS, zI G 819 st)]) := by
  refine Ct.of (by decide) (Nat.le_of_ble_eq_true rfl) ?_
  intro κ hl_ hG_ hk hR_
  subst hl_
  subst hG_
  show Z κ 0 [(0, .ref o), (1, .int (iZ ((s : Nat) : Int))), (2, .int (iZ ((f : Nat) : Int))), (3, .int (iZ ((c : Nat) : Int)))] [] [(o, zO 2 fs), (aS, zI (kG κ) 819 st)] 0 0
  refine z_aload_n hk dX2_rankOf_0 0 rfl (kk := ?_)
  refine z_iload_n hk dX2_rankOf_1 1 rfl (kk := ?_)
  refine z_iload_n hk dX2_rankOf_2 2 rfl (kk := ?_)
  refine z_iload_n hk dX2_rankOf_3 3 rfl (kk := ?_)
  refine z_callV hk [.int (iZ ((s : Nat) : Int)), .int (iZ ((f : Nat) : Int)), .int (iZ ((c : Nat) : Int))] 3 [] (ct_X2_score (kL κ) (kG κ) o fs aS st n t w s f c hF0 (by first | assumption | omega) (by first | assumption | omega) (by first | assumption | omega) (by first | assumption | omega) (by first | assumption | omega) (by first | assumption | omega) (by first | assumption | omega)) q1451 q1453 qs47 q66 q1454 (zSub.ix [0, 1] rfl) 0 2 rfl dX2_rankOf_4 rfl (kk := fun _ _ => ?_)
  show Z κ 7 [(0, .ref o), (1, .int (iZ ((s : Nat) : Int))), (2, .int (iZ ((f : Nat) : Int))), (3, .int (iZ ((c : Nat) : Int)))] [.int (iZ (((aScore w t n s f c) : Nat) : Int))] [(o, zO 2 fs), (aS, zI (kG κ) 819 st)] 0 0
  refine z_istore hk [(4, .int (iZ (((aScore w t n s f c) : Nat) : Int))), (0, .ref o), (1, .int (iZ ((s : Nat) : Int))), (2, .int (iZ ((f : Nat) : Int))), (3, .int (iZ ((c : Nat) : Int)))] dX2_rankOf_7 (kk := ?_)
  refine z_iconst (z := ((0 : Nat) : Int)) hk dX2_rankOf_9 (kk := ?_)
  refine z_istore hk [(5, .int (iZ ((0 : Nat) : Int))), (4, .int (iZ (((aScore w t n s f c) : Nat) : Int))), (0, .ref o), (1, .int (iZ ((s : Nat) : Int))), (2, .int (iZ ((f : Nat) : Int))), (3, .int (iZ ((c : Nat) : Int)))] dX2_rankOf_10 (kk := ?_)
  refine z_iconst (z := ((0 : Nat) : Int)) hk dX2_rankOf_12 (kk := ?_)
  refine z_istore hk [(6, .int (iZ ((0 : Nat) : Int))), (5, .int (iZ ((0 : Nat) : Int))), (4, .int (iZ (((aScore w t n s f c) : Nat) : Int))), (0, .ref o), (1, .int (iZ ((s : Nat) : Int))), (2, .int (iZ ((f : Nat) : Int))), (3, .int (iZ ((c : Nat) : Int)))] dX2_rankOf_13 (kk := ?_)
  have L15 : ∀ (f_ : Nat) (j : Nat) (r : Nat), (j ≤ 16) → (r = pC (fun j => decide (aScore w t n s f c < aScore w t n s f j ∨ (aScore w t n s f j = aScore w t n s f c ∧ j < c))) j) → 16 - j < f_ → Z κ 15 [(6, .int (iZ ((j : Nat) : Int))), (5, .int (iZ ((r : Nat) : Int))), (4, .int (iZ (((aScore w t n s f c) : Nat) : Int))), (0, .ref o), (1, .int (iZ ((s : Nat) : Int))), (2, .int (iZ ((f : Nat) : Int))), (3, .int (iZ ((c : Nat) : Int)))] [] [(o, zO 2 fs), (aS, zI (kG κ) 819 st)] 0 0 := by
    intro f_
    induction f_ with
    | zero => intro j r hj hr hm_; exact absurd hm_ (Nat.not_lt_zero _)
    | succ f_ ih15 =>
      intro j r hj hr hm_
      refine z_iload hk dX2_rankOf_15 0 rfl (kk := ?_)
      refine z_bipush (z := ((16 : Nat) : Int)) hk dX2_rankOf_17 (kk := ?_)
      refine z_icmp_ge hk 68 dX2_rankOf_19 (kt := fun h19 => ?_) (kf := fun h19 => ?_) 
      · skip
        refine z_iload hk dX2_rankOf_68 1 rfl (kk := ?_)
        exact z_iret hk hR_ () dX2_rankOf_70 rfl (by rw [hr, show j = 16 from by omega, aRank_pC (fun l hl => (hww l hl).2) hn48]) (by trivial) (zSub.ix [0, 1] rfl)
      · skip
        refine z_aload_n hk dX2_rankOf_22 3 rfl (kk := ?_)
        refine z_iload_n hk dX2_rankOf_23 4 rfl (kk := ?_)
        refine z_iload_n hk dX2_rankOf_24 5 rfl (kk := ?_)
        refine z_iload hk dX2_rankOf_25 0 rfl (kk := ?_)
        refine z_callV hk [.int (iZ ((s : Nat) : Int)), .int (iZ ((f : Nat) : Int)), .int (iZ ((j : Nat) : Int))] 3 [] (ct_X2_score (kL κ) (kG κ) o fs aS st n t w s f j hF0 (by first | assumption | omega) (by first | assumption | omega) (by first | assumption | omega) (by first | assumption | omega) (by first | assumption | omega) (by first | assumption | omega) (by omega)) q1451 q1453 qs47 q66 q1454 (zSub.ix [0, 1] rfl) 0 2 rfl dX2_rankOf_27 rfl (kk := fun _ _ => ?_)
        show Z κ 30 [(6, .int (iZ ((j : Nat) : Int))), (5, .int (iZ ((r : Nat) : Int))), (4, .int (iZ (((aScore w t n s f c) : Nat) : Int))), (0, .ref o), (1, .int (iZ ((s : Nat) : Int))), (2, .int (iZ ((f : Nat) : Int))), (3, .int (iZ ((c : Nat) : Int)))] [.int (iZ (((aScore w t n s f j) : Nat) : Int))] [(o, zO 2 fs), (aS, zI (kG κ) 819 st)] 0 0
        refine z_istore hk [(7, .int (iZ (((aScore w t n s f j) : Nat) : Int))), (6, .int (iZ ((j : Nat) : Int))), (5, .int (iZ ((r : Nat) : Int))), (4, .int (iZ (((aScore w t n s f c) : Nat) : Int))), (0, .ref o), (1, .int (iZ ((s : Nat) : Int))), (2, .int (iZ ((f : Nat) : Int))), (3, .int (iZ ((c : Nat) : Int)))] dX2_rankOf_30 (kk := ?_)
        have gs1 := aScore_le (w := w) (t := t) (n := n) (s := s) (f := f) (k := c) (fun l hl => (hww l hl).2) hn48
        have gs2 := aScore_le (w := w) (t := t) (n := n) (s := s) (f := f) (k := j) (fun l hl => (hww l hl).2) hn48
        refine z_iload hk dX2_rankOf_32 2 rfl (kk := ?_)
        refine z_iload hk dX2_rankOf_34 0 rfl (kk := ?_)
        refine z_iload hk dX2_rankOf_36 3 rfl (kk := ?_)
        refine z_icmp_gt hk 54 dX2_rankOf_38 (kt := fun h38 => ?_) (kf := fun h38 => ?_) 
        · skip
          refine z_iconst (z := ((1 : Nat) : Int)) hk dX2_rankOf_54 (kk := ?_)
          refine z_goto hk 59 dX2_rankOf_55 (kk := ?_)
          refine z_iadd (z := ((r + 1 : Nat) : Int)) hk dX2_rankOf_59 (Int.natCast_add _ _).symm (kk := ?_)
          refine z_istore hk [(5, .int (iZ ((r + 1 : Nat) : Int))), (7, .int (iZ (((aScore w t n s f j) : Nat) : Int))), (6, .int (iZ ((j : Nat) : Int))), (4, .int (iZ (((aScore w t n s f c) : Nat) : Int))), (0, .ref o), (1, .int (iZ ((s : Nat) : Int))), (2, .int (iZ ((f : Nat) : Int))), (3, .int (iZ ((c : Nat) : Int)))] dX2_rankOf_60 (kk := ?_)
          refine z_iinc hk (z' := ((j + 1 : Nat) : Int)) [(6, .int (iZ ((j + 1 : Nat) : Int))), (5, .int (iZ ((r + 1 : Nat) : Int))), (7, .int (iZ (((aScore w t n s f j) : Nat) : Int))), (4, .int (iZ (((aScore w t n s f c) : Nat) : Int))), (0, .ref o), (1, .int (iZ ((s : Nat) : Int))), (2, .int (iZ ((f : Nat) : Int))), (3, .int (iZ ((c : Nat) : Int)))] dX2_rankOf_62 2 rfl (kk := ?_)
          refine z_goto hk 15 dX2_rankOf_65 (kk := ?_)
          refine z_lvs [0, 1, 3, 4, 5, 6, 7] (lv' := [(6, .int (iZ ((j + 1 : Nat) : Int))), (5, .int (iZ ((r + 1 : Nat) : Int))), (4, .int (iZ (((aScore w t n s f c) : Nat) : Int))), (0, .ref o), (1, .int (iZ ((s : Nat) : Int))), (2, .int (iZ ((f : Nat) : Int))), (3, .int (iZ ((c : Nat) : Int)))]) (kk := ?_)
          exact ih15  (j + 1) (r + 1) (by first | assumption | omega) (by first | exact pC_yes hr (decide_eq_true (by omega)) | exact pC_no hr (decide_eq_false (by omega))) (by omega)
        · skip
          refine z_iload hk dX2_rankOf_41 0 rfl (kk := ?_)
          refine z_iload hk dX2_rankOf_43 3 rfl (kk := ?_)
          refine z_icmp_ne hk 58 dX2_rankOf_45 (kt := fun h45 => ?_) (kf := fun h45 => ?_) 
          · skip
            refine z_iconst (z := ((0 : Nat) : Int)) hk dX2_rankOf_58 (kk := ?_)
            refine z_iadd (z := ((r : Nat) : Int)) hk dX2_rankOf_59 (by omega) (kk := ?_)
            refine z_istore hk [(5, .int (iZ ((r : Nat) : Int))), (7, .int (iZ (((aScore w t n s f j) : Nat) : Int))), (6, .int (iZ ((j : Nat) : Int))), (4, .int (iZ (((aScore w t n s f c) : Nat) : Int))), (0, .ref o), (1, .int (iZ ((s : Nat) : Int))), (2, .int (iZ ((f : Nat) : Int))), (3, .int (iZ ((c : Nat) : Int)))] dX2_rankOf_60 (kk := ?_)
            refine z_iinc hk (z' := ((j + 1 : Nat) : Int)) [(6, .int (iZ ((j + 1 : Nat) : Int))), (5, .int (iZ ((r : Nat) : Int))), (7, .int (iZ (((aScore w t n s f j) : Nat) : Int))), (4, .int (iZ (((aScore w t n s f c) : Nat) : Int))), (0, .ref o), (1, .int (iZ ((s : Nat) : Int))), (2, .int (iZ ((f : Nat) : Int))), (3, .int (iZ ((c : Nat) : Int)))] dX2_rankOf_62 2 rfl (kk := ?_)
            refine z_goto hk 15 dX2_rankOf_65 (kk := ?_)
            refine z_lvs [0, 1, 3, 4, 5, 6, 7] (lv' := [(6, .int (iZ ((j + 1 : Nat) : Int))), (5, .int (iZ ((r : Nat) : Int))), (4, .int (iZ (((aScore w t n s f c) : Nat) : Int))), (0, .ref o), (1, .int (iZ ((s : Nat) : Int))), (2, .int (iZ ((f : Nat) : Int))), (3, .int (iZ ((c : Nat) : Int)))]) (kk := ?_)
            exact ih15  (j + 1) r (by first | assumption | omega) (by first | exact pC_yes hr (decide_eq_true (by omega)) | exact pC_no hr (decide_eq_false (by omega))) (by omega)
          · skip
            refine z_iload hk dX2_rankOf_48 1 rfl (kk := ?_)
            refine z_iload_n hk dX2_rankOf_50 7 rfl (kk := ?_)
            refine z_icmp_ge hk 58 dX2_rankOf_51 (kt := fun h51 => ?_) (kf := fun h51 => ?_) 
            · skip
              refine z_iconst (z := ((0 : Nat) : Int)) hk dX2_rankOf_58 (kk := ?_)
              refine z_iadd (z := ((r : Nat) : Int)) hk dX2_rankOf_59 (by omega) (kk := ?_)
              refine z_istore hk [(5, .int (iZ ((r : Nat) : Int))), (7, .int (iZ (((aScore w t n s f j) : Nat) : Int))), (6, .int (iZ ((j : Nat) : Int))), (4, .int (iZ (((aScore w t n s f c) : Nat) : Int))), (0, .ref o), (1, .int (iZ ((s : Nat) : Int))), (2, .int (iZ ((f : Nat) : Int))), (3, .int (iZ ((c : Nat) : Int)))] dX2_rankOf_60 (kk := ?_)
              refine z_iinc hk (z' := ((j + 1 : Nat) : Int)) [(6, .int (iZ ((j + 1 : Nat) : Int))), (5, .int (iZ ((r : Nat) : Int))), (7, .int (iZ (((aScore w t n s f j) : Nat) : Int))), (4, .int (iZ (((aScore w t n s f c) : Nat) : Int))), (0, .ref o), (1, .int (iZ ((s : Nat) : Int))), (2, .int (iZ ((f : Nat) : Int))), (3, .int (iZ ((c : Nat) : Int)))] dX2_rankOf_62 2 rfl (kk := ?_)
              refine z_goto hk 15 dX2_rankOf_65 (kk := ?_)
              refine z_lvs [0, 1, 3, 4, 5, 6, 7] (lv' := [(6, .int (iZ ((j + 1 : Nat) : Int))), (5, .int (iZ ((r : Nat) : Int))), (4, .int (iZ (((aScore w t n s f c) : Nat) : Int))), (0, .ref o), (1, .int (iZ ((s : Nat) : Int))), (2, .int (iZ ((f : Nat) : Int))), (3, .int (iZ ((c : Nat) : Int)))]) (kk := ?_)
              exact ih15  (j + 1) r (by first | assumption | omega) (by first | exact pC_yes hr (decide_eq_true (by omega)) | exact pC_no hr (decide_eq_false (by omega))) (by omega)
            · skip
              refine z_iconst (z := ((1 : Nat) : Int)) hk dX2_rankOf_54 (kk := ?_)
              refine z_goto hk 59 dX2_rankOf_55 (kk := ?_)
              refine z_iadd (z := ((r + 1 : Nat) : Int)) hk dX2_rankOf_59 (Int.natCast_add _ _).symm (kk := ?_)
              refine z_istore hk [(5, .int (iZ ((r + 1 : Nat) : Int))), (7, .int (iZ (((aScore w t n s f j) : Nat) : Int))), (6, .int (iZ ((j : Nat) : Int))), (4, .int (iZ (((aScore w t n s f c) : Nat) : Int))), (0, .ref o), (1, .int (iZ ((s : Nat) : Int))), (2, .int (iZ ((f : Nat) : Int))), (3, .int (iZ ((c : Nat) : Int)))] dX2_rankOf_60 (kk := ?_)
              refine z_iinc hk (z' := ((j + 1 : Nat) : Int)) [(6, .int (iZ ((j + 1 : Nat) : Int))), (5, .int (iZ ((r + 1 : Nat) : Int))), (7, .int (iZ (((aScore w t n s f j) : Nat) : Int))), (4, .int (iZ (((aScore w t n s f c) : Nat) : Int))), (0, .ref o), (1, .int (iZ ((s : Nat) : Int))), (2, .int (iZ ((f : Nat) : Int))), (3, .int (iZ ((c : Nat) : Int)))] dX2_rankOf_62 2 rfl (kk := ?_)
              refine z_goto hk 15 dX2_rankOf_65 (kk := ?_)
              refine z_lvs [0, 1, 3, 4, 5, 6, 7] (lv' := [(6, .int (iZ ((j + 1 : Nat) : Int))), (5, .int (iZ ((r + 1 : Nat) : Int))), (4, .int (iZ (((aScore w t n s f c) : Nat) : Int))), (0, .ref o), (1, .int (iZ ((s : Nat) : Int))), (2, .int (iZ ((f : Nat) : Int))), (3, .int (iZ ((c : Nat) : Int)))]) (kk := ?_)
              exact ih15  (j + 1) (r + 1) (by first | assumption | omega) (by first | exact pC_yes hr (decide_eq_true (by omega)) | exact pC_no hr (decide_eq_false (by omega))) (by omega)
  exact L15 (16 - 0 + 1) 0 0 (by first | assumption | omega) (by rfl) (Nat.lt_succ_self _)

set_option maxHeartbeats 600000 in
theorem ct_X2_shift (l_ : Launch) (G : zG) (o : Nat) (fs : List Value) (aS : Nat) (st : Nat → Nat) (n : Nat) (t : Nat → Nat) (w : Nat → Nat) (s : Int) (f : Int) (i : Int) (what : Int) (hF0 : fs[0]? = some (.ref aS)) (hn : st 48 = n) (hn48 : n ≤ 48) (ht : ∀ j, j < n → st j = t j ∧ t j < 16) (hww : ∀ l, l < 16 → st (56 + l) = w l ∧ w l ≤ 99) (hs : -2147483648 ≤ s ∧ s ≤ 2147483647) (hf : -2147483648 ≤ f ∧ f ≤ 2147483647) (hi : -2147483648 ≤ i ∧ i ≤ 2147483647) (hwh : -2147483648 ≤ what ∧ what ≤ 2147483647) :
    Ct l_ G yX2_shift cX2_shift 6 (some .int) 4 0 0 [.ref o, .int (iZ (s)), .int (iZ (f)), .int (iZ (i)), .int (iZ (what))] [(o, zO 2 fs), (aS, zI G 819 st)]
      (fun _u : Unit => some (.int (iZ (aShift w t n s f i what)))) (fun _u : Unit => True) (fun _u : Unit => [(o, zO 2 fs), (aS, zI G 819 st)]) := by
  refine Ct.of (by decide) (Nat.le_of_ble_eq_true rfl) ?_
  intro κ hl_ hG_ hk hR_
  subst hl_
  subst hG_
  show Z κ 0 [(0, .ref o), (1, .int (iZ (s))), (2, .int (iZ (f))), (3, .int (iZ (i))), (4, .int (iZ (what)))] [] [(o, zO 2 fs), (aS, zI (kG κ) 819 st)] 0 0
  refine z_iload_n hk dX2_shift_0 1 rfl (kk := ?_)
  refine z_iconst (z := ((1 : Nat) : Int)) hk dX2_shift_1 (kk := ?_)
  refine z_bipush (z := ((8 : Nat) : Int)) hk dX2_shift_2 (kk := ?_)
  refine z_callS hk [.int (iZ (s)), .int (iZ ((1 : Nat) : Int)), .int (iZ ((8 : Nat) : Int))] 3 [(o, zO 2 fs), (aS, zI (kG κ) 819 st)] (ct_X2_in (kL κ) (kG κ) s ((1 : Nat) : Int) ((8 : Nat) : Int) (by first | assumption | omega) (by first | assumption | omega) (by first | assumption | omega)) q1322 q1323 q66 q1324 (zSub.ix [0, 1] rfl) dX2_shift_4 rfl (kk := fun u_1 hu4 => ?_)
  obtain ⟨u0_2, rfl⟩ : ∃ z_, z_ = u_1 := ⟨_, rfl⟩
  have hu4 : (u0_2 = 1 ∧ ((1 : Nat) : Int) ≤ s ∧ s ≤ ((8 : Nat) : Int)) ∨ (u0_2 = 0 ∧ ¬ (((1 : Nat) : Int) ≤ s ∧ s ≤ ((8 : Nat) : Int))) := hu4
  show Z κ 7 [(0, .ref o), (1, .int (iZ (s))), (2, .int (iZ (f))), (3, .int (iZ (i))), (4, .int (iZ (what)))] [.int (iZ ((u0_2 : Nat) : Int))] [(o, zO 2 fs), (aS, zI (kG κ) 819 st)] 0 0
  refine z_if_eq hk 41 dX2_shift_7 (kt := fun h7 => ?_) (kf := fun h7 => ?_) 
  · skip
    refine z_bipush (z := -2) hk dX2_shift_41 (kk := ?_)
    exact z_iret hk hR_ () dX2_shift_43 rfl (by unfold aShift; rw [if_neg (by omega)]) (by trivial) (zSub.ix [0, 1] rfl)
  · skip
    refine z_iload_n hk dX2_shift_10 2 rfl (kk := ?_)
    refine z_iconst (z := ((0 : Nat) : Int)) hk dX2_shift_11 (kk := ?_)
    refine z_iload_n hk dX2_shift_12 1 rfl (kk := ?_)
    refine z_iconst (z := ((1 : Nat) : Int)) hk dX2_shift_13 (kk := ?_)
    refine z_isub (z := s - ((1 : Nat) : Int)) hk dX2_shift_14 (kk := ?_)
    refine z_callS hk [.int (iZ (f)), .int (iZ ((0 : Nat) : Int)), .int (iZ (s - ((1 : Nat) : Int)))] 3 [(o, zO 2 fs), (aS, zI (kG κ) 819 st)] (ct_X2_in (kL κ) (kG κ) f ((0 : Nat) : Int) (s - ((1 : Nat) : Int)) (by first | assumption | omega) (by first | assumption | omega) (by first | assumption | omega)) q1322 q1323 q66 q1324 (zSub.ix [0, 1] rfl) dX2_shift_15 rfl (kk := fun u_3 hu15 => ?_)
    obtain ⟨u0_4, rfl⟩ : ∃ z_, z_ = u_3 := ⟨_, rfl⟩
    have hu15 : (u0_4 = 1 ∧ ((0 : Nat) : Int) ≤ f ∧ f ≤ (s - ((1 : Nat) : Int))) ∨ (u0_4 = 0 ∧ ¬ (((0 : Nat) : Int) ≤ f ∧ f ≤ (s - ((1 : Nat) : Int)))) := hu15
    show Z κ 18 [(0, .ref o), (1, .int (iZ (s))), (2, .int (iZ (f))), (3, .int (iZ (i))), (4, .int (iZ (what)))] [.int (iZ ((u0_4 : Nat) : Int))] [(o, zO 2 fs), (aS, zI (kG κ) 819 st)] 0 0
    refine z_if_eq hk 41 dX2_shift_18 (kt := fun h18 => ?_) (kf := fun h18 => ?_) 
    · skip
      refine z_bipush (z := -2) hk dX2_shift_41 (kk := ?_)
      exact z_iret hk hR_ () dX2_shift_43 rfl (by unfold aShift; rw [if_neg (by omega)]) (by trivial) (zSub.ix [0, 1] rfl)
    · skip
      refine z_iload_n hk dX2_shift_21 3 rfl (kk := ?_)
      refine z_iconst (z := ((0 : Nat) : Int)) hk dX2_shift_22 (kk := ?_)
      refine z_bipush (z := ((15 : Nat) : Int)) hk dX2_shift_23 (kk := ?_)
      refine z_callS hk [.int (iZ (i)), .int (iZ ((0 : Nat) : Int)), .int (iZ ((15 : Nat) : Int))] 3 [(o, zO 2 fs), (aS, zI (kG κ) 819 st)] (ct_X2_in (kL κ) (kG κ) i ((0 : Nat) : Int) ((15 : Nat) : Int) (by first | assumption | omega) (by first | assumption | omega) (by first | assumption | omega)) q1322 q1323 q66 q1324 (zSub.ix [0, 1] rfl) dX2_shift_25 rfl (kk := fun u_5 hu25 => ?_)
      obtain ⟨u0_6, rfl⟩ : ∃ z_, z_ = u_5 := ⟨_, rfl⟩
      have hu25 : (u0_6 = 1 ∧ ((0 : Nat) : Int) ≤ i ∧ i ≤ ((15 : Nat) : Int)) ∨ (u0_6 = 0 ∧ ¬ (((0 : Nat) : Int) ≤ i ∧ i ≤ ((15 : Nat) : Int))) := hu25
      show Z κ 28 [(0, .ref o), (1, .int (iZ (s))), (2, .int (iZ (f))), (3, .int (iZ (i))), (4, .int (iZ (what)))] [.int (iZ ((u0_6 : Nat) : Int))] [(o, zO 2 fs), (aS, zI (kG κ) 819 st)] 0 0
      refine z_if_eq hk 41 dX2_shift_28 (kt := fun h28 => ?_) (kf := fun h28 => ?_) 
      · skip
        refine z_bipush (z := -2) hk dX2_shift_41 (kk := ?_)
        exact z_iret hk hR_ () dX2_shift_43 rfl (by unfold aShift; rw [if_neg (by omega)]) (by trivial) (zSub.ix [0, 1] rfl)
      · skip
        refine z_iload hk dX2_shift_31 4 rfl (kk := ?_)
        refine z_iconst (z := ((0 : Nat) : Int)) hk dX2_shift_33 (kk := ?_)
        refine z_iconst (z := ((1 : Nat) : Int)) hk dX2_shift_34 (kk := ?_)
        refine z_callS hk [.int (iZ (what)), .int (iZ ((0 : Nat) : Int)), .int (iZ ((1 : Nat) : Int))] 3 [(o, zO 2 fs), (aS, zI (kG κ) 819 st)] (ct_X2_in (kL κ) (kG κ) what ((0 : Nat) : Int) ((1 : Nat) : Int) (by first | assumption | omega) (by first | assumption | omega) (by first | assumption | omega)) q1322 q1323 q66 q1324 (zSub.ix [0, 1] rfl) dX2_shift_35 rfl (kk := fun u_7 hu35 => ?_)
        obtain ⟨u0_8, rfl⟩ : ∃ z_, z_ = u_7 := ⟨_, rfl⟩
        have hu35 : (u0_8 = 1 ∧ ((0 : Nat) : Int) ≤ what ∧ what ≤ ((1 : Nat) : Int)) ∨ (u0_8 = 0 ∧ ¬ (((0 : Nat) : Int) ≤ what ∧ what ≤ ((1 : Nat) : Int))) := hu35
        show Z κ 38 [(0, .ref o), (1, .int (iZ (s))), (2, .int (iZ (f))), (3, .int (iZ (i))), (4, .int (iZ (what)))] [.int (iZ ((u0_8 : Nat) : Int))] [(o, zO 2 fs), (aS, zI (kG κ) 819 st)] 0 0
        refine z_if_ne hk 44 dX2_shift_38 (kt := fun h38 => ?_) (kf := fun h38 => ?_) 
        · skip
          obtain ⟨K, eK⟩ : ∃ K, K = aShK w t n s.toNat f.toNat i.toNat := ⟨_, rfl⟩
          have gK := aShK_ok (w := w) (t := t) (n := n) (s := s.toNat) (f := f.toNat) (i := i.toNat) (by omega)
          rw [← eK] at gK
          refine z_to (lv' := [(0, .ref o), (1, .int (iZ ((s.toNat : Nat) : Int))), (2, .int (iZ ((f.toNat : Nat) : Int))), (3, .int (iZ ((i.toNat : Nat) : Int))), (4, .int (iZ (what)))]) rfl (by rw [show ((s.toNat : Nat) : Int) = s from by omega, show ((f.toNat : Nat) : Int) = f from by omega, show ((i.toNat : Nat) : Int) = i from by omega]) rfl rfl ?_
          refine z_iconst (z := ((0 : Nat) : Int)) hk dX2_shift_44 (kk := ?_)
          refine z_istore hk [(5, .int (iZ ((0 : Nat) : Int))), (0, .ref o), (1, .int (iZ ((s.toNat : Nat) : Int))), (2, .int (iZ ((f.toNat : Nat) : Int))), (3, .int (iZ ((i.toNat : Nat) : Int))), (4, .int (iZ (what)))] dX2_shift_45 (kk := ?_)
          have L47 : ∀ (f_ : Nat) (c : Nat), (c ≤ K) → K - c < f_ → Z κ 47 [(5, .int (iZ ((c : Nat) : Int))), (0, .ref o), (1, .int (iZ ((s.toNat : Nat) : Int))), (2, .int (iZ ((f.toNat : Nat) : Int))), (3, .int (iZ ((i.toNat : Nat) : Int))), (4, .int (iZ (what)))] [] [(o, zO 2 fs), (aS, zI (kG κ) 819 st)] 0 0 := by
            intro f_
            induction f_ with
            | zero => intro c hc hm_; exact absurd hm_ (Nat.not_lt_zero _)
            | succ f_ ih47 =>
              intro c hc hm_
              refine z_aload_n hk dX2_shift_47 1 rfl (kk := ?_)
              refine z_iload_n hk dX2_shift_48 2 rfl (kk := ?_)
              refine z_iload_n hk dX2_shift_49 3 rfl (kk := ?_)
              refine z_iload hk dX2_shift_50 0 rfl (kk := ?_)
              refine z_callV hk [.int (iZ ((s.toNat : Nat) : Int)), .int (iZ ((f.toNat : Nat) : Int)), .int (iZ ((c : Nat) : Int))] 3 [] (ct_X2_rankOf (kL κ) (kG κ) o fs aS st n t w s.toNat f.toNat c hF0 (by first | assumption | omega) (by first | assumption | omega) (by first | assumption | omega) (by first | assumption | omega) (by omega) (by omega) (by omega)) q1447 q1449 qs46 q66 q1450 (zSub.ix [0, 1] rfl) 0 2 rfl dX2_shift_52 rfl (kk := fun _ _ => ?_)
              show Z κ 55 [(5, .int (iZ ((c : Nat) : Int))), (0, .ref o), (1, .int (iZ ((s.toNat : Nat) : Int))), (2, .int (iZ ((f.toNat : Nat) : Int))), (3, .int (iZ ((i.toNat : Nat) : Int))), (4, .int (iZ (what)))] [.int (iZ (((aRank w t n s.toNat f.toNat c) : Nat) : Int))] [(o, zO 2 fs), (aS, zI (kG κ) 819 st)] 0 0
              have gr : aRank w t n s.toNat f.toNat c ≤ 16 := pC_le _ _
              refine z_iload_n hk dX2_shift_55 4 rfl (kk := ?_)
              refine z_icmp_eq hk 65 dX2_shift_56 (kt := fun h56 => ?_) (kf := fun h56 => ?_) 
              · skip
                have gc : c = K := by rw [eK]; exact aShK_one (by omega) (by omega) (by omega)
                refine z_iload hk dX2_shift_65 5 rfl (kk := ?_)
                refine z_if_ne hk 75 dX2_shift_67 (kt := fun h67 => ?_) (kf := fun h67 => ?_) 
                · skip
                  refine z_aload_n hk dX2_shift_75 1 rfl (kk := ?_)
                  refine z_iload_n hk dX2_shift_76 2 rfl (kk := ?_)
                  refine z_iload_n hk dX2_shift_77 3 rfl (kk := ?_)
                  refine z_iload hk dX2_shift_78 0 rfl (kk := ?_)
                  refine z_callV hk [.int (iZ ((s.toNat : Nat) : Int)), .int (iZ ((f.toNat : Nat) : Int)), .int (iZ ((c : Nat) : Int))] 3 [] (ct_X2_score (kL κ) (kG κ) o fs aS st n t w s.toNat f.toNat c hF0 (by first | assumption | omega) (by first | assumption | omega) (by first | assumption | omega) (by first | assumption | omega) (by omega) (by omega) (by omega)) q1451 q1453 qs47 q66 q1454 (zSub.ix [0, 1] rfl) 0 2 rfl dX2_shift_80 rfl (kk := fun _ _ => ?_)
                  show Z κ 83 [(5, .int (iZ ((c : Nat) : Int))), (0, .ref o), (1, .int (iZ ((s.toNat : Nat) : Int))), (2, .int (iZ ((f.toNat : Nat) : Int))), (3, .int (iZ ((i.toNat : Nat) : Int))), (4, .int (iZ (what)))] [.int (iZ (((aScore w t n s.toNat f.toNat c) : Nat) : Int))] [(o, zO 2 fs), (aS, zI (kG κ) 819 st)] 0 0
                  exact z_iret hk hR_ () dX2_shift_83 rfl (by unfold aShift; rw [if_pos (by omega)]; first | (rw [if_pos (by omega), ← eK, gc]; done) | (rw [if_neg (by omega), ← eK, gc]; done)) (by trivial) (zSub.ix [0, 1] rfl)
                · skip
                  refine z_iload hk dX2_shift_70 0 rfl (kk := ?_)
                  refine z_goto hk 83 dX2_shift_72 (kk := ?_)
                  exact z_iret hk hR_ () dX2_shift_83 rfl (by unfold aShift; rw [if_pos (by omega)]; first | (rw [if_pos (by omega), ← eK, gc]; done) | (rw [if_neg (by omega), ← eK, gc]; done)) (by trivial) (zSub.ix [0, 1] rfl)
              · skip
                have e1 : c ≠ K := (fun e => h56 (by rw [e, gK.2]))
                refine z_iinc hk (z' := ((c + 1 : Nat) : Int)) [(5, .int (iZ ((c + 1 : Nat) : Int))), (0, .ref o), (1, .int (iZ ((s.toNat : Nat) : Int))), (2, .int (iZ ((f.toNat : Nat) : Int))), (3, .int (iZ ((i.toNat : Nat) : Int))), (4, .int (iZ (what)))] dX2_shift_59 0 rfl (kk := ?_)
                refine z_goto hk 47 dX2_shift_62 (kk := ?_)
                exact ih47  (c + 1) (by first | assumption | omega) (by omega)
          exact L47 (K - 0 + 1) 0 (by first | assumption | omega) (Nat.lt_succ_self _)
        · skip
          refine z_bipush (z := -2) hk dX2_shift_41 (kk := ?_)
          exact z_iret hk hR_ () dX2_shift_43 rfl (by unfold aShift; rw [if_neg (by omega)]) (by trivial) (zSub.ix [0, 1] rfl)

set_option maxHeartbeats 600000 in
theorem ct_X2_goodOf (l_ : Launch) (G : zG) (o : Nat) (fs : List Value) (aS : Nat) (st : Nat → Nat) (n : Nat) (lk : Nat → Nat) (aX : Nat) (f : Nat → Nat) (g : Nat → Nat) (hF0 : fs[0]? = some (.ref aS)) (hn : st 48 = n) (hn48 : n ≤ 48) (hlk : ∀ q, q < 256 → st (72 + q) = lk q ∧ lk q ≤ 1) (hfg : ∀ j, j < n → f j = g j ∧ g j < 16) :
    Ct l_ G yX2_goodOf cX2_goodOf 4 (some .int) 2 0 0 [.ref o, .ref aX] [(o, zO 2 fs), (aS, zI G 819 st), (aX, zI G 48 f)]
      (fun _u : Unit => some (.int (iZ (((aGood lk g n) : Nat) : Int)))) (fun _u : Unit => True) (fun _u : Unit => [(o, zO 2 fs), (aS, zI G 819 st), (aX, zI G 48 f)]) := by
  refine Ct.of (by decide) (Nat.le_of_ble_eq_true rfl) ?_
  intro κ hl_ hG_ hk hR_
  subst hl_
  subst hG_
  show Z κ 0 [(0, .ref o), (1, .ref aX)] [] [(o, zO 2 fs), (aS, zI (kG κ) 819 st), (aX, zI (kG κ) 48 f)] 0 0
  refine z_iconst (z := ((0 : Nat) : Int)) hk dX2_goodOf_0 (kk := ?_)
  refine z_istore_n hk [(2, .int (iZ ((0 : Nat) : Int))), (0, .ref o), (1, .ref aX)] dX2_goodOf_1 (kk := ?_)
  refine z_iconst (z := ((0 : Nat) : Int)) hk dX2_goodOf_2 (kk := ?_)
  refine z_istore_n hk [(3, .int (iZ ((0 : Nat) : Int))), (2, .int (iZ ((0 : Nat) : Int))), (0, .ref o), (1, .ref aX)] dX2_goodOf_3 (kk := ?_)
  have L4 : ∀ (f_ : Nat) (i : Nat) (r : Nat), (i ≤ n - 1) → (r = pS (fun j => lk (16 * g j + g (j + 1))) i) → n - i < f_ → Z κ 4 [(3, .int (iZ ((i : Nat) : Int))), (2, .int (iZ ((r : Nat) : Int))), (0, .ref o), (1, .ref aX)] [] [(o, zO 2 fs), (aS, zI (kG κ) 819 st), (aX, zI (kG κ) 48 f)] 0 0 := by
    intro f_
    induction f_ with
    | zero => intro i r hi hr hm_; exact absurd hm_ (Nat.not_lt_zero _)
    | succ f_ ih4 =>
      intro i r hi hr hm_
      refine z_iload_n hk dX2_goodOf_4 0 rfl (kk := ?_)
      refine z_iconst (z := ((1 : Nat) : Int)) hk dX2_goodOf_5 (kk := ?_)
      refine z_iadd (z := ((i + 1 : Nat) : Int)) hk dX2_goodOf_6 (Int.natCast_add _ _).symm (kk := ?_)
      refine z_aload_n hk dX2_goodOf_7 2 rfl (kk := ?_)
      refine z_callV hk [] 0 [(aX, zI (kG κ) 48 f)] (ct_X2_many (kL κ) (kG κ) o fs aS st n hF0 (by first | assumption | omega)) q1352 q1354 qs30 q66 q1355 (zSub.ix [0, 1, 2] rfl) 0 2 rfl dX2_goodOf_8 rfl (kk := fun _ _ => ?_)
      show Z κ 11 [(3, .int (iZ ((i : Nat) : Int))), (2, .int (iZ ((r : Nat) : Int))), (0, .ref o), (1, .ref aX)] [.int (iZ ((n : Nat) : Int)), .int (iZ ((i + 1 : Nat) : Int))] [(o, zO 2 fs), (aS, zI (kG κ) 819 st), (aX, zI (kG κ) 48 f)] 0 0
      refine z_icmp_ge hk 43 dX2_goodOf_11 (kt := fun h11 => ?_) (kf := fun h11 => ?_) 
      · skip
        refine z_iload_n hk dX2_goodOf_43 1 rfl (kk := ?_)
        exact z_iret hk hR_ () dX2_goodOf_44 rfl (by unfold aGood; rw [hr, show i = n - 1 from by omega]) (by trivial) (zSub.ix [0, 1, 2] rfl)
      · skip
        have g1 := hfg i (by omega)
        have g2 := hfg (i + 1) (by omega)
        refine z_iload_n hk dX2_goodOf_14 1 rfl (kk := ?_)
        refine z_aload_n hk dX2_goodOf_15 2 rfl (kk := ?_)
        refine z_get hk in_X2 0 0 q1280 dX2_goodOf_16 rfl hF0 (kk := ?_)
        refine z_bipush (z := ((72 : Nat) : Int)) hk dX2_goodOf_19 (kk := ?_)
        refine z_bipush (z := ((16 : Nat) : Int)) hk dX2_goodOf_21 (kk := ?_)
        refine z_aload_n hk dX2_goodOf_23 3 rfl (kk := ?_)
        refine z_iload_n hk dX2_goodOf_24 0 rfl (kk := ?_)
        refine z_iald (i := i) hk 2 dX2_goodOf_25 rfl (kk := ?_) 
        refine z_imul (z := ((16 * (f i) : Nat) : Int)) hk dX2_goodOf_26 (Int.natCast_mul _ _).symm (kk := ?_)
        refine z_iadd (z := ((72 + (16 * (f i)) : Nat) : Int)) hk dX2_goodOf_27 (Int.natCast_add _ _).symm (kk := ?_)
        refine z_aload_n hk dX2_goodOf_28 3 rfl (kk := ?_)
        refine z_iload_n hk dX2_goodOf_29 0 rfl (kk := ?_)
        refine z_iconst (z := ((1 : Nat) : Int)) hk dX2_goodOf_30 (kk := ?_)
        refine z_iadd (z := ((i + 1 : Nat) : Int)) hk dX2_goodOf_31 (Int.natCast_add _ _).symm (kk := ?_)
        refine z_iald (i := i + 1) hk 2 dX2_goodOf_32 rfl (kk := ?_) 
        refine z_iadd (z := (((72 + (16 * (f i))) + (f (i + 1)) : Nat) : Int)) hk dX2_goodOf_33 (Int.natCast_add _ _).symm (kk := ?_)
        refine z_topN (72 + (16 * f i + f (i + 1))) (by omega) ?_
        have gl := hlk (16 * f i + f (i + 1)) (by omega)
        refine z_iald (i := 72 + (16 * f i + f (i + 1))) hk 1 dX2_goodOf_34 rfl (kk := ?_) 
        refine z_iadd (z := ((r + (st (72 + (16 * f i + f (i + 1)))) : Nat) : Int)) hk dX2_goodOf_35 (Int.natCast_add _ _).symm (kk := ?_)
        refine z_istore_n hk [(2, .int (iZ ((r + (st (72 + (16 * f i + f (i + 1)))) : Nat) : Int))), (3, .int (iZ ((i : Nat) : Int))), (0, .ref o), (1, .ref aX)] dX2_goodOf_36 (kk := ?_)
        refine z_iinc hk (z' := ((i + 1 : Nat) : Int)) [(3, .int (iZ ((i + 1 : Nat) : Int))), (2, .int (iZ ((r + (st (72 + (16 * f i + f (i + 1)))) : Nat) : Int))), (0, .ref o), (1, .ref aX)] dX2_goodOf_37 1 rfl (kk := ?_)
        refine z_goto hk 4 dX2_goodOf_40 (kk := ?_)
        exact ih4  (i + 1) (r + (st (72 + (16 * f i + f (i + 1))))) (by first | assumption | omega) (by rw [gl.1, pS_s, ← hr, g1.1, g2.1]) (by omega)
  exact L4 (n - 0 + 1) 0 0 (by first | assumption | omega) (by rfl) (Nat.lt_succ_self _)

set_option maxHeartbeats 600000 in
theorem ct_X2_layText (l_ : Launch) (G : zG) (o : Nat) (fs : List Value) (aS : Nat) (aT : Nat) (st : Nat → Nat) (n : Nat) (t : Nat → Nat) (tx : Nat → Nat) (hF0 : fs[0]? = some (.ref aS)) (hF5 : fs[5]? = some (.ref aT)) (hn : st 48 = n) (hn48 : n ≤ 48) (ht : ∀ j, j < n → st j = t j ∧ t j < 16) :
    Ct l_ G yX2_layText cX2_layText 2 none 2 0 0 [.ref o] [(o, zO 2 fs), (aS, zI G 819 st), (aT, zI G 48 tx)]
      (fun u : Nat → Nat => none) (fun u : Nat → Nat => ∀ j, j < n → u j = t j ∧ t j < 16) (fun u : Nat → Nat => [(o, zO 2 fs), (aS, zI G 819 st), (aT, zI G 48 u)]) := by
  refine Ct.of (by decide) (Nat.le_of_ble_eq_true rfl) ?_
  intro κ hl_ hG_ hk hR_
  subst hl_
  subst hG_
  show Z κ 0 [(0, .ref o)] [] [(o, zO 2 fs), (aS, zI (kG κ) 819 st), (aT, zI (kG κ) 48 tx)] 0 0
  refine z_iconst (z := ((0 : Nat) : Int)) hk dX2_layText_0 (kk := ?_)
  refine z_istore_n hk [(1, .int (iZ ((0 : Nat) : Int))), (0, .ref o)] dX2_layText_1 (kk := ?_)
  have L2 : ∀ (f_ : Nat) (i : Nat) (tx2 : Nat → Nat), (i ≤ n) → (∀ j, j < i → tx2 j = t j) → n - i < f_ → Z κ 2 [(1, .int (iZ ((i : Nat) : Int))), (0, .ref o)] [] [(o, zO 2 fs), (aS, zI (kG κ) 819 st), (aT, zI (kG κ) 48 tx2)] 0 0 := by
    intro f_
    induction f_ with
    | zero => intro i tx2 hi hT2 hm_; exact absurd hm_ (Nat.not_lt_zero _)
    | succ f_ ih2 =>
      intro i tx2 hi hT2 hm_
      refine z_iload_n hk dX2_layText_2 0 rfl (kk := ?_)
      refine z_aload_n hk dX2_layText_3 1 rfl (kk := ?_)
      refine z_callV hk [] 0 [(aT, zI (kG κ) 48 tx2)] (ct_X2_many (kL κ) (kG κ) o fs aS st n hF0 (by first | assumption | omega)) q1352 q1354 qs30 q66 q1355 (zSub.ix [0, 1, 2] rfl) 0 2 rfl dX2_layText_4 rfl (kk := fun _ _ => ?_)
      show Z κ 7 [(1, .int (iZ ((i : Nat) : Int))), (0, .ref o)] [.int (iZ ((n : Nat) : Int)), .int (iZ ((i : Nat) : Int))] [(o, zO 2 fs), (aS, zI (kG κ) 819 st), (aT, zI (kG κ) 48 tx2)] 0 0
      refine z_icmp_ge hk 30 dX2_layText_7 (kt := fun h7 => ?_) (kf := fun h7 => ?_) 
      · skip
        exact z_vret hk hR_ tx2 dX2_layText_30 rfl rfl (by exact fun j hj => ⟨hT2 j (by omega), (ht j hj).2⟩) (zSub.ix [0, 1, 2] rfl)
      · skip
        refine z_aload_n hk dX2_layText_10 1 rfl (kk := ?_)
        refine z_get hk in_X2 0 5 q1285 dX2_layText_11 rfl hF5 (kk := ?_)
        refine z_iload_n hk dX2_layText_14 0 rfl (kk := ?_)
        refine z_aload_n hk dX2_layText_15 1 rfl (kk := ?_)
        refine z_get hk in_X2 0 0 q1280 dX2_layText_16 rfl hF0 (kk := ?_)
        refine z_iconst (z := ((0 : Nat) : Int)) hk dX2_layText_19 (kk := ?_)
        refine z_iload_n hk dX2_layText_20 0 rfl (kk := ?_)
        refine z_iadd (z := ((i : Nat) : Int)) hk dX2_layText_21 (by omega) (kk := ?_)
        refine z_iald (i := i) hk 1 dX2_layText_22 rfl (kk := ?_) 
        refine z_iast (i := i) hk 2 [(o, zO 2 fs), (aS, zI (kG κ) 819 st), (aT, zI (kG κ) 48 (va_up tx2 i (st i)))] dX2_layText_23 rfl  (kk := ?_) 
        refine z_iinc hk (z' := ((i + 1 : Nat) : Int)) [(1, .int (iZ ((i + 1 : Nat) : Int))), (0, .ref o)] dX2_layText_24 0 rfl (kk := ?_)
        refine z_goto hk 2 dX2_layText_27 (kk := ?_)
        exact ih2  (i + 1) (va_up tx2 i (st i)) (by first | assumption | omega) (by intro j hj; exact if e : j = i then (by rw [e, va_up_self]; exact (ht i (by omega)).1) else (by rw [va_up_ne _ _ e]; exact hT2 j (by omega))) (by omega)
  exact L2 (n - 0 + 1) 0 tx (by first | assumption | omega) (by intro j h; exact absurd h (Nat.not_lt_zero _)) (Nat.lt_succ_self _)

set_option maxHeartbeats 600000 in
theorem ct_X2_good (l_ : Launch) (G : zG) (o : Nat) (fs : List Value) (aS : Nat) (aT : Nat) (st : Nat → Nat) (n : Nat) (t : Nat → Nat) (lk : Nat → Nat) (tx : Nat → Nat) (hF0 : fs[0]? = some (.ref aS)) (hF5 : fs[5]? = some (.ref aT)) (hn : st 48 = n) (hn48 : n ≤ 48) (ht : ∀ j, j < n → st j = t j ∧ t j < 16) (hlk : ∀ q, q < 256 → st (72 + q) = lk q ∧ lk q ≤ 1) :
    Ct l_ G yX2_good cX2_good 1 (some .int) 3 0 0 [.ref o] [(o, zO 2 fs), (aS, zI G 819 st), (aT, zI G 48 tx)]
      (fun u : Nat → Nat => some (.int (iZ (((aGood lk t n) : Nat) : Int)))) (fun u : Nat → Nat => True) (fun u : Nat → Nat => [(o, zO 2 fs), (aS, zI G 819 st), (aT, zI G 48 u)]) := by
  refine Ct.of (by decide) (Nat.le_of_ble_eq_true rfl) ?_
  intro κ hl_ hG_ hk hR_
  subst hl_
  subst hG_
  show Z κ 0 [(0, .ref o)] [] [(o, zO 2 fs), (aS, zI (kG κ) 819 st), (aT, zI (kG κ) 48 tx)] 0 0
  refine z_aload_n hk dX2_good_0 0 rfl (kk := ?_)
  refine z_callV hk [] 0 [] (ct_X2_layText (kL κ) (kG κ) o fs aS aT st n t tx hF0 hF5 (by first | assumption | omega) (by first | assumption | omega) (by first | assumption | omega)) q1459 q1461 qs48 q66 q1462 (zSub.ix [0, 1, 2] rfl) 0 2 rfl dX2_good_1 rfl (kk := fun u_1 hu1 => ?_)
  obtain ⟨tx2_2, rfl⟩ : ∃ z_, z_ = u_1 := ⟨_, rfl⟩
  have hu1 : ∀ j, j < n → tx2_2 j = t j ∧ t j < 16 := hu1
  show Z κ 4 [(0, .ref o)] [] [(o, zO 2 fs), (aS, zI (kG κ) 819 st), (aT, zI (kG κ) 48 tx2_2)] 0 0
  refine z_aload_n hk dX2_good_4 0 rfl (kk := ?_)
  refine z_aload_n hk dX2_good_5 0 rfl (kk := ?_)
  refine z_get hk in_X2 0 5 q1285 dX2_good_6 rfl hF5 (kk := ?_)
  refine z_callV hk [.ref aT] 1 [] (ct_X2_goodOf (kL κ) (kG κ) o fs aS st n lk aT tx2_2 t hF0 (by first | assumption | omega) (by first | assumption | omega) (by first | assumption | omega) (by first | assumption | omega)) q1463 q1465 qs49 q66 q1466 (zSub.ix [0, 1, 2] rfl) 0 2 rfl dX2_good_9 rfl (kk := fun _ _ => ?_)
  show Z κ 12 [(0, .ref o)] [.int (iZ (((aGood lk t n) : Nat) : Int))] [(o, zO 2 fs), (aS, zI (kG κ) 819 st), (aT, zI (kG κ) 48 tx2_2)] 0 0
  exact z_iret hk hR_ tx2_2 dX2_good_12 rfl rfl (by trivial) (zSub.ix [0, 1, 2] rfl)
