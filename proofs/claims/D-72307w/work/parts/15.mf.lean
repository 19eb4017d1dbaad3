set_option maxHeartbeats 600000 in
theorem ct_X2_layOrder (l_ : Launch) (G : zG) (o : Nat) (fs : List Value) (aR : Nat) (oc : Nat → Nat) (num : Nat) (nc : Nat) (Lf : List Nat) (hF8 : fs[8]? = some (.ref aR)) (hc6 : 1 ≤ nc ∧ nc ≤ 6) (hnum : num ≤ 1000) (hlay : layO num nc = some Lf) :
    Ct l_ G yX2_layOrder cX2_layOrder 8 none 1 0 0 [.ref o, .int (iZ ((num : Nat) : Int)), .int (iZ ((nc : Nat) : Int))] [(o, zO 2 fs), (aR, zI G 6 oc)]
      (fun u : Nat → Nat => none) (fun u : Nat → Nat => ∀ j, j < nc → u j = lxF Lf j) (fun u : Nat → Nat => [(o, zO 2 fs), (aR, zI G 6 u)]) := by
  refine Ct.of (by decide) (Nat.le_of_ble_eq_true rfl) ?_
  intro κ hl_ hG_ hk hR_
  subst hl_
  subst hG_
  show Z κ 0 [(0, .ref o), (1, .int (iZ ((num : Nat) : Int))), (2, .int (iZ ((nc : Nat) : Int)))] [] [(o, zO 2 fs), (aR, zI (kG κ) 6 oc)] 0 0
  obtain ⟨lE, hLE⟩ := layO_some hlay
  have g64 := pow6 hc6.2
  obtain ⟨B, eB⟩ : ∃ B : Nat, B = 2 ^ nc := ⟨_, rfl⟩
  refine z_iload_n hk dX2_layOrder_0 1 rfl (kk := ?_)
  refine z_istore_n hk [(3, .int (iZ ((num : Nat) : Int))), (0, .ref o), (1, .int (iZ ((num : Nat) : Int))), (2, .int (iZ ((nc : Nat) : Int)))] dX2_layOrder_1 (kk := ?_)
  refine z_iload_n hk dX2_layOrder_2 3 rfl (kk := ?_)
  refine z_iconst (z := ((1 : Nat) : Int)) hk dX2_layOrder_3 (kk := ?_)
  refine z_isub (z := ((nc : Nat) : Int) - ((1 : Nat) : Int)) hk dX2_layOrder_4 (kk := ?_)
  refine z_istore hk [(4, .int (iZ (((nc : Nat) : Int) - ((1 : Nat) : Int)))), (3, .int (iZ ((num : Nat) : Int))), (0, .ref o), (1, .int (iZ ((num : Nat) : Int))), (2, .int (iZ ((nc : Nat) : Int)))] dX2_layOrder_5 (kk := ?_)
  have L7 : ∀ (f_ : Nat) (kz : Int) (rs : Nat) (o2 : Nat → Nat), (∃ j : Nat, j ≤ nc ∧ kz = (nc : Int) - 1 - j ∧ rs = dgR num j ∧ rs ≤ 1000 ∧ ∀ q, nc - j ≤ q → q < nc → o2 q = dgF num nc q) → (kz + 1).toNat < f_ → Z κ 7 [(4, .int (iZ (kz))), (3, .int (iZ ((rs : Nat) : Int))), (0, .ref o), (1, .int (iZ ((num : Nat) : Int))), (2, .int (iZ ((nc : Nat) : Int)))] [] [(o, zO 2 fs), (aR, zI (kG κ) 6 o2)] 0 0 := by
    intro f_
    induction f_ with
    | zero => intro kz rs o2 hj hm_; exact absurd hm_ (Nat.not_lt_zero _)
    | succ f_ ih7 =>
      intro kz rs o2 hj hm_
      obtain ⟨j, hj1, hj2, hj3, hj4, hj5⟩ := hj
      refine z_iload hk dX2_layOrder_7 0 rfl (kk := ?_)
      refine z_if_lt hk 38 dX2_layOrder_9 (kt := fun h9 => ?_) (kf := fun h9 => ?_) 
      · skip
        refine z_iconst (z := ((1 : Nat) : Int)) hk dX2_layOrder_38 (kk := ?_)
        refine z_iload_n hk dX2_layOrder_39 4 rfl (kk := ?_)
        refine z_ishl (v := iZ ((B : Nat) : Int)) hk dX2_layOrder_40 (by rw [eB]; exact iZ_shl1 nc (by omega)) (kk := ?_)
        refine z_iconst (z := ((1 : Nat) : Int)) hk dX2_layOrder_41 (kk := ?_)
        refine z_isub (z := ((B - 1 : Nat) : Int)) hk dX2_layOrder_42 (by omega) (kk := ?_)
        refine z_istore hk [(4, .int (iZ ((B - 1 : Nat) : Int))), (3, .int (iZ ((rs : Nat) : Int))), (0, .ref o), (1, .int (iZ ((num : Nat) : Int))), (2, .int (iZ ((nc : Nat) : Int)))] dX2_layOrder_43 (kk := ?_)
        refine z_iconst (z := ((0 : Nat) : Int)) hk dX2_layOrder_45 (kk := ?_)
        refine z_istore hk [(5, .int (iZ ((0 : Nat) : Int))), (4, .int (iZ ((B - 1 : Nat) : Int))), (3, .int (iZ ((rs : Nat) : Int))), (0, .ref o), (1, .int (iZ ((num : Nat) : Int))), (2, .int (iZ ((nc : Nat) : Int)))] dX2_layOrder_46 (kk := ?_)
        have L48 : ∀ (f_ : Nat) (q : Nat) (lf : Nat) (o3 : Nat → Nat), (q ≤ nc) → (∃ L, lay2 (dgF num nc) nc q = some (lf, L) ∧ (∀ p, p < q → o3 p = lxF L p) ∧ ∀ p, q ≤ p → p < nc → o3 p = dgF num nc p) → nc - q < f_ → Z κ 48 [(5, .int (iZ ((q : Nat) : Int))), (4, .int (iZ ((lf : Nat) : Int))), (0, .ref o), (1, .int (iZ ((num : Nat) : Int))), (2, .int (iZ ((nc : Nat) : Int)))] [] [(o, zO 2 fs), (aR, zI (kG κ) 6 o3)] 0 0 := by
          intro f_
          induction f_ with
          | zero => intro q lf o3 hq hL hm_; exact absurd hm_ (Nat.not_lt_zero _)
          | succ f_ ih48 =>
            intro q lf o3 hq hL hm_
            obtain ⟨L, hL1, hL2, hL3⟩ := hL
            have gl := lay2_le hL1
            dsimp only at gl
            refine z_iload hk dX2_layOrder_48 0 rfl (kk := ?_)
            refine z_iload_n hk dX2_layOrder_50 4 rfl (kk := ?_)
            refine z_icmp_ge hk 125 dX2_layOrder_51 (kt := fun h51 => ?_) (kf := fun h51 => ?_) 
            · skip
              exact z_vret hk hR_ o3 dX2_layOrder_125 rfl rfl (by have e1 := hLE; rw [show nc = q from by omega] at e1; intro j hj; rw [hL2 j (by omega)]; rw [show q = nc from by omega] at hL1; rw [hLE] at hL1; cases hL1; rfl) (zSub.ix [0, 1] rfl)
            · skip
              obtain ⟨r, hr1, hr2⟩ := lay2_next hLE (by omega) hL1
              have gr := whl_bit hr1
              have g5 := hL3 q (Nat.le_refl _) (by omega)
              rw [← g5] at hr1
              refine z_aload_n hk dX2_layOrder_54 2 rfl (kk := ?_)
              refine z_get hk in_X2 0 8 q1288 dX2_layOrder_55 rfl hF8 (kk := ?_)
              refine z_iload hk dX2_layOrder_58 0 rfl (kk := ?_)
              refine z_iald (i := q) hk 1 dX2_layOrder_60 rfl (kk := ?_) 
              refine z_istore hk [(6, .int (iZ ((o3 q : Nat) : Int))), (5, .int (iZ ((q : Nat) : Int))), (4, .int (iZ ((lf : Nat) : Int))), (0, .ref o), (1, .int (iZ ((num : Nat) : Int))), (2, .int (iZ ((nc : Nat) : Int)))] dX2_layOrder_61 (kk := ?_)
              refine z_iconst (z := ((0 : Nat) : Int)) hk dX2_layOrder_63 (kk := ?_)
              refine z_istore hk [(7, .int (iZ ((0 : Nat) : Int))), (6, .int (iZ ((o3 q : Nat) : Int))), (5, .int (iZ ((q : Nat) : Int))), (4, .int (iZ ((lf : Nat) : Int))), (0, .ref o), (1, .int (iZ ((num : Nat) : Int))), (2, .int (iZ ((nc : Nat) : Int)))] dX2_layOrder_64 (kk := ?_)
              have L66 : ∀ (f_ : Nat) (sk : Nat) (at_ : Nat), (∃ f, whl f lf sk at_ = some r ∧ at_ + f = 8) → (sk ≤ 100) → 8 - at_ < f_ → Z κ 66 [(7, .int (iZ ((at_ : Nat) : Int))), (6, .int (iZ ((sk : Nat) : Int))), (5, .int (iZ ((q : Nat) : Int))), (4, .int (iZ ((lf : Nat) : Int))), (0, .ref o), (1, .int (iZ ((num : Nat) : Int))), (2, .int (iZ ((nc : Nat) : Int)))] [] [(o, zO 2 fs), (aR, zI (kG κ) 6 o3)] 0 0 := by
                intro f_
                induction f_ with
                | zero => intro sk at_ hw hsk hm_; exact absurd hm_ (Nat.not_lt_zero _)
                | succ f_ ih66 =>
                  intro sk at_ hw hsk hm_
                  obtain ⟨f, hw1, hw2⟩ := hw
                  obtain ⟨f2, ef⟩ : ∃ f2, f = f2 + 1 := ⟨f - 1, by cases f with | zero => cases hw1 | succ f => rfl⟩
                  rw [ef, whl] at hw1
                  have gd : lf / 2 ^ at_ ≤ lf := Nat.div_le_self _ _
                  refine z_iload hk dX2_layOrder_66 3 rfl (kk := ?_)
                  refine z_iload hk dX2_layOrder_68 0 rfl (kk := ?_)
                  refine z_ishr (v := iZ ((lf / 2 ^ at_ : Nat) : Int)) hk dX2_layOrder_70 (by exact iZ_shr (by omega) (by omega)) (kk := ?_)
                  refine z_iconst (z := ((1 : Nat) : Int)) hk dX2_layOrder_71 (kk := ?_)
                  refine z_iand (v := iZ ((lf / 2 ^ at_ % 2 : Nat) : Int)) hk dX2_layOrder_72 (by exact iZ_and1 (by omega)) (kk := ?_)
                  refine z_if_eq hk 81 dX2_layOrder_73 (kt := fun h73 => ?_) (kf := fun h73 => ?_) 
                  · skip
                    refine z_iload hk dX2_layOrder_81 1 rfl (kk := ?_)
                    refine z_iload hk dX2_layOrder_83 3 rfl (kk := ?_)
                    refine z_iload hk dX2_layOrder_85 0 rfl (kk := ?_)
                    refine z_ishr (v := iZ ((lf / 2 ^ at_ : Nat) : Int)) hk dX2_layOrder_87 (by exact iZ_shr (by omega) (by omega)) (kk := ?_)
                    refine z_iconst (z := ((1 : Nat) : Int)) hk dX2_layOrder_88 (kk := ?_)
                    refine z_iand (v := iZ ((lf / 2 ^ at_ % 2 : Nat) : Int)) hk dX2_layOrder_89 (by exact iZ_and1 (by omega)) (kk := ?_)
                    refine z_isub (z := ((sk - lf / 2 ^ at_ % 2 : Nat) : Int)) hk dX2_layOrder_90 (by omega) (kk := ?_)
                    refine z_istore hk [(6, .int (iZ ((sk - lf / 2 ^ at_ % 2 : Nat) : Int))), (7, .int (iZ ((at_ : Nat) : Int))), (5, .int (iZ ((q : Nat) : Int))), (4, .int (iZ ((lf : Nat) : Int))), (0, .ref o), (1, .int (iZ ((num : Nat) : Int))), (2, .int (iZ ((nc : Nat) : Int)))] dX2_layOrder_91 (kk := ?_)
                    refine z_iinc hk (z' := ((at_ + 1 : Nat) : Int)) [(7, .int (iZ ((at_ + 1 : Nat) : Int))), (6, .int (iZ ((sk - lf / 2 ^ at_ % 2 : Nat) : Int))), (5, .int (iZ ((q : Nat) : Int))), (4, .int (iZ ((lf : Nat) : Int))), (0, .ref o), (1, .int (iZ ((num : Nat) : Int))), (2, .int (iZ ((nc : Nat) : Int)))] dX2_layOrder_93 1 rfl (kk := ?_)
                    refine z_goto hk 66 dX2_layOrder_96 (kk := ?_)
                    exact ih66  (sk - lf / 2 ^ at_ % 2) (at_ + 1) (by exact ⟨f2, by rw [if_pos (by omega)] at hw1; exact hw1, by omega⟩) (by first | assumption | omega) (by omega)
                  · skip
                    refine z_iload hk dX2_layOrder_76 1 rfl (kk := ?_)
                    refine z_if_le hk 99 dX2_layOrder_78 (kt := fun h78 => ?_) (kf := fun h78 => ?_) 
                    · skip
                      have har : at_ = r := by rw [if_neg (by omega)] at hw1; exact Option.some.inj hw1
                      rw [← har] at gr
                      refine z_iload hk dX2_layOrder_99 3 rfl (kk := ?_)
                      refine z_iconst (z := ((1 : Nat) : Int)) hk dX2_layOrder_101 (kk := ?_)
                      refine z_iload hk dX2_layOrder_102 0 rfl (kk := ?_)
                      refine z_ishl (v := iZ ((2 ^ at_ : Nat) : Int)) hk dX2_layOrder_104 (by exact iZ_shl1 at_ (by omega)) (kk := ?_)
                      refine z_iconst (z := -1) hk dX2_layOrder_105 (kk := ?_)
                      refine z_ixor (v := iZ ((2 ^ at_ : Nat) : Int) ^^^ iZ (-1)) hk dX2_layOrder_106 (by rfl) (kk := ?_)
                      refine z_iand (v := iZ ((lf - 2 ^ at_ : Nat) : Int)) hk dX2_layOrder_107 (by exact zb_clr lf (by omega) at_ (by omega) gr.1) (kk := ?_)
                      refine z_istore hk [(4, .int (iZ ((lf - 2 ^ at_ : Nat) : Int))), (7, .int (iZ ((at_ : Nat) : Int))), (6, .int (iZ ((sk : Nat) : Int))), (5, .int (iZ ((q : Nat) : Int))), (0, .ref o), (1, .int (iZ ((num : Nat) : Int))), (2, .int (iZ ((nc : Nat) : Int)))] dX2_layOrder_108 (kk := ?_)
                      refine z_aload_n hk dX2_layOrder_110 4 rfl (kk := ?_)
                      refine z_get hk in_X2 0 8 q1288 dX2_layOrder_111 rfl hF8 (kk := ?_)
                      refine z_iload hk dX2_layOrder_114 3 rfl (kk := ?_)
                      refine z_iload hk dX2_layOrder_116 1 rfl (kk := ?_)
                      refine z_iast (i := q) hk 1 [(o, zO 2 fs), (aR, zI (kG κ) 6 (va_up o3 q at_))] dX2_layOrder_118 rfl  (kk := ?_) 
                      refine z_iinc hk (z' := ((q + 1 : Nat) : Int)) [(5, .int (iZ ((q + 1 : Nat) : Int))), (4, .int (iZ ((lf - 2 ^ at_ : Nat) : Int))), (7, .int (iZ ((at_ : Nat) : Int))), (6, .int (iZ ((sk : Nat) : Int))), (0, .ref o), (1, .int (iZ ((num : Nat) : Int))), (2, .int (iZ ((nc : Nat) : Int)))] dX2_layOrder_119 3 rfl (kk := ?_)
                      refine z_goto hk 48 dX2_layOrder_122 (kk := ?_)
                      refine z_lvs [0, 1, 4, 5, 6] (lv' := [(5, .int (iZ ((q + 1 : Nat) : Int))), (4, .int (iZ ((lf - 2 ^ at_ : Nat) : Int))), (0, .ref o), (1, .int (iZ ((num : Nat) : Int))), (2, .int (iZ ((nc : Nat) : Int)))]) (kk := ?_)
                      exact ih48  (q + 1) (lf - 2 ^ at_) (va_up o3 q at_) (by first | assumption | omega) (by exact ⟨L ++ [r], by rw [har]; exact hr2, fun p hp => if e : p = q then (by rw [e, va_up_self, har]; unfold lxF; rw [List.getD_eq_getElem?_getD, List.getElem?_append_right (by omega), gl.2, Nat.sub_self]; rfl) else (by rw [va_up_ne _ _ e, hL2 p (by omega)]; unfold lxF; rw [List.getD_eq_getElem?_getD, List.getD_eq_getElem?_getD, List.getElem?_append_left (by omega)]), fun p h1 h2 => by rw [va_up_ne _ _ (by omega)]; exact hL3 p (by omega) h2⟩) (by omega)
                    · skip
                      refine z_iload hk dX2_layOrder_81 1 rfl (kk := ?_)
                      refine z_iload hk dX2_layOrder_83 3 rfl (kk := ?_)
                      refine z_iload hk dX2_layOrder_85 0 rfl (kk := ?_)
                      refine z_ishr (v := iZ ((lf / 2 ^ at_ : Nat) : Int)) hk dX2_layOrder_87 (by exact iZ_shr (by omega) (by omega)) (kk := ?_)
                      refine z_iconst (z := ((1 : Nat) : Int)) hk dX2_layOrder_88 (kk := ?_)
                      refine z_iand (v := iZ ((lf / 2 ^ at_ % 2 : Nat) : Int)) hk dX2_layOrder_89 (by exact iZ_and1 (by omega)) (kk := ?_)
                      refine z_isub (z := ((sk - lf / 2 ^ at_ % 2 : Nat) : Int)) hk dX2_layOrder_90 (by omega) (kk := ?_)
                      refine z_istore hk [(6, .int (iZ ((sk - lf / 2 ^ at_ % 2 : Nat) : Int))), (7, .int (iZ ((at_ : Nat) : Int))), (5, .int (iZ ((q : Nat) : Int))), (4, .int (iZ ((lf : Nat) : Int))), (0, .ref o), (1, .int (iZ ((num : Nat) : Int))), (2, .int (iZ ((nc : Nat) : Int)))] dX2_layOrder_91 (kk := ?_)
                      refine z_iinc hk (z' := ((at_ + 1 : Nat) : Int)) [(7, .int (iZ ((at_ + 1 : Nat) : Int))), (6, .int (iZ ((sk - lf / 2 ^ at_ % 2 : Nat) : Int))), (5, .int (iZ ((q : Nat) : Int))), (4, .int (iZ ((lf : Nat) : Int))), (0, .ref o), (1, .int (iZ ((num : Nat) : Int))), (2, .int (iZ ((nc : Nat) : Int)))] dX2_layOrder_93 1 rfl (kk := ?_)
                      refine z_goto hk 66 dX2_layOrder_96 (kk := ?_)
                      exact ih66  (sk - lf / 2 ^ at_ % 2) (at_ + 1) (by exact ⟨f2, by rw [if_pos (by omega)] at hw1; exact hw1, by omega⟩) (by first | assumption | omega) (by omega)
              exact L66 (8 - 0 + 1) (o3 q) 0 (by exact ⟨8, hr1, rfl⟩) (by have := hL3 q (Nat.le_refl _) (by omega); rw [this]; unfold dgF; exact Nat.le_of_lt (Nat.lt_of_lt_of_le (Nat.mod_lt _ (by omega)) (by omega))) (Nat.lt_succ_self _)
        refine z_lvs [0, 1, 3, 4, 5] (lv' := [(5, .int (iZ ((0 : Nat) : Int))), (4, .int (iZ ((B - 1 : Nat) : Int))), (0, .ref o), (1, .int (iZ ((num : Nat) : Int))), (2, .int (iZ ((nc : Nat) : Int)))]) (kk := ?_)
        exact L48 (nc - 0 + 1) 0 (B - 1) o2 (by first | assumption | omega) (by exact ⟨[], by rw [eB]; rfl, fun p h => absurd h (Nat.not_lt_zero _), fun p _ h => hj5 p (by omega) h⟩) (Nat.lt_succ_self _)
      · skip
        refine z_aload_n hk dX2_layOrder_12 2 rfl (kk := ?_)
        refine z_get hk in_X2 0 8 q1288 dX2_layOrder_13 rfl hF8 (kk := ?_)
        refine z_iload hk dX2_layOrder_16 0 rfl (kk := ?_)
        refine z_topN (nc - 1 - j) (by omega) ?_
        refine z_iload_n hk dX2_layOrder_18 1 rfl (kk := ?_)
        refine z_iload_n hk dX2_layOrder_19 4 rfl (kk := ?_)
        refine z_iload hk dX2_layOrder_20 0 rfl (kk := ?_)
        refine z_isub (z := ((nc : Nat) : Int) - kz) hk dX2_layOrder_22 (kk := ?_)
        refine z_topN (j + 1) (by omega) ?_
        refine z_irem (a := rs) (b := j + 1) hk dX2_layOrder_23 (kk := ?_) 
        refine z_iast (i := nc - 1 - j) hk 1 [(o, zO 2 fs), (aR, zI (kG κ) 6 (va_up o2 (nc - 1 - j) (rs % (j + 1))))] dX2_layOrder_24 rfl  (kk := ?_) 
        refine z_iload_n hk dX2_layOrder_25 1 rfl (kk := ?_)
        refine z_iload_n hk dX2_layOrder_26 4 rfl (kk := ?_)
        refine z_iload hk dX2_layOrder_27 0 rfl (kk := ?_)
        refine z_isub (z := ((nc : Nat) : Int) - kz) hk dX2_layOrder_29 (kk := ?_)
        refine z_topN (j + 1) (by omega) ?_
        refine z_idiv (a := rs) (b := j + 1) hk dX2_layOrder_30 (kk := ?_) 
        refine z_istore_n hk [(3, .int (iZ ((rs / (j + 1) : Nat) : Int))), (4, .int (iZ (kz))), (0, .ref o), (1, .int (iZ ((num : Nat) : Int))), (2, .int (iZ ((nc : Nat) : Int)))] dX2_layOrder_31 (kk := ?_)
        refine z_iinc hk (z' := kz - 1) [(4, .int (iZ (kz - 1))), (3, .int (iZ ((rs / (j + 1) : Nat) : Int))), (0, .ref o), (1, .int (iZ ((num : Nat) : Int))), (2, .int (iZ ((nc : Nat) : Int)))] dX2_layOrder_32 1 rfl (kk := ?_)
        refine z_goto hk 7 dX2_layOrder_35 (kk := ?_)
        exact ih7  (kz - 1) (rs / (j + 1)) (va_up o2 (nc - 1 - j) (rs % (j + 1))) (by exact ⟨j + 1, by omega, by omega, by rw [hj3]; rfl, Nat.le_trans (Nat.div_le_self _ _) hj4, fun q h1 h2 => if e : q = nc - 1 - j then (by rw [e, va_up_self, hj3]; unfold dgF; rw [show nc - 1 - (nc - 1 - j) = j from by omega, show nc - (nc - 1 - j) = j + 1 from by omega]) else (by rw [va_up_ne _ _ e]; exact hj5 q (by omega) h2)⟩) (by omega)
  exact L7 (((((nc : Nat) : Int) - ((1 : Nat) : Int)) + 1).toNat + 1) (((nc : Nat) : Int) - ((1 : Nat) : Int)) num oc (by exact ⟨0, by omega, by omega, rfl, hnum, fun q h1 h2 => absurd h2 (by omega)⟩) (Nat.lt_succ_self _)

set_option maxHeartbeats 600000 in
theorem ct_X2_goodBy (l_ : Launch) (G : zG) (o : Nat) (fs : List Value) (aS : Nat) (aT : Nat) (aO : Nat) (aR : Nat) (aF : Nat) (st : Nat → Nat) (n : Nat) (t : Nat → Nat) (lk : Nat → Nat) (tx : Nat → Nat) (oth : Nat → Nat) (oc : Nat → Nat) (frm : Nat → Nat) (num : Nat) (nc : Nat) (L : List Nat) (hF0 : fs[0]? = some (.ref aS)) (hF5 : fs[5]? = some (.ref aT)) (hF6 : fs[6]? = some (.ref aO)) (hF8 : fs[8]? = some (.ref aR)) (hF9 : fs[9]? = some (.ref aF)) (hn : st 48 = n) (hn48 : n ≤ 48) (ht : ∀ j, j < n → st j = t j ∧ t j < 16) (hlk : ∀ q, q < 256 → st (72 + q) = lk q ∧ lk q ≤ 1) (hc6 : 1 ≤ nc ∧ nc ≤ 6) (hnum : num ≤ 1000) (hlay : layO num nc = some L) (hLl : L.length = nc) (hLo : OrdP (lxF L) nc) :
    Ct l_ G yX2_goodBy cX2_goodBy 3 (some .int) 3 0 0 [.ref o, .int (iZ ((num : Nat) : Int)), .int (iZ ((nc : Nat) : Int))] [(o, zO 2 fs), (aS, zI G 819 st), (aT, zI G 48 tx), (aO, zI G 48 oth), (aR, zI G 6 oc), (aF, zI G 48 frm)]
      (fun u : (Nat → Nat) × (Nat → Nat) × (Nat → Nat) × (Nat → Nat) => some (.int (iZ (((gPm lk t n L) : Nat) : Int)))) (fun u : (Nat → Nat) × (Nat → Nat) × (Nat → Nat) × (Nat → Nat) => True) (fun u : (Nat → Nat) × (Nat → Nat) × (Nat → Nat) × (Nat → Nat) => [(o, zO 2 fs), (aS, zI G 819 st), (aT, zI G 48 u.1), (aO, zI G 48 u.2.1), (aR, zI G 6 u.2.2.1), (aF, zI G 48 u.2.2.2)]) := by
  refine Ct.of (by decide) (Nat.le_of_ble_eq_true rfl) ?_
  intro κ hl_ hG_ hk hR_
  subst hl_
  subst hG_
  show Z κ 0 [(0, .ref o), (1, .int (iZ ((num : Nat) : Int))), (2, .int (iZ ((nc : Nat) : Int)))] [] [(o, zO 2 fs), (aS, zI (kG κ) 819 st), (aT, zI (kG κ) 48 tx), (aO, zI (kG κ) 48 oth), (aR, zI (kG κ) 6 oc), (aF, zI (kG κ) 48 frm)] 0 0
  have hlc : (clL (lxF L) nc n nc).length = n := clL_len (by omega) hLo
  refine z_aload_n hk dX2_goodBy_0 0 rfl (kk := ?_)
  refine z_iload_n hk dX2_goodBy_1 1 rfl (kk := ?_)
  refine z_iload_n hk dX2_goodBy_2 2 rfl (kk := ?_)
  refine z_callV hk [.int (iZ ((num : Nat) : Int)), .int (iZ ((nc : Nat) : Int))] 2 [(aS, zI (kG κ) 819 st), (aT, zI (kG κ) 48 tx), (aO, zI (kG κ) 48 oth), (aF, zI (kG κ) 48 frm)] (ct_X2_layOrder (kL κ) (kG κ) o fs aR oc num nc L hF8 (by first | assumption | omega) (by first | assumption | omega) (by first | assumption | omega)) q1478 q1480 qs51 q66 q1481 (zSub.ix [0, 4, 1, 2, 3, 5] rfl) 0 2 rfl dX2_goodBy_3 rfl (kk := fun u_1 hu3 => ?_)
  obtain ⟨o2_2, rfl⟩ : ∃ z_, z_ = u_1 := ⟨_, rfl⟩
  have hu3 : ∀ j, j < nc → o2_2 j = lxF L j := hu3
  show Z κ 6 [(0, .ref o), (1, .int (iZ ((num : Nat) : Int))), (2, .int (iZ ((nc : Nat) : Int)))] [] [(o, zO 2 fs), (aR, zI (kG κ) 6 o2_2), (aS, zI (kG κ) 819 st), (aT, zI (kG κ) 48 tx), (aO, zI (kG κ) 48 oth), (aF, zI (kG κ) 48 frm)] 0 0
  refine z_aload_n hk dX2_goodBy_6 0 rfl (kk := ?_)
  refine z_callV hk [] 0 [(aR, zI (kG κ) 6 o2_2), (aO, zI (kG κ) 48 oth), (aF, zI (kG κ) 48 frm)] (ct_X2_layText (kL κ) (kG κ) o fs aS aT st n t tx hF0 hF5 (by first | assumption | omega) (by first | assumption | omega) (by first | assumption | omega)) q1459 q1461 qs48 q66 q1462 (zSub.ix [0, 2, 3, 1, 4, 5] rfl) 0 2 rfl dX2_goodBy_7 rfl (kk := fun u_3 hu7 => ?_)
  obtain ⟨tx2_4, rfl⟩ : ∃ z_, z_ = u_3 := ⟨_, rfl⟩
  have hu7 : ∀ j, j < n → tx2_4 j = t j ∧ t j < 16 := hu7
  show Z κ 10 [(0, .ref o), (1, .int (iZ ((num : Nat) : Int))), (2, .int (iZ ((nc : Nat) : Int)))] [] [(o, zO 2 fs), (aS, zI (kG κ) 819 st), (aT, zI (kG κ) 48 tx2_4), (aR, zI (kG κ) 6 o2_2), (aO, zI (kG κ) 48 oth), (aF, zI (kG κ) 48 frm)] 0 0
  refine z_aload_n hk dX2_goodBy_10 0 rfl (kk := ?_)
  refine z_iload_n hk dX2_goodBy_11 2 rfl (kk := ?_)
  refine z_callV hk [.int (iZ ((nc : Nat) : Int))] 1 [(aT, zI (kG κ) 48 tx2_4), (aO, zI (kG κ) 48 oth)] (ct_X2_layColumns (kL κ) (kG κ) o fs aS aR aF st n o2_2 (lxF L) nc frm hF0 hF8 hF9 (by first | assumption | omega) (by first | assumption | omega) (by first | assumption | omega) (by assumption) hLo) q1399 q1401 qs40 q66 q1402 (zSub.ix [0, 1, 3, 5, 2, 4] rfl) 0 2 rfl dX2_goodBy_12 rfl (kk := fun u_5 hu12 => ?_)
  obtain ⟨f2_6, rfl⟩ : ∃ z_, z_ = u_5 := ⟨_, rfl⟩
  have hu12 : f2_6 = pL (clL (lxF L) nc n nc) frm := hu12
  show Z κ 15 [(0, .ref o), (1, .int (iZ ((num : Nat) : Int))), (2, .int (iZ ((nc : Nat) : Int)))] [] [(o, zO 2 fs), (aS, zI (kG κ) 819 st), (aR, zI (kG κ) 6 o2_2), (aF, zI (kG κ) 48 f2_6), (aT, zI (kG κ) 48 tx2_4), (aO, zI (kG κ) 48 oth)] 0 0
  refine z_aload_n hk dX2_goodBy_15 0 rfl (kk := ?_)
  refine z_iconst (z := -1) hk dX2_goodBy_16 (kk := ?_)
  refine z_callV hk [.int (iZ (-1))] 1 [(aR, zI (kG κ) 6 o2_2)] (ct_X2_readBy (kL κ) (kG κ) o fs aS aT aO aF st tx2_4 oth f2_6 (-1 : Int) n t (clL (lxF L) nc n nc) hF0 hF5 hF6 hF9 (by first | assumption | omega) (by first | assumption | omega) (by first | assumption | omega) (by decide) hlc (fun x => ⟨fun hx => clL_lt (by omega) hLo hx, fun hx => clL_all (by omega) hLo hx⟩) (fun j hj => by rw [hu12]; exact pL_in (by omega))) q1403 q1405 qs41 q66 q1406 (zSub.ix [0, 1, 4, 5, 3, 2] rfl) 0 2 rfl dX2_goodBy_17 rfl (kk := fun u_7 hu17 => ?_)
  obtain ⟨o2_8, rfl⟩ : ∃ z_, z_ = u_7 := ⟨_, rfl⟩
  have hu17 : ∀ j, j < n → o2_8 j = mvF (-1 : Int) (clL (lxF L) nc n nc) t n j := hu17
  show Z κ 20 [(0, .ref o), (1, .int (iZ ((num : Nat) : Int))), (2, .int (iZ ((nc : Nat) : Int)))] [] [(o, zO 2 fs), (aS, zI (kG κ) 819 st), (aT, zI (kG κ) 48 tx2_4), (aO, zI (kG κ) 48 o2_8), (aF, zI (kG κ) 48 f2_6), (aR, zI (kG κ) 6 o2_2)] 0 0
  refine z_aload_n hk dX2_goodBy_20 0 rfl (kk := ?_)
  refine z_aload_n hk dX2_goodBy_21 0 rfl (kk := ?_)
  refine z_get hk in_X2 0 6 q1286 dX2_goodBy_22 rfl hF6 (kk := ?_)
  refine z_callV hk [.ref aO] 1 [(aT, zI (kG κ) 48 tx2_4), (aF, zI (kG κ) 48 f2_6), (aR, zI (kG κ) 6 o2_2)] (ct_X2_goodOf (kL κ) (kG κ) o fs aS st n lk aO o2_8 (mvF (-1) (clL (lxF L) nc n nc) t n) hF0 (by first | assumption | omega) (by first | assumption | omega) (by first | assumption | omega) (fun j hj => ⟨hu17 j hj, mvF_lt (fun j hj => (ht j hj).2) (fun x hx => clL_lt (by omega) hLo hx) hlc hj⟩)) q1463 q1465 qs49 q66 q1466 (zSub.ix [0, 1, 3, 2, 4, 5] rfl) 0 2 rfl dX2_goodBy_25 rfl (kk := fun _ _ => ?_)
  show Z κ 28 [(0, .ref o), (1, .int (iZ ((num : Nat) : Int))), (2, .int (iZ ((nc : Nat) : Int)))] [.int (iZ (((aGood lk (mvF (-1) (clL (lxF L) nc n nc) t n) n) : Nat) : Int))] [(o, zO 2 fs), (aS, zI (kG κ) 819 st), (aO, zI (kG κ) 48 o2_8), (aT, zI (kG κ) 48 tx2_4), (aF, zI (kG κ) 48 f2_6), (aR, zI (kG κ) 6 o2_2)] 0 0
  exact z_iret hk hR_ (tx2_4, o2_8, o2_2, f2_6) dX2_goodBy_28 rfl (by unfold gPm; rw [hLl]) (by trivial) (zSub.ix [0, 1, 3, 2, 5, 4] rfl)

set_option maxHeartbeats 600000 in
theorem ct_X2_orders (l_ : Launch) (G : zG) (nc : Nat) (hc6 : 2 ≤ nc ∧ nc ≤ 6) :
    Ct l_ G yX2_orders cX2_orders 3 (some .int) 1 0 0 [.int (iZ ((nc : Nat) : Int))] []
      (fun _u : Unit => some (.int (iZ (((fc nc) : Nat) : Int)))) (fun _u : Unit => True) (fun _u : Unit => []) := by
  refine Ct.of (by decide) (Nat.le_of_ble_eq_true rfl) ?_
  intro κ hl_ hG_ hk hR_
  subst hl_
  subst hG_
  show Z κ 0 [(0, .int (iZ ((nc : Nat) : Int)))] [] [] 0 0
  refine z_iconst (z := ((1 : Nat) : Int)) hk dX2_orders_0 (kk := ?_)
  refine z_istore_n hk [(1, .int (iZ ((1 : Nat) : Int))), (0, .int (iZ ((nc : Nat) : Int)))] dX2_orders_1 (kk := ?_)
  refine z_iconst (z := ((2 : Nat) : Int)) hk dX2_orders_2 (kk := ?_)
  refine z_istore_n hk [(2, .int (iZ ((2 : Nat) : Int))), (1, .int (iZ ((1 : Nat) : Int))), (0, .int (iZ ((nc : Nat) : Int)))] dX2_orders_3 (kk := ?_)
  have L4 : ∀ (f_ : Nat) (q : Nat) (a : Nat), (2 ≤ q ∧ q ≤ nc + 1) → (a = fc (q - 1)) → nc + 1 - q < f_ → Z κ 4 [(2, .int (iZ ((q : Nat) : Int))), (1, .int (iZ ((a : Nat) : Int))), (0, .int (iZ ((nc : Nat) : Int)))] [] [] 0 0 := by
    intro f_
    induction f_ with
    | zero => intro q a hq ha hm_; exact absurd hm_ (Nat.not_lt_zero _)
    | succ f_ ih4 =>
      intro q a hq ha hm_
      refine z_iload_n hk dX2_orders_4 0 rfl (kk := ?_)
      refine z_iload_n hk dX2_orders_5 2 rfl (kk := ?_)
      refine z_icmp_gt hk 19 dX2_orders_6 (kt := fun h6 => ?_) (kf := fun h6 => ?_) 
      · skip
        refine z_iload_n hk dX2_orders_19 1 rfl (kk := ?_)
        exact z_iret hk hR_ () dX2_orders_20 rfl (by rw [ha, show q - 1 = nc from by omega]) (by trivial) (zSub.ix [] rfl)
      · skip
        refine z_iload_n hk dX2_orders_9 1 rfl (kk := ?_)
        refine z_iload_n hk dX2_orders_10 0 rfl (kk := ?_)
        refine z_imul (z := ((a * q : Nat) : Int)) hk dX2_orders_11 (Int.natCast_mul _ _).symm (kk := ?_)
        refine z_istore_n hk [(1, .int (iZ ((a * q : Nat) : Int))), (2, .int (iZ ((q : Nat) : Int))), (0, .int (iZ ((nc : Nat) : Int)))] dX2_orders_12 (kk := ?_)
        refine z_iinc hk (z' := ((q + 1 : Nat) : Int)) [(2, .int (iZ ((q + 1 : Nat) : Int))), (1, .int (iZ ((a * q : Nat) : Int))), (0, .int (iZ ((nc : Nat) : Int)))] dX2_orders_13 1 rfl (kk := ?_)
        refine z_goto hk 4 dX2_orders_16 (kk := ?_)
        exact ih4  (q + 1) (a * q) (by first | assumption | omega) (by rw [ha, show q + 1 - 1 = (q - 1) + 1 from by omega, fc, show q - 1 + 1 = q from by omega]) (by omega)
  exact L4 (nc + 1 - 2 + 1) 2 1 (by first | assumption | omega) (by rfl) (Nat.lt_succ_self _)

set_option maxHeartbeats 600000 in
theorem ct_X2_order (l_ : Launch) (G : zG) (o : Nat) (fs : List Value) (aS : Nat) (aT : Nat) (aO : Nat) (aR : Nat) (aF : Nat) (st : Nat → Nat) (n : Nat) (t : Nat → Nat) (lk : Nat → Nat) (tx : Nat → Nat) (oth : Nat → Nat) (oc : Nat → Nat) (frm : Nat → Nat) (nz : Int) (wh : Int) (hF0 : fs[0]? = some (.ref aS)) (hF5 : fs[5]? = some (.ref aT)) (hF6 : fs[6]? = some (.ref aO)) (hF8 : fs[8]? = some (.ref aR)) (hF9 : fs[9]? = some (.ref aF)) (hn : st 48 = n) (hn48 : n ≤ 48) (ht : ∀ j, j < n → st j = t j ∧ t j < 16) (hlk : ∀ q, q < 256 → st (72 + q) = lk q ∧ lk q ≤ 1) (hnz : -2147483648 ≤ nz ∧ nz ≤ 2147483647) (hwh : -2147483648 ≤ wh ∧ wh ≤ 2147483647) :
    Ct l_ G yX2_order cX2_order 8 (some .int) 4 0 0 [.ref o, .int (iZ (nz)), .int (iZ (wh))] [(o, zO 2 fs), (aS, zI G 819 st), (aT, zI G 48 tx), (aO, zI G 48 oth), (aR, zI G 6 oc), (aF, zI G 48 frm)]
      (fun u : Int × (Nat → Nat) × (Nat → Nat) × (Nat → Nat) × (Nat → Nat) => some (.int (iZ (u.1)))) (fun u : Int × (Nat → Nat) × (Nat → Nat) × (Nat → Nat) × (Nat → Nat) => u.1 = aOrder lk t n nz wh) (fun u : Int × (Nat → Nat) × (Nat → Nat) × (Nat → Nat) × (Nat → Nat) => [(o, zO 2 fs), (aS, zI G 819 st), (aT, zI G 48 u.2.1), (aO, zI G 48 u.2.2.1), (aR, zI G 6 u.2.2.2.1), (aF, zI G 48 u.2.2.2.2)]) := by
  refine Ct.of (by decide) (Nat.le_of_ble_eq_true rfl) ?_
  intro κ hl_ hG_ hk hR_
  subst hl_
  subst hG_
  show Z κ 0 [(0, .ref o), (1, .int (iZ (nz))), (2, .int (iZ (wh)))] [] [(o, zO 2 fs), (aS, zI (kG κ) 819 st), (aT, zI (kG κ) 48 tx), (aO, zI (kG κ) 48 oth), (aR, zI (kG κ) 6 oc), (aF, zI (kG κ) 48 frm)] 0 0
  refine z_iload_n hk dX2_order_0 1 rfl (kk := ?_)
  refine z_iconst (z := ((2 : Nat) : Int)) hk dX2_order_1 (kk := ?_)
  refine z_bipush (z := ((6 : Nat) : Int)) hk dX2_order_2 (kk := ?_)
  refine z_callS hk [.int (iZ (nz)), .int (iZ ((2 : Nat) : Int)), .int (iZ ((6 : Nat) : Int))] 3 [(o, zO 2 fs), (aS, zI (kG κ) 819 st), (aT, zI (kG κ) 48 tx), (aO, zI (kG κ) 48 oth), (aR, zI (kG κ) 6 oc), (aF, zI (kG κ) 48 frm)] (ct_X2_in (kL κ) (kG κ) nz ((2 : Nat) : Int) ((6 : Nat) : Int) (by first | assumption | omega) (by first | assumption | omega) (by first | assumption | omega)) q1322 q1323 q66 q1324 (zSub.ix [0, 1, 2, 3, 4, 5] rfl) dX2_order_4 rfl (kk := fun u_1 hu4 => ?_)
  obtain ⟨u0_2, rfl⟩ : ∃ z_, z_ = u_1 := ⟨_, rfl⟩
  have hu4 : (u0_2 = 1 ∧ ((2 : Nat) : Int) ≤ nz ∧ nz ≤ ((6 : Nat) : Int)) ∨ (u0_2 = 0 ∧ ¬ (((2 : Nat) : Int) ≤ nz ∧ nz ≤ ((6 : Nat) : Int))) := hu4
  show Z κ 7 [(0, .ref o), (1, .int (iZ (nz))), (2, .int (iZ (wh)))] [.int (iZ ((u0_2 : Nat) : Int))] [(o, zO 2 fs), (aS, zI (kG κ) 819 st), (aT, zI (kG κ) 48 tx), (aO, zI (kG κ) 48 oth), (aR, zI (kG κ) 6 oc), (aF, zI (kG κ) 48 frm)] 0 0
  refine z_if_eq hk 22 dX2_order_7 (kt := fun h7 => ?_) (kf := fun h7 => ?_) 
  · skip
    refine z_bipush (z := -2) hk dX2_order_22 (kk := ?_)
    exact z_iret hk hR_ (-2, tx, oth, oc, frm) dX2_order_24 rfl rfl (by (try dsimp only); unfold aOrder; rw [if_neg (by omega)]) (zSub.ix [0, 1, 2, 3, 4, 5] rfl)
  · skip
    refine z_iload_n hk dX2_order_10 2 rfl (kk := ?_)
    refine z_bipush (z := -2) hk dX2_order_11 (kk := ?_)
    refine z_iload_n hk dX2_order_13 1 rfl (kk := ?_)
    refine z_iconst (z := ((1 : Nat) : Int)) hk dX2_order_14 (kk := ?_)
    refine z_isub (z := nz - ((1 : Nat) : Int)) hk dX2_order_15 (kk := ?_)
    refine z_callS hk [.int (iZ (wh)), .int (iZ (-2)), .int (iZ (nz - ((1 : Nat) : Int)))] 3 [(o, zO 2 fs), (aS, zI (kG κ) 819 st), (aT, zI (kG κ) 48 tx), (aO, zI (kG κ) 48 oth), (aR, zI (kG κ) 6 oc), (aF, zI (kG κ) 48 frm)] (ct_X2_in (kL κ) (kG κ) wh (-2) (nz - ((1 : Nat) : Int)) (by first | assumption | omega) (by first | assumption | omega) (by first | assumption | omega)) q1322 q1323 q66 q1324 (zSub.ix [0, 1, 2, 3, 4, 5] rfl) dX2_order_16 rfl (kk := fun u_3 hu16 => ?_)
    obtain ⟨u0_4, rfl⟩ : ∃ z_, z_ = u_3 := ⟨_, rfl⟩
    have hu16 : (u0_4 = 1 ∧ (-2) ≤ wh ∧ wh ≤ (nz - ((1 : Nat) : Int))) ∨ (u0_4 = 0 ∧ ¬ ((-2) ≤ wh ∧ wh ≤ (nz - ((1 : Nat) : Int)))) := hu16
    show Z κ 19 [(0, .ref o), (1, .int (iZ (nz))), (2, .int (iZ (wh)))] [.int (iZ ((u0_4 : Nat) : Int))] [(o, zO 2 fs), (aS, zI (kG κ) 819 st), (aT, zI (kG κ) 48 tx), (aO, zI (kG κ) 48 oth), (aR, zI (kG κ) 6 oc), (aF, zI (kG κ) 48 frm)] 0 0
    refine z_if_ne hk 25 dX2_order_19 (kt := fun h19 => ?_) (kf := fun h19 => ?_) 
    · skip
      obtain ⟨nc, enc⟩ : ∃ nc : Nat, (nc : Int) = nz := ⟨nz.toNat, by omega⟩
      have gf := fc_rng (n := nc) (by omega)
      refine z_to (lv' := [(0, .ref o), (1, .int (iZ ((nc : Nat) : Int))), (2, .int (iZ (wh)))]) rfl (by rw [enc]) rfl rfl ?_
      refine z_bipush (z := -6) hk dX2_order_25 (kk := ?_)
      refine z_istore_n hk [(3, .int (iZ (-6))), (0, .ref o), (1, .int (iZ ((nc : Nat) : Int))), (2, .int (iZ (wh)))] dX2_order_27 (kk := ?_)
      refine z_iconst (z := -1) hk dX2_order_28 (kk := ?_)
      refine z_istore hk [(4, .int (iZ (-1))), (3, .int (iZ (-6))), (0, .ref o), (1, .int (iZ ((nc : Nat) : Int))), (2, .int (iZ (wh)))] dX2_order_29 (kk := ?_)
      refine z_iconst (z := ((0 : Nat) : Int)) hk dX2_order_31 (kk := ?_)
      refine z_istore hk [(5, .int (iZ ((0 : Nat) : Int))), (4, .int (iZ (-1))), (3, .int (iZ (-6))), (0, .ref o), (1, .int (iZ ((nc : Nat) : Int))), (2, .int (iZ (wh)))] dX2_order_32 (kk := ?_)
      refine z_iconst (z := ((0 : Nat) : Int)) hk dX2_order_34 (kk := ?_)
      refine z_istore hk [(6, .int (iZ ((0 : Nat) : Int))), (5, .int (iZ ((0 : Nat) : Int))), (4, .int (iZ (-1))), (3, .int (iZ (-6))), (0, .ref o), (1, .int (iZ ((nc : Nat) : Int))), (2, .int (iZ (wh)))] dX2_order_35 (kk := ?_)
      have L37 : ∀ (f_ : Nat) (q : Nat) (b : Int) (ms : Int) (as_ : Nat) (tx2 : Nat → Nat) (o2 : Nat → Nat) (oc2 : Nat → Nat) (f2 : Nat → Nat), (q ≤ fc nc) → (∃ bL, foO lk t n nc q = (ms, as_, bL) ∧ -1 ≤ ms ∧ ms ≤ 48 ∧ as_ ≤ q ∧ ordI nc q b ms bL ∧ (q = 0 → ms = -1)) → fc nc - q < f_ → Z κ 37 [(6, .int (iZ ((q : Nat) : Int))), (3, .int (iZ (b))), (4, .int (iZ (ms))), (5, .int (iZ ((as_ : Nat) : Int))), (0, .ref o), (1, .int (iZ ((nc : Nat) : Int))), (2, .int (iZ (wh)))] [] [(o, zO 2 fs), (aS, zI (kG κ) 819 st), (aT, zI (kG κ) 48 tx2), (aO, zI (kG κ) 48 o2), (aR, zI (kG κ) 6 oc2), (aF, zI (kG κ) 48 f2)] 0 0 := by
        intro f_
        induction f_ with
        | zero => intro q b ms as_ tx2 o2 oc2 f2 hq hfo hm_; exact absurd hm_ (Nat.not_lt_zero _)
        | succ f_ ih37 =>
          intro q b ms as_ tx2 o2 oc2 f2 hq hfo hm_
          obtain ⟨bL, hf1, hf2, hf3, hf4, hf5, hf6⟩ := hfo
          refine z_iload hk dX2_order_37 0 rfl (kk := ?_)
          refine z_iload_n hk dX2_order_39 5 rfl (kk := ?_)
          refine z_callS hk [.int (iZ ((nc : Nat) : Int))] 1 [(o, zO 2 fs), (aS, zI (kG κ) 819 st), (aT, zI (kG κ) 48 tx2), (aO, zI (kG κ) 48 o2), (aR, zI (kG κ) 6 oc2), (aF, zI (kG κ) 48 f2)] (ct_X2_orders (kL κ) (kG κ) nc (by first | assumption | omega)) q1471 q1472 q66 q1473 (zSub.ix [0, 1, 2, 3, 4, 5] rfl) dX2_order_40 rfl (kk := fun _ _ => ?_)
          show Z κ 43 [(6, .int (iZ ((q : Nat) : Int))), (3, .int (iZ (b))), (4, .int (iZ (ms))), (5, .int (iZ ((as_ : Nat) : Int))), (0, .ref o), (1, .int (iZ ((nc : Nat) : Int))), (2, .int (iZ (wh)))] [.int (iZ (((fc nc) : Nat) : Int)), .int (iZ ((q : Nat) : Int))] [(o, zO 2 fs), (aS, zI (kG κ) 819 st), (aT, zI (kG κ) 48 tx2), (aO, zI (kG κ) 48 o2), (aR, zI (kG κ) 6 oc2), (aF, zI (kG κ) 48 f2)] 0 0
          refine z_icmp_ge hk 120 dX2_order_43 (kt := fun h43 => ?_) (kf := fun h43 => ?_) 
          · skip
            have hqq : q = fc nc := by omega
            obtain ⟨bn, hb1, hb2, hb3, hb4⟩ := hf5 (by omega)
            have gly := layO_ok (n := nc) (q := bn) (by omega) (by omega) hb2
            refine z_to (lv' := [(6, .int (iZ ((q : Nat) : Int))), (3, .int (iZ ((bn : Nat) : Int))), (4, .int (iZ (ms))), (5, .int (iZ ((as_ : Nat) : Int))), (0, .ref o), (1, .int (iZ ((nc : Nat) : Int))), (2, .int (iZ (wh)))]) rfl (by rw [hb1]) rfl rfl ?_
            refine z_aload_n hk dX2_order_120 4 rfl (kk := ?_)
            refine z_iload_n hk dX2_order_121 1 rfl (kk := ?_)
            refine z_iload_n hk dX2_order_122 5 rfl (kk := ?_)
            refine z_callV hk [.int (iZ ((bn : Nat) : Int)), .int (iZ ((nc : Nat) : Int))] 2 [(aS, zI (kG κ) 819 st), (aT, zI (kG κ) 48 tx2), (aO, zI (kG κ) 48 o2), (aF, zI (kG κ) 48 f2)] (ct_X2_layOrder (kL κ) (kG κ) o fs aR oc2 bn nc (prm nc bn) hF8 (by first | assumption | omega) (by first | assumption | omega) gly.1) q1478 q1480 qs51 q66 q1481 (zSub.ix [0, 4, 1, 2, 3, 5] rfl) 0 2 rfl dX2_order_123 rfl (kk := fun u_6 hu123 => ?_)
            obtain ⟨o2_7, rfl⟩ : ∃ z_, z_ = u_6 := ⟨_, rfl⟩
            have hu123 : ∀ j, j < nc → o2_7 j = lxF (prm nc bn) j := hu123
            show Z κ 126 [(6, .int (iZ ((q : Nat) : Int))), (3, .int (iZ ((bn : Nat) : Int))), (4, .int (iZ (ms))), (5, .int (iZ ((as_ : Nat) : Int))), (0, .ref o), (1, .int (iZ ((nc : Nat) : Int))), (2, .int (iZ (wh)))] [] [(o, zO 2 fs), (aR, zI (kG κ) 6 o2_7), (aS, zI (kG κ) 819 st), (aT, zI (kG κ) 48 tx2), (aO, zI (kG κ) 48 o2), (aF, zI (kG κ) 48 f2)] 0 0
            refine z_iload_n hk dX2_order_126 6 rfl (kk := ?_)
            refine z_iconst (z := -1) hk dX2_order_127 (kk := ?_)
            refine z_icmp_ne hk 136 dX2_order_128 (kt := fun h128 => ?_) (kf := fun h128 => ?_) 
            · skip
              refine z_iload_n hk dX2_order_136 6 rfl (kk := ?_)
              refine z_bipush (z := -2) hk dX2_order_137 (kk := ?_)
              refine z_icmp_ne hk 147 dX2_order_139 (kt := fun h139 => ?_) (kf := fun h139 => ?_) 
              · skip
                refine z_aload_n hk dX2_order_147 4 rfl (kk := ?_)
                refine z_get hk in_X2 0 8 q1288 dX2_order_148 rfl hF8 (kk := ?_)
                refine z_iload_n hk dX2_order_151 6 rfl (kk := ?_)
                refine z_topN (wh.toNat) (by omega) ?_
                have gx := hu123 wh.toNat (by omega)
                have gxx : lxF (prm nc bn) wh.toNat < nc := gly.2.2.1 _ (by omega)
                refine z_iald (i := wh.toNat) hk 1 dX2_order_152 rfl (kk := ?_) 
                exact z_iret hk hR_ (((o2_7 wh.toNat : Nat) : Int), tx2, o2, o2_7, f2) dX2_order_153 rfl rfl (by (try dsimp only); unfold aOrder; rw [if_pos (by omega), show nz.toNat = nc from by omega, ← hqq, hf1]; first | (rw [if_pos (by omega)]; done) | (rw [if_neg (by omega), if_pos (by omega)]; done) | (rw [if_neg (by omega), if_neg (by omega), gx, hb3]; done)) (zSub.ix [0, 2, 3, 4, 1, 5] rfl)
              · skip
                refine z_iload hk dX2_order_142 3 rfl (kk := ?_)
                refine z_goto hk 153 dX2_order_144 (kk := ?_)
                exact z_iret hk hR_ (((as_ : Nat) : Int), tx2, o2, o2_7, f2) dX2_order_153 rfl rfl (by (try dsimp only); unfold aOrder; rw [if_pos (by omega), show nz.toNat = nc from by omega, ← hqq, hf1]; first | (rw [if_pos (by omega)]; done) | (rw [if_neg (by omega), if_pos (by omega)]; done) | (rw [if_neg (by omega), if_neg (by omega), gx, hb3]; done)) (zSub.ix [0, 2, 3, 4, 1, 5] rfl)
            · skip
              refine z_iload hk dX2_order_131 2 rfl (kk := ?_)
              refine z_goto hk 153 dX2_order_133 (kk := ?_)
              exact z_iret hk hR_ (ms, tx2, o2, o2_7, f2) dX2_order_153 rfl rfl (by (try dsimp only); unfold aOrder; rw [if_pos (by omega), show nz.toNat = nc from by omega, ← hqq, hf1]; first | (rw [if_pos (by omega)]; done) | (rw [if_neg (by omega), if_pos (by omega)]; done) | (rw [if_neg (by omega), if_neg (by omega), gx, hb3]; done)) (zSub.ix [0, 2, 3, 4, 1, 5] rfl)
          · skip
            have gly := layO_ok (n := nc) (q := q) (by omega) (by omega) (by omega)
            refine z_aload_n hk dX2_order_46 4 rfl (kk := ?_)
            refine z_iload hk dX2_order_47 0 rfl (kk := ?_)
            refine z_iload_n hk dX2_order_49 5 rfl (kk := ?_)
            refine z_callV hk [.int (iZ ((q : Nat) : Int)), .int (iZ ((nc : Nat) : Int))] 2 [] (ct_X2_goodBy (kL κ) (kG κ) o fs aS aT aO aR aF st n t lk tx2 o2 oc2 f2 q nc (prm nc q) hF0 hF5 hF6 hF8 hF9 (by first | assumption | omega) (by first | assumption | omega) (by first | assumption | omega) (by first | assumption | omega) (by first | assumption | omega) (by first | assumption | omega) gly.1 gly.2.1 gly.2.2) q1474 q1476 qs50 q66 q1477 (zSub.ix [0, 1, 2, 3, 4, 5] rfl) 0 2 rfl dX2_order_50 rfl (kk := fun u_8 hu50 => ?_)
            obtain ⟨tx2_9, o2_10, oc2_11, f2_12⟩ := u_8
            show Z κ 53 [(6, .int (iZ ((q : Nat) : Int))), (3, .int (iZ (b))), (4, .int (iZ (ms))), (5, .int (iZ ((as_ : Nat) : Int))), (0, .ref o), (1, .int (iZ ((nc : Nat) : Int))), (2, .int (iZ (wh)))] [.int (iZ (((gPm lk t n (prm nc q)) : Nat) : Int))] [(o, zO 2 fs), (aS, zI (kG κ) 819 st), (aT, zI (kG κ) 48 tx2_9), (aO, zI (kG κ) 48 o2_10), (aR, zI (kG κ) 6 oc2_11), (aF, zI (kG κ) 48 f2_12)] 0 0
            obtain ⟨G, eG⟩ : ∃ G : Nat, G = gPm lk t n (prm nc q) := ⟨_, rfl⟩
            have gG : G ≤ 48 := by
              rw [eG]; unfold gPm; rw [gly.2.1]
              exact Nat.le_trans (aGood_le (fun q hq => (hlk q hq).2) (fun j hj => mvF_lt (fun j hj => (ht j hj).2) (fun x hx => clL_lt (by omega) gly.2.2 hx) (clL_len (by omega) gly.2.2) hj)) hn48
            refine z_topN G (by rw [eG]) ?_
            refine z_istore hk [(7, .int (iZ ((G : Nat) : Int))), (6, .int (iZ ((q : Nat) : Int))), (3, .int (iZ (b))), (4, .int (iZ (ms))), (5, .int (iZ ((as_ : Nat) : Int))), (0, .ref o), (1, .int (iZ ((nc : Nat) : Int))), (2, .int (iZ (wh)))] dX2_order_53 (kk := ?_)
            refine z_iload hk dX2_order_55 0 rfl (kk := ?_)
            refine z_iload hk dX2_order_57 3 rfl (kk := ?_)
            refine z_icmp_le hk 67 dX2_order_59 (kt := fun h59 => ?_) (kf := fun h59 => ?_) 
            · skip
              refine z_iload_n hk dX2_order_67 2 rfl (kk := ?_)
              refine z_istore_n hk [(3, .int (iZ (b))), (7, .int (iZ ((G : Nat) : Int))), (6, .int (iZ ((q : Nat) : Int))), (4, .int (iZ (ms))), (5, .int (iZ ((as_ : Nat) : Int))), (0, .ref o), (1, .int (iZ ((nc : Nat) : Int))), (2, .int (iZ (wh)))] dX2_order_68 (kk := ?_)
              refine z_iload hk dX2_order_69 1 rfl (kk := ?_)
              refine z_iload hk dX2_order_71 3 rfl (kk := ?_)
              refine z_icmp_le hk 80 dX2_order_73 (kt := fun h73 => ?_) (kf := fun h73 => ?_) 
              · skip
                refine z_iload hk dX2_order_80 1 rfl (kk := ?_)
                refine z_iload hk dX2_order_82 3 rfl (kk := ?_)
                refine z_icmp_ne hk 94 dX2_order_84 (kt := fun h84 => ?_) (kf := fun h84 => ?_) 
                · skip
                  refine z_iload hk dX2_order_94 4 rfl (kk := ?_)
                  refine z_istore hk [(5, .int (iZ ((as_ : Nat) : Int))), (3, .int (iZ (b))), (7, .int (iZ ((G : Nat) : Int))), (6, .int (iZ ((q : Nat) : Int))), (4, .int (iZ (ms))), (0, .ref o), (1, .int (iZ ((nc : Nat) : Int))), (2, .int (iZ (wh)))] dX2_order_96 (kk := ?_)
                  refine z_iload hk dX2_order_98 2 rfl (kk := ?_)
                  refine z_iload hk dX2_order_100 4 rfl (kk := ?_)
                  refine z_icmp_le hk 110 dX2_order_102 (kt := fun h102 => ?_) (kf := fun h102 => ?_) 
                  · skip
                    refine z_iload hk dX2_order_110 4 rfl (kk := ?_)
                    refine z_istore hk [(4, .int (iZ (ms))), (5, .int (iZ ((as_ : Nat) : Int))), (3, .int (iZ (b))), (7, .int (iZ ((G : Nat) : Int))), (6, .int (iZ ((q : Nat) : Int))), (0, .ref o), (1, .int (iZ ((nc : Nat) : Int))), (2, .int (iZ (wh)))] dX2_order_112 (kk := ?_)
                    refine z_iinc hk (z' := ((q + 1 : Nat) : Int)) [(6, .int (iZ ((q + 1 : Nat) : Int))), (4, .int (iZ (ms))), (5, .int (iZ ((as_ : Nat) : Int))), (3, .int (iZ (b))), (7, .int (iZ ((G : Nat) : Int))), (0, .ref o), (1, .int (iZ ((nc : Nat) : Int))), (2, .int (iZ (wh)))] dX2_order_114 4 rfl (kk := ?_)
                    refine z_goto hk 37 dX2_order_117 (kk := ?_)
                    refine z_lvs [0, 3, 1, 2, 5, 6, 7] (lv' := [(6, .int (iZ ((q + 1 : Nat) : Int))), (3, .int (iZ (b))), (4, .int (iZ (ms))), (5, .int (iZ ((as_ : Nat) : Int))), (0, .ref o), (1, .int (iZ ((nc : Nat) : Int))), (2, .int (iZ (wh)))]) (kk := ?_)
                    exact ih37  (q + 1) b ms as_ tx2_9 o2_10 oc2_11 f2_12 (by first | assumption | omega) (by first | (exfalso; omega) | (refine ⟨if ms < (G : Int) then prm nc q else bL, ?_, by omega, by omega, by omega, fun _ => ?_, fun h => absurd h (by omega)⟩; (rw [foO, hf1]; unfold stO; dsimp only; rw [← eG]; first | (have q1 : ms < (G : Int) := (by omega); rw [if_pos q1, if_pos q1]) | (have q1 : ¬ ms < (G : Int) := (by omega); have q2 : (G : Int) = ms := (by omega); rw [if_neg q1, if_neg q1, if_pos q2]) | (have q1 : ¬ ms < (G : Int) := (by omega); have q2 : ¬ (G : Int) = ms := (by omega); rw [if_neg q1, if_neg q1, if_neg q2])); first | (exact ⟨q, rfl, by omega, by rw [if_pos (by omega)], by omega⟩) | (obtain ⟨bn, e1, e2, e3, e4⟩ := hf5 (by omega); exact ⟨bn, e1, e2, by rw [if_neg (by omega)]; exact e3, by omega⟩))) (by omega)
                  · skip
                    refine z_iload hk dX2_order_105 2 rfl (kk := ?_)
                    refine z_goto hk 112 dX2_order_107 (kk := ?_)
                    refine z_istore hk [(4, .int (iZ ((G : Nat) : Int))), (5, .int (iZ ((as_ : Nat) : Int))), (3, .int (iZ (b))), (7, .int (iZ ((G : Nat) : Int))), (6, .int (iZ ((q : Nat) : Int))), (0, .ref o), (1, .int (iZ ((nc : Nat) : Int))), (2, .int (iZ (wh)))] dX2_order_112 (kk := ?_)
                    refine z_iinc hk (z' := ((q + 1 : Nat) : Int)) [(6, .int (iZ ((q + 1 : Nat) : Int))), (4, .int (iZ ((G : Nat) : Int))), (5, .int (iZ ((as_ : Nat) : Int))), (3, .int (iZ (b))), (7, .int (iZ ((G : Nat) : Int))), (0, .ref o), (1, .int (iZ ((nc : Nat) : Int))), (2, .int (iZ (wh)))] dX2_order_114 4 rfl (kk := ?_)
                    refine z_goto hk 37 dX2_order_117 (kk := ?_)
                    refine z_lvs [0, 3, 1, 2, 5, 6, 7] (lv' := [(6, .int (iZ ((q + 1 : Nat) : Int))), (3, .int (iZ (b))), (4, .int (iZ ((G : Nat) : Int))), (5, .int (iZ ((as_ : Nat) : Int))), (0, .ref o), (1, .int (iZ ((nc : Nat) : Int))), (2, .int (iZ (wh)))]) (kk := ?_)
                    exact ih37  (q + 1) b ((G : Nat) : Int) as_ tx2_9 o2_10 oc2_11 f2_12 (by first | assumption | omega) (by first | (exfalso; omega) | (refine ⟨if ms < (G : Int) then prm nc q else bL, ?_, by omega, by omega, by omega, fun _ => ?_, fun h => absurd h (by omega)⟩; (rw [foO, hf1]; unfold stO; dsimp only; rw [← eG]; first | (have q1 : ms < (G : Int) := (by omega); rw [if_pos q1, if_pos q1]) | (have q1 : ¬ ms < (G : Int) := (by omega); have q2 : (G : Int) = ms := (by omega); rw [if_neg q1, if_neg q1, if_pos q2]) | (have q1 : ¬ ms < (G : Int) := (by omega); have q2 : ¬ (G : Int) = ms := (by omega); rw [if_neg q1, if_neg q1, if_neg q2])); first | (exact ⟨q, rfl, by omega, by rw [if_pos (by omega)], by omega⟩) | (obtain ⟨bn, e1, e2, e3, e4⟩ := hf5 (by omega); exact ⟨bn, e1, e2, by rw [if_neg (by omega)]; exact e3, by omega⟩))) (by omega)
                · skip
                  refine z_iload hk dX2_order_87 4 rfl (kk := ?_)
                  refine z_iconst (z := ((1 : Nat) : Int)) hk dX2_order_89 (kk := ?_)
                  refine z_iadd (z := ((as_ + 1 : Nat) : Int)) hk dX2_order_90 (Int.natCast_add _ _).symm (kk := ?_)
                  refine z_goto hk 96 dX2_order_91 (kk := ?_)
                  refine z_istore hk [(5, .int (iZ ((as_ + 1 : Nat) : Int))), (3, .int (iZ (b))), (7, .int (iZ ((G : Nat) : Int))), (6, .int (iZ ((q : Nat) : Int))), (4, .int (iZ (ms))), (0, .ref o), (1, .int (iZ ((nc : Nat) : Int))), (2, .int (iZ (wh)))] dX2_order_96 (kk := ?_)
                  refine z_iload hk dX2_order_98 2 rfl (kk := ?_)
                  refine z_iload hk dX2_order_100 4 rfl (kk := ?_)
                  refine z_icmp_le hk 110 dX2_order_102 (kt := fun h102 => ?_) (kf := fun h102 => ?_) 
                  · skip
                    refine z_iload hk dX2_order_110 4 rfl (kk := ?_)
                    refine z_istore hk [(4, .int (iZ (ms))), (5, .int (iZ ((as_ + 1 : Nat) : Int))), (3, .int (iZ (b))), (7, .int (iZ ((G : Nat) : Int))), (6, .int (iZ ((q : Nat) : Int))), (0, .ref o), (1, .int (iZ ((nc : Nat) : Int))), (2, .int (iZ (wh)))] dX2_order_112 (kk := ?_)
                    refine z_iinc hk (z' := ((q + 1 : Nat) : Int)) [(6, .int (iZ ((q + 1 : Nat) : Int))), (4, .int (iZ (ms))), (5, .int (iZ ((as_ + 1 : Nat) : Int))), (3, .int (iZ (b))), (7, .int (iZ ((G : Nat) : Int))), (0, .ref o), (1, .int (iZ ((nc : Nat) : Int))), (2, .int (iZ (wh)))] dX2_order_114 4 rfl (kk := ?_)
                    refine z_goto hk 37 dX2_order_117 (kk := ?_)
                    refine z_lvs [0, 3, 1, 2, 5, 6, 7] (lv' := [(6, .int (iZ ((q + 1 : Nat) : Int))), (3, .int (iZ (b))), (4, .int (iZ (ms))), (5, .int (iZ ((as_ + 1 : Nat) : Int))), (0, .ref o), (1, .int (iZ ((nc : Nat) : Int))), (2, .int (iZ (wh)))]) (kk := ?_)
                    exact ih37  (q + 1) b ms (as_ + 1) tx2_9 o2_10 oc2_11 f2_12 (by first | assumption | omega) (by first | (exfalso; omega) | (refine ⟨if ms < (G : Int) then prm nc q else bL, ?_, by omega, by omega, by omega, fun _ => ?_, fun h => absurd h (by omega)⟩; (rw [foO, hf1]; unfold stO; dsimp only; rw [← eG]; first | (have q1 : ms < (G : Int) := (by omega); rw [if_pos q1, if_pos q1]) | (have q1 : ¬ ms < (G : Int) := (by omega); have q2 : (G : Int) = ms := (by omega); rw [if_neg q1, if_neg q1, if_pos q2]) | (have q1 : ¬ ms < (G : Int) := (by omega); have q2 : ¬ (G : Int) = ms := (by omega); rw [if_neg q1, if_neg q1, if_neg q2])); first | (exact ⟨q, rfl, by omega, by rw [if_pos (by omega)], by omega⟩) | (obtain ⟨bn, e1, e2, e3, e4⟩ := hf5 (by omega); exact ⟨bn, e1, e2, by rw [if_neg (by omega)]; exact e3, by omega⟩))) (by omega)
                  · skip
                    refine z_iload hk dX2_order_105 2 rfl (kk := ?_)
                    refine z_goto hk 112 dX2_order_107 (kk := ?_)
                    refine z_istore hk [(4, .int (iZ ((G : Nat) : Int))), (5, .int (iZ ((as_ + 1 : Nat) : Int))), (3, .int (iZ (b))), (7, .int (iZ ((G : Nat) : Int))), (6, .int (iZ ((q : Nat) : Int))), (0, .ref o), (1, .int (iZ ((nc : Nat) : Int))), (2, .int (iZ (wh)))] dX2_order_112 (kk := ?_)
                    refine z_iinc hk (z' := ((q + 1 : Nat) : Int)) [(6, .int (iZ ((q + 1 : Nat) : Int))), (4, .int (iZ ((G : Nat) : Int))), (5, .int (iZ ((as_ + 1 : Nat) : Int))), (3, .int (iZ (b))), (7, .int (iZ ((G : Nat) : Int))), (0, .ref o), (1, .int (iZ ((nc : Nat) : Int))), (2, .int (iZ (wh)))] dX2_order_114 4 rfl (kk := ?_)
                    refine z_goto hk 37 dX2_order_117 (kk := ?_)
                    refine z_lvs [0, 3, 1, 2, 5, 6, 7] (lv' := [(6, .int (iZ ((q + 1 : Nat) : Int))), (3, .int (iZ (b))), (4, .int (iZ ((G : Nat) : Int))), (5, .int (iZ ((as_ + 1 : Nat) : Int))), (0, .ref o), (1, .int (iZ ((nc : Nat) : Int))), (2, .int (iZ (wh)))]) (kk := ?_)
                    exact ih37  (q + 1) b ((G : Nat) : Int) (as_ + 1) tx2_9 o2_10 oc2_11 f2_12 (by first | assumption | omega) (by first | (exfalso; omega) | (refine ⟨if ms < (G : Int) then prm nc q else bL, ?_, by omega, by omega, by omega, fun _ => ?_, fun h => absurd h (by omega)⟩; (rw [foO, hf1]; unfold stO; dsimp only; rw [← eG]; first | (have q1 : ms < (G : Int) := (by omega); rw [if_pos q1, if_pos q1]) | (have q1 : ¬ ms < (G : Int) := (by omega); have q2 : (G : Int) = ms := (by omega); rw [if_neg q1, if_neg q1, if_pos q2]) | (have q1 : ¬ ms < (G : Int) := (by omega); have q2 : ¬ (G : Int) = ms := (by omega); rw [if_neg q1, if_neg q1, if_neg q2])); first | (exact ⟨q, rfl, by omega, by rw [if_pos (by omega)], by omega⟩) | (obtain ⟨bn, e1, e2, e3, e4⟩ := hf5 (by omega); exact ⟨bn, e1, e2, by rw [if_neg (by omega)]; exact e3, by omega⟩))) (by omega)
              · skip
                refine z_iconst (z := ((1 : Nat) : Int)) hk dX2_order_76 (kk := ?_)
                refine z_goto hk 96 dX2_order_77 (kk := ?_)
                refine z_istore hk [(5, .int (iZ ((1 : Nat) : Int))), (3, .int (iZ (b))), (7, .int (iZ ((G : Nat) : Int))), (6, .int (iZ ((q : Nat) : Int))), (4, .int (iZ (ms))), (0, .ref o), (1, .int (iZ ((nc : Nat) : Int))), (2, .int (iZ (wh)))] dX2_order_96 (kk := ?_)
                refine z_iload hk dX2_order_98 2 rfl (kk := ?_)
                refine z_iload hk dX2_order_100 4 rfl (kk := ?_)
                refine z_icmp_le hk 110 dX2_order_102 (kt := fun h102 => ?_) (kf := fun h102 => ?_) 
                · skip
                  refine z_iload hk dX2_order_110 4 rfl (kk := ?_)
                  refine z_istore hk [(4, .int (iZ (ms))), (5, .int (iZ ((1 : Nat) : Int))), (3, .int (iZ (b))), (7, .int (iZ ((G : Nat) : Int))), (6, .int (iZ ((q : Nat) : Int))), (0, .ref o), (1, .int (iZ ((nc : Nat) : Int))), (2, .int (iZ (wh)))] dX2_order_112 (kk := ?_)
                  refine z_iinc hk (z' := ((q + 1 : Nat) : Int)) [(6, .int (iZ ((q + 1 : Nat) : Int))), (4, .int (iZ (ms))), (5, .int (iZ ((1 : Nat) : Int))), (3, .int (iZ (b))), (7, .int (iZ ((G : Nat) : Int))), (0, .ref o), (1, .int (iZ ((nc : Nat) : Int))), (2, .int (iZ (wh)))] dX2_order_114 4 rfl (kk := ?_)
                  refine z_goto hk 37 dX2_order_117 (kk := ?_)
                  refine z_lvs [0, 3, 1, 2, 5, 6, 7] (lv' := [(6, .int (iZ ((q + 1 : Nat) : Int))), (3, .int (iZ (b))), (4, .int (iZ (ms))), (5, .int (iZ ((1 : Nat) : Int))), (0, .ref o), (1, .int (iZ ((nc : Nat) : Int))), (2, .int (iZ (wh)))]) (kk := ?_)
                  exact ih37  (q + 1) b ms 1 tx2_9 o2_10 oc2_11 f2_12 (by first | assumption | omega) (by first | (exfalso; omega) | (refine ⟨if ms < (G : Int) then prm nc q else bL, ?_, by omega, by omega, by omega, fun _ => ?_, fun h => absurd h (by omega)⟩; (rw [foO, hf1]; unfold stO; dsimp only; rw [← eG]; first | (have q1 : ms < (G : Int) := (by omega); rw [if_pos q1, if_pos q1]) | (have q1 : ¬ ms < (G : Int) := (by omega); have q2 : (G : Int) = ms := (by omega); rw [if_neg q1, if_neg q1, if_pos q2]) | (have q1 : ¬ ms < (G : Int) := (by omega); have q2 : ¬ (G : Int) = ms := (by omega); rw [if_neg q1, if_neg q1, if_neg q2])); first | (exact ⟨q, rfl, by omega, by rw [if_pos (by omega)], by omega⟩) | (obtain ⟨bn, e1, e2, e3, e4⟩ := hf5 (by omega); exact ⟨bn, e1, e2, by rw [if_neg (by omega)]; exact e3, by omega⟩))) (by omega)
                · skip
                  refine z_iload hk dX2_order_105 2 rfl (kk := ?_)
                  refine z_goto hk 112 dX2_order_107 (kk := ?_)
                  refine z_istore hk [(4, .int (iZ ((G : Nat) : Int))), (5, .int (iZ ((1 : Nat) : Int))), (3, .int (iZ (b))), (7, .int (iZ ((G : Nat) : Int))), (6, .int (iZ ((q : Nat) : Int))), (0, .ref o), (1, .int (iZ ((nc : Nat) : Int))), (2, .int (iZ (wh)))] dX2_order_112 (kk := ?_)
                  refine z_iinc hk (z' := ((q + 1 : Nat) : Int)) [(6, .int (iZ ((q + 1 : Nat) : Int))), (4, .int (iZ ((G : Nat) : Int))), (5, .int (iZ ((1 : Nat) : Int))), (3, .int (iZ (b))), (7, .int (iZ ((G : Nat) : Int))), (0, .ref o), (1, .int (iZ ((nc : Nat) : Int))), (2, .int (iZ (wh)))] dX2_order_114 4 rfl (kk := ?_)
                  refine z_goto hk 37 dX2_order_117 (kk := ?_)
                  refine z_lvs [0, 3, 1, 2, 5, 6, 7] (lv' := [(6, .int (iZ ((q + 1 : Nat) : Int))), (3, .int (iZ (b))), (4, .int (iZ ((G : Nat) : Int))), (5, .int (iZ ((1 : Nat) : Int))), (0, .ref o), (1, .int (iZ ((nc : Nat) : Int))), (2, .int (iZ (wh)))]) (kk := ?_)
                  exact ih37  (q + 1) b ((G : Nat) : Int) 1 tx2_9 o2_10 oc2_11 f2_12 (by first | assumption | omega) (by first | (exfalso; omega) | (refine ⟨if ms < (G : Int) then prm nc q else bL, ?_, by omega, by omega, by omega, fun _ => ?_, fun h => absurd h (by omega)⟩; (rw [foO, hf1]; unfold stO; dsimp only; rw [← eG]; first | (have q1 : ms < (G : Int) := (by omega); rw [if_pos q1, if_pos q1]) | (have q1 : ¬ ms < (G : Int) := (by omega); have q2 : (G : Int) = ms := (by omega); rw [if_neg q1, if_neg q1, if_pos q2]) | (have q1 : ¬ ms < (G : Int) := (by omega); have q2 : ¬ (G : Int) = ms := (by omega); rw [if_neg q1, if_neg q1, if_neg q2])); first | (exact ⟨q, rfl, by omega, by rw [if_pos (by omega)], by omega⟩) | (obtain ⟨bn, e1, e2, e3, e4⟩ := hf5 (by omega); exact ⟨bn, e1, e2, by rw [if_neg (by omega)]; exact e3, by omega⟩))) (by omega)
            · skip
              refine z_iload hk dX2_order_62 1 rfl (kk := ?_)
              refine z_goto hk 68 dX2_order_64 (kk := ?_)
              refine z_istore_n hk [(3, .int (iZ ((q : Nat) : Int))), (7, .int (iZ ((G : Nat) : Int))), (6, .int (iZ ((q : Nat) : Int))), (4, .int (iZ (ms))), (5, .int (iZ ((as_ : Nat) : Int))), (0, .ref o), (1, .int (iZ ((nc : Nat) : Int))), (2, .int (iZ (wh)))] dX2_order_68 (kk := ?_)
              refine z_iload hk dX2_order_69 1 rfl (kk := ?_)
              refine z_iload hk dX2_order_71 3 rfl (kk := ?_)
              refine z_icmp_le hk 80 dX2_order_73 (kt := fun h73 => ?_) (kf := fun h73 => ?_) 
              · skip
                refine z_iload hk dX2_order_80 1 rfl (kk := ?_)
                refine z_iload hk dX2_order_82 3 rfl (kk := ?_)
                refine z_icmp_ne hk 94 dX2_order_84 (kt := fun h84 => ?_) (kf := fun h84 => ?_) 
                · skip
                  refine z_iload hk dX2_order_94 4 rfl (kk := ?_)
                  refine z_istore hk [(5, .int (iZ ((as_ : Nat) : Int))), (3, .int (iZ ((q : Nat) : Int))), (7, .int (iZ ((G : Nat) : Int))), (6, .int (iZ ((q : Nat) : Int))), (4, .int (iZ (ms))), (0, .ref o), (1, .int (iZ ((nc : Nat) : Int))), (2, .int (iZ (wh)))] dX2_order_96 (kk := ?_)
                  refine z_iload hk dX2_order_98 2 rfl (kk := ?_)
                  refine z_iload hk dX2_order_100 4 rfl (kk := ?_)
                  refine z_icmp_le hk 110 dX2_order_102 (kt := fun h102 => ?_) (kf := fun h102 => ?_) 
                  · skip
                    refine z_iload hk dX2_order_110 4 rfl (kk := ?_)
                    refine z_istore hk [(4, .int (iZ (ms))), (5, .int (iZ ((as_ : Nat) : Int))), (3, .int (iZ ((q : Nat) : Int))), (7, .int (iZ ((G : Nat) : Int))), (6, .int (iZ ((q : Nat) : Int))), (0, .ref o), (1, .int (iZ ((nc : Nat) : Int))), (2, .int (iZ (wh)))] dX2_order_112 (kk := ?_)
                    refine z_iinc hk (z' := ((q + 1 : Nat) : Int)) [(6, .int (iZ ((q + 1 : Nat) : Int))), (4, .int (iZ (ms))), (5, .int (iZ ((as_ : Nat) : Int))), (3, .int (iZ ((q : Nat) : Int))), (7, .int (iZ ((G : Nat) : Int))), (0, .ref o), (1, .int (iZ ((nc : Nat) : Int))), (2, .int (iZ (wh)))] dX2_order_114 4 rfl (kk := ?_)
                    refine z_goto hk 37 dX2_order_117 (kk := ?_)
                    refine z_lvs [0, 3, 1, 2, 5, 6, 7] (lv' := [(6, .int (iZ ((q + 1 : Nat) : Int))), (3, .int (iZ ((q : Nat) : Int))), (4, .int (iZ (ms))), (5, .int (iZ ((as_ : Nat) : Int))), (0, .ref o), (1, .int (iZ ((nc : Nat) : Int))), (2, .int (iZ (wh)))]) (kk := ?_)
                    exact ih37  (q + 1) ((q : Nat) : Int) ms as_ tx2_9 o2_10 oc2_11 f2_12 (by first | assumption | omega) (by first | (exfalso; omega) | (refine ⟨if ms < (G : Int) then prm nc q else bL, ?_, by omega, by omega, by omega, fun _ => ?_, fun h => absurd h (by omega)⟩; (rw [foO, hf1]; unfold stO; dsimp only; rw [← eG]; first | (have q1 : ms < (G : Int) := (by omega); rw [if_pos q1, if_pos q1]) | (have q1 : ¬ ms < (G : Int) := (by omega); have q2 : (G : Int) = ms := (by omega); rw [if_neg q1, if_neg q1, if_pos q2]) | (have q1 : ¬ ms < (G : Int) := (by omega); have q2 : ¬ (G : Int) = ms := (by omega); rw [if_neg q1, if_neg q1, if_neg q2])); first | (exact ⟨q, rfl, by omega, by rw [if_pos (by omega)], by omega⟩) | (obtain ⟨bn, e1, e2, e3, e4⟩ := hf5 (by omega); exact ⟨bn, e1, e2, by rw [if_neg (by omega)]; exact e3, by omega⟩))) (by omega)
                  · skip
                    refine z_iload hk dX2_order_105 2 rfl (kk := ?_)
                    refine z_goto hk 112 dX2_order_107 (kk := ?_)
                    refine z_istore hk [(4, .int (iZ ((G : Nat) : Int))), (5, .int (iZ ((as_ : Nat) : Int))), (3, .int (iZ ((q : Nat) : Int))), (7, .int (iZ ((G : Nat) : Int))), (6, .int (iZ ((q : Nat) : Int))), (0, .ref o), (1, .int (iZ ((nc : Nat) : Int))), (2, .int (iZ (wh)))] dX2_order_112 (kk := ?_)
                    refine z_iinc hk (z' := ((q + 1 : Nat) : Int)) [(6, .int (iZ ((q + 1 : Nat) : Int))), (4, .int (iZ ((G : Nat) : Int))), (5, .int (iZ ((as_ : Nat) : Int))), (3, .int (iZ ((q : Nat) : Int))), (7, .int (iZ ((G : Nat) : Int))), (0, .ref o), (1, .int (iZ ((nc : Nat) : Int))), (2, .int (iZ (wh)))] dX2_order_114 4 rfl (kk := ?_)
                    refine z_goto hk 37 dX2_order_117 (kk := ?_)
                    refine z_lvs [0, 3, 1, 2, 5, 6, 7] (lv' := [(6, .int (iZ ((q + 1 : Nat) : Int))), (3, .int (iZ ((q : Nat) : Int))), (4, .int (iZ ((G : Nat) : Int))), (5, .int (iZ ((as_ : Nat) : Int))), (0, .ref o), (1, .int (iZ ((nc : Nat) : Int))), (2, .int (iZ (wh)))]) (kk := ?_)
                    exact ih37  (q + 1) ((q : Nat) : Int) ((G : Nat) : Int) as_ tx2_9 o2_10 oc2_11 f2_12 (by first | assumption | omega) (by first | (exfalso; omega) | (refine ⟨if ms < (G : Int) then prm nc q else bL, ?_, by omega, by omega, by omega, fun _ => ?_, fun h => absurd h (by omega)⟩; (rw [foO, hf1]; unfold stO; dsimp only; rw [← eG]; first | (have q1 : ms < (G : Int) := (by omega); rw [if_pos q1, if_pos q1]) | (have q1 : ¬ ms < (G : Int) := (by omega); have q2 : (G : Int) = ms := (by omega); rw [if_neg q1, if_neg q1, if_pos q2]) | (have q1 : ¬ ms < (G : Int) := (by omega); have q2 : ¬ (G : Int) = ms := (by omega); rw [if_neg q1, if_neg q1, if_neg q2])); first | (exact ⟨q, rfl, by omega, by rw [if_pos (by omega)], by omega⟩) | (obtain ⟨bn, e1, e2, e3, e4⟩ := hf5 (by omega); exact ⟨bn, e1, e2, by rw [if_neg (by omega)]; exact e3, by omega⟩))) (by omega)
                · skip
                  refine z_iload hk dX2_order_87 4 rfl (kk := ?_)
                  refine z_iconst (z := ((1 : Nat) : Int)) hk dX2_order_89 (kk := ?_)
                  refine z_iadd (z := ((as_ + 1 : Nat) : Int)) hk dX2_order_90 (Int.natCast_add _ _).symm (kk := ?_)
                  refine z_goto hk 96 dX2_order_91 (kk := ?_)
                  refine z_istore hk [(5, .int (iZ ((as_ + 1 : Nat) : Int))), (3, .int (iZ ((q : Nat) : Int))), (7, .int (iZ ((G : Nat) : Int))), (6, .int (iZ ((q : Nat) : Int))), (4, .int (iZ (ms))), (0, .ref o), (1, .int (iZ ((nc : Nat) : Int))), (2, .int (iZ (wh)))] dX2_order_96 (kk := ?_)
                  refine z_iload hk dX2_order_98 2 rfl (kk := ?_)
                  refine z_iload hk dX2_order_100 4 rfl (kk := ?_)
                  refine z_icmp_le hk 110 dX2_order_102 (kt := fun h102 => ?_) (kf := fun h102 => ?_) 
                  · skip
                    refine z_iload hk dX2_order_110 4 rfl (kk := ?_)
                    refine z_istore hk [(4, .int (iZ (ms))), (5, .int (iZ ((as_ + 1 : Nat) : Int))), (3, .int (iZ ((q : Nat) : Int))), (7, .int (iZ ((G : Nat) : Int))), (6, .int (iZ ((q : Nat) : Int))), (0, .ref o), (1, .int (iZ ((nc : Nat) : Int))), (2, .int (iZ (wh)))] dX2_order_112 (kk := ?_)
                    refine z_iinc hk (z' := ((q + 1 : Nat) : Int)) [(6, .int (iZ ((q + 1 : Nat) : Int))), (4, .int (iZ (ms))), (5, .int (iZ ((as_ + 1 : Nat) : Int))), (3, .int (iZ ((q : Nat) : Int))), (7, .int (iZ ((G : Nat) : Int))), (0, .ref o), (1, .int (iZ ((nc : Nat) : Int))), (2, .int (iZ (wh)))] dX2_order_114 4 rfl (kk := ?_)
                    refine z_goto hk 37 dX2_order_117 (kk := ?_)
                    refine z_lvs [0, 3, 1, 2, 5, 6, 7] (lv' := [(6, .int (iZ ((q + 1 : Nat) : Int))), (3, .int (iZ ((q : Nat) : Int))), (4, .int (iZ (ms))), (5, .int (iZ ((as_ + 1 : Nat) : Int))), (0, .ref o), (1, .int (iZ ((nc : Nat) : Int))), (2, .int (iZ (wh)))]) (kk := ?_)
                    exact ih37  (q + 1) ((q : Nat) : Int) ms (as_ + 1) tx2_9 o2_10 oc2_11 f2_12 (by first | assumption | omega) (by first | (exfalso; omega) | (refine ⟨if ms < (G : Int) then prm nc q else bL, ?_, by omega, by omega, by omega, fun _ => ?_, fun h => absurd h (by omega)⟩; (rw [foO, hf1]; unfold stO; dsimp only; rw [← eG]; first | (have q1 : ms < (G : Int) := (by omega); rw [if_pos q1, if_pos q1]) | (have q1 : ¬ ms < (G : Int) := (by omega); have q2 : (G : Int) = ms := (by omega); rw [if_neg q1, if_neg q1, if_pos q2]) | (have q1 : ¬ ms < (G : Int) := (by omega); have q2 : ¬ (G : Int) = ms := (by omega); rw [if_neg q1, if_neg q1, if_neg q2])); first | (exact ⟨q, rfl, by omega, by rw [if_pos (by omega)], by omega⟩) | (obtain ⟨bn, e1, e2, e3, e4⟩ := hf5 (by omega); exact ⟨bn, e1, e2, by rw [if_neg (by omega)]; exact e3, by omega⟩))) (by omega)
                  · skip
                    refine z_iload hk dX2_order_105 2 rfl (kk := ?_)
                    refine z_goto hk 112 dX2_order_107 (kk := ?_)
                    refine z_istore hk [(4, .int (iZ ((G : Nat) : Int))), (5, .int (iZ ((as_ + 1 : Nat) : Int))), (3, .int (iZ ((q : Nat) : Int))), (7, .int (iZ ((G : Nat) : Int))), (6, .int (iZ ((q : Nat) : Int))), (0, .ref o), (1, .int (iZ ((nc : Nat) : Int))), (2, .int (iZ (wh)))] dX2_order_112 (kk := ?_)
                    refine z_iinc hk (z' := ((q + 1 : Nat) : Int)) [(6, .int (iZ ((q + 1 : Nat) : Int))), (4, .int (iZ ((G : Nat) : Int))), (5, .int (iZ ((as_ + 1 : Nat) : Int))), (3, .int (iZ ((q : Nat) : Int))), (7, .int (iZ ((G : Nat) : Int))), (0, .ref o), (1, .int (iZ ((nc : Nat) : Int))), (2, .int (iZ (wh)))] dX2_order_114 4 rfl (kk := ?_)
                    refine z_goto hk 37 dX2_order_117 (kk := ?_)
                    refine z_lvs [0, 3, 1, 2, 5, 6, 7] (lv' := [(6, .int (iZ ((q + 1 : Nat) : Int))), (3, .int (iZ ((q : Nat) : Int))), (4, .int (iZ ((G : Nat) : Int))), (5, .int (iZ ((as_ + 1 : Nat) : Int))), (0, .ref o), (1, .int (iZ ((nc : Nat) : Int))), (2, .int (iZ (wh)))]) (kk := ?_)
                    exact ih37  (q + 1) ((q : Nat) : Int) ((G : Nat) : Int) (as_ + 1) tx2_9 o2_10 oc2_11 f2_12 (by first | assumption | omega) (by first | (exfalso; omega) | (refine ⟨if ms < (G : Int) then prm nc q else bL, ?_, by omega, by omega, by omega, fun _ => ?_, fun h => absurd h (by omega)⟩; (rw [foO, hf1]; unfold stO; dsimp only; rw [← eG]; first | (have q1 : ms < (G : Int) := (by omega); rw [if_pos q1, if_pos q1]) | (have q1 : ¬ ms < (G : Int) := (by omega); have q2 : (G : Int) = ms := (by omega); rw [if_neg q1, if_neg q1, if_pos q2]) | (have q1 : ¬ ms < (G : Int) := (by omega); have q2 : ¬ (G : Int) = ms := (by omega); rw [if_neg q1, if_neg q1, if_neg q2])); first | (exact ⟨q, rfl, by omega, by rw [if_pos (by omega)], by omega⟩) | (obtain ⟨bn, e1, e2, e3, e4⟩ := hf5 (by omega); exact ⟨bn, e1, e2, by rw [if_neg (by omega)]; exact e3, by omega⟩))) (by omega)
              · skip
                refine z_iconst (z := ((1 : Nat) : Int)) hk dX2_order_76 (kk := ?_)
                refine z_goto hk 96 dX2_order_77 (kk := ?_)
                refine z_istore hk [(5, .int (iZ ((1 : Nat) : Int))), (3, .int (iZ ((q : Nat) : Int))), (7, .int (iZ ((G : Nat) : Int))), (6, .int (iZ ((q : Nat) : Int))), (4, .int (iZ (ms))), (0, .ref o), (1, .int (iZ ((nc : Nat) : Int))), (2, .int (iZ (wh)))] dX2_order_96 (kk := ?_)
                refine z_iload hk dX2_order_98 2 rfl (kk := ?_)
                refine z_iload hk dX2_order_100 4 rfl (kk := ?_)
                refine z_icmp_le hk 110 dX2_order_102 (kt := fun h102 => ?_) (kf := fun h102 => ?_) 
                · skip
                  refine z_iload hk dX2_order_110 4 rfl (kk := ?_)
                  refine z_istore hk [(4, .int (iZ (ms))), (5, .int (iZ ((1 : Nat) : Int))), (3, .int (iZ ((q : Nat) : Int))), (7, .int (iZ ((G : Nat) : Int))), (6, .int (iZ ((q : Nat) : Int))), (0, .ref o), (1, .int (iZ ((nc : Nat) : Int))), (2, .int (iZ (wh)))] dX2_order_112 (kk := ?_)
                  refine z_iinc hk (z' := ((q + 1 : Nat) : Int)) [(6, .int (iZ ((q + 1 : Nat) : Int))), (4, .int (iZ (ms))), (5, .int (iZ ((1 : Nat) : Int))), (3, .int (iZ ((q : Nat) : Int))), (7, .int (iZ ((G : Nat) : Int))), (0, .ref o), (1, .int (iZ ((nc : Nat) : Int))), (2, .int (iZ (wh)))] dX2_order_114 4 rfl (kk := ?_)
                  refine z_goto hk 37 dX2_order_117 (kk := ?_)
                  refine z_lvs [0, 3, 1, 2, 5, 6, 7] (lv' := [(6, .int (iZ ((q + 1 : Nat) : Int))), (3, .int (iZ ((q : Nat) : Int))), (4, .int (iZ (ms))), (5, .int (iZ ((1 : Nat) : Int))), (0, .ref o), (1, .int (iZ ((nc : Nat) : Int))), (2, .int (iZ (wh)))]) (kk := ?_)
                  exact ih37  (q + 1) ((q : Nat) : Int) ms 1 tx2_9 o2_10 oc2_11 f2_12 (by first | assumption | omega) (by first | (exfalso; omega) | (refine ⟨if ms < (G : Int) then prm nc q else bL, ?_, by omega, by omega, by omega, fun _ => ?_, fun h => absurd h (by omega)⟩; (rw [foO, hf1]; unfold stO; dsimp only; rw [← eG]; first | (have q1 : ms < (G : Int) := (by omega); rw [if_pos q1, if_pos q1]) | (have q1 : ¬ ms < (G : Int) := (by omega); have q2 : (G : Int) = ms := (by omega); rw [if_neg q1, if_neg q1, if_pos q2]) | (have q1 : ¬ ms < (G : Int) := (by omega); have q2 : ¬ (G : Int) = ms := (by omega); rw [if_neg q1, if_neg q1, if_neg q2])); first | (exact ⟨q, rfl, by omega, by rw [if_pos (by omega)], by omega⟩) | (obtain ⟨bn, e1, e2, e3, e4⟩ := hf5 (by omega); exact ⟨bn, e1, e2, by rw [if_neg (by omega)]; exact e3, by omega⟩))) (by omega)
                · skip
                  refine z_iload hk dX2_order_105 2 rfl (kk := ?_)
                  refine z_goto hk 112 dX2_order_107 (kk := ?_)
                  refine z_istore hk [(4, .int (iZ ((G : Nat) : Int))), (5, .int (iZ ((1 : Nat) : Int))), (3, .int (iZ ((q : Nat) : Int))), (7, .int (iZ ((G : Nat) : Int))), (6, .int (iZ ((q : Nat) : Int))), (0, .ref o), (1, .int (iZ ((nc : Nat) : Int))), (2, .int (iZ (wh)))] dX2_order_112 (kk := ?_)
                  refine z_iinc hk (z' := ((q + 1 : Nat) : Int)) [(6, .int (iZ ((q + 1 : Nat) : Int))), (4, .int (iZ ((G : Nat) : Int))), (5, .int (iZ ((1 : Nat) : Int))), (3, .int (iZ ((q : Nat) : Int))), (7, .int (iZ ((G : Nat) : Int))), (0, .ref o), (1, .int (iZ ((nc : Nat) : Int))), (2, .int (iZ (wh)))] dX2_order_114 4 rfl (kk := ?_)
                  refine z_goto hk 37 dX2_order_117 (kk := ?_)
                  refine z_lvs [0, 3, 1, 2, 5, 6, 7] (lv' := [(6, .int (iZ ((q + 1 : Nat) : Int))), (3, .int (iZ ((q : Nat) : Int))), (4, .int (iZ ((G : Nat) : Int))), (5, .int (iZ ((1 : Nat) : Int))), (0, .ref o), (1, .int (iZ ((nc : Nat) : Int))), (2, .int (iZ (wh)))]) (kk := ?_)
                  exact ih37  (q + 1) ((q : Nat) : Int) ((G : Nat) : Int) 1 tx2_9 o2_10 oc2_11 f2_12 (by first | assumption | omega) (by first | (exfalso; omega) | (refine ⟨if ms < (G : Int) then prm nc q else bL, ?_, by omega, by omega, by omega, fun _ => ?_, fun h => absurd h (by omega)⟩; (rw [foO, hf1]; unfold stO; dsimp only; rw [← eG]; first | (have q1 : ms < (G : Int) := (by omega); rw [if_pos q1, if_pos q1]) | (have q1 : ¬ ms < (G : Int) := (by omega); have q2 : (G : Int) = ms := (by omega); rw [if_neg q1, if_neg q1, if_pos q2]) | (have q1 : ¬ ms < (G : Int) := (by omega); have q2 : ¬ (G : Int) = ms := (by omega); rw [if_neg q1, if_neg q1, if_neg q2])); first | (exact ⟨q, rfl, by omega, by rw [if_pos (by omega)], by omega⟩) | (obtain ⟨bn, e1, e2, e3, e4⟩ := hf5 (by omega); exact ⟨bn, e1, e2, by rw [if_neg (by omega)]; exact e3, by omega⟩))) (by omega)
      refine z_lvs [0, 3, 2, 1, 4, 5, 6] (lv' := [(6, .int (iZ ((0 : Nat) : Int))), (3, .int (iZ (-6))), (4, .int (iZ (-1))), (5, .int (iZ ((0 : Nat) : Int))), (0, .ref o), (1, .int (iZ ((nc : Nat) : Int))), (2, .int (iZ (wh)))]) (kk := ?_)
      exact L37 (fc nc - 0 + 1) 0 (-6) (-1) 0 tx oth oc frm (by first | assumption | omega) (by exact ⟨[], rfl, by omega, by omega, by omega, fun h => absurd h (by omega), fun _ => rfl⟩) (Nat.lt_succ_self _)
    · skip
      refine z_bipush (z := -2) hk dX2_order_22 (kk := ?_)
      exact z_iret hk hR_ (-2, tx, oth, oc, frm) dX2_order_24 rfl rfl (by (try dsimp only); unfold aOrder; rw [if_neg (by omega)]) (zSub.ix [0, 1, 2, 3, 4, 5] rfl)

set_option maxHeartbeats 600000 in
theorem ct_X2_goodByPairs (l_ : Launch) (G : zG) (o : Nat) (fs : List Value) (aS : Nat) (aT : Nat) (aO : Nat) (aQ : Nat) (st : Nat → Nat) (n : Nat) (t : Nat → Nat) (lk : Nat → Nat) (tx : Nat → Nat) (oth : Nat → Nat) (sq : Nat → Nat) (hF0 : fs[0]? = some (.ref aS)) (hF5 : fs[5]? = some (.ref aT)) (hF6 : fs[6]? = some (.ref aO)) (hF7 : fs[7]? = some (.ref aQ)) (hn : st 48 = n) (hn48 : n ≤ 48) (hT : ∀ j, j < n → tx j = t j ∧ t j < 16) (hlk : ∀ q, q < 256 → st (72 + q) = lk q ∧ lk q ≤ 1) (hev : n % 2 = 0) (hSo : SqO sq) :
    Ct l_ G yX2_goodByPairs cX2_goodByPairs 1 (some .int) 5 0 0 [.ref o] [(o, zO 2 fs), (aS, zI G 819 st), (aT, zI G 48 tx), (aO, zI G 48 oth), (aQ, zI G 16 sq)]
      (fun u : Nat → Nat => some (.int (iZ (((gCl lk t n sq) : Nat) : Int)))) (fun u : Nat → Nat => True) (fun u : Nat → Nat => [(o, zO 2 fs), (aS, zI G 819 st), (aT, zI G 48 tx), (aO, zI G 48 u), (aQ, zI G 16 sq)]) := by
  refine Ct.of (by decide) (Nat.le_of_ble_eq_true rfl) ?_
  intro κ hl_ hG_ hk hR_
  subst hl_
  subst hG_
  show Z κ 0 [(0, .ref o)] [] [(o, zO 2 fs), (aS, zI (kG κ) 819 st), (aT, zI (kG κ) 48 tx), (aO, zI (kG κ) 48 oth), (aQ, zI (kG κ) 16 sq)] 0 0
  refine z_aload_n hk dX2_goodByPairs_0 0 rfl (kk := ?_)
  refine z_iconst (z := -1) hk dX2_goodByPairs_1 (kk := ?_)
  refine z_callV hk [.int (iZ (-1))] 1 [] (ct_X2_pairs (kL κ) (kG κ) o fs aS aT aO aQ st tx oth sq (invF sq) (-1 : Int) n t hF0 hF5 hF6 hF7 (by first | assumption | omega) (by first | assumption | omega) (by first | assumption | omega) hSo.P (by first | assumption | omega) (by decide)) q1376 q1378 qs35 q66 q1379 (zSub.ix [0, 1, 2, 3, 4] rfl) 0 2 rfl dX2_goodByPairs_2 rfl (kk := fun u_1 hu2 => ?_)
  obtain ⟨o2_2, rfl⟩ : ∃ z_, z_ = u_1 := ⟨_, rfl⟩
  have hu2 : o2_2 = pP oth (prF sq (invF sq) t (-1 : Int)) 0 n := hu2
  show Z κ 5 [(0, .ref o)] [] [(o, zO 2 fs), (aS, zI (kG κ) 819 st), (aT, zI (kG κ) 48 tx), (aO, zI (kG κ) 48 o2_2), (aQ, zI (kG κ) 16 sq)] 0 0
  refine z_aload_n hk dX2_goodByPairs_5 0 rfl (kk := ?_)
  refine z_aload_n hk dX2_goodByPairs_6 0 rfl (kk := ?_)
  refine z_get hk in_X2 0 6 q1286 dX2_goodByPairs_7 rfl hF6 (kk := ?_)
  refine z_callV hk [.ref aO] 1 [(aT, zI (kG κ) 48 tx), (aQ, zI (kG κ) 16 sq)] (ct_X2_goodOf (kL κ) (kG κ) o fs aS st n lk aO o2_2 (prF sq (invF sq) t (-1)) hF0 (by first | assumption | omega) (by first | assumption | omega) (by first | assumption | omega) (fun j hj => ⟨by rw [hu2]; exact pP_in (by omega) (by omega), prF_lt hSo.P j⟩)) q1463 q1465 qs49 q66 q1466 (zSub.ix [0, 1, 3, 2, 4] rfl) 0 2 rfl dX2_goodByPairs_10 rfl (kk := fun _ _ => ?_)
  show Z κ 13 [(0, .ref o)] [.int (iZ (((aGood lk (prF sq (invF sq) t (-1)) n) : Nat) : Int))] [(o, zO 2 fs), (aS, zI (kG κ) 819 st), (aO, zI (kG κ) 48 o2_2), (aT, zI (kG κ) 48 tx), (aQ, zI (kG κ) 16 sq)] 0 0
  exact z_iret hk hR_ o2_2 dX2_goodByPairs_13 rfl rfl (by trivial) (zSub.ix [0, 1, 3, 2, 4] rfl)

set_option maxHeartbeats 600000 in
theorem ct_X2_swap (l_ : Launch) (G : zG) (o : Nat) (fs : List Value) (aQ : Nat) (sq : Nat → Nat) (a : Nat) (b : Nat) (hF7 : fs[7]? = some (.ref aQ)) (ha : a < 16) (hb : b < 16) :
    Ct l_ G yX2_swap cX2_swap 4 none 1 0 0 [.ref o, .int (iZ ((a : Nat) : Int)), .int (iZ ((b : Nat) : Int))] [(o, zO 2 fs), (aQ, zI G 16 sq)]
      (fun _u : Unit => none) (fun _u : Unit => True) (fun _u : Unit => [(o, zO 2 fs), (aQ, zI G 16 (swF sq a b))]) := by
  refine Ct.of (by decide) (Nat.le_of_ble_eq_true rfl) ?_
  intro κ hl_ hG_ hk hR_
  subst hl_
  subst hG_
  show Z κ 0 [(0, .ref o), (1, .int (iZ ((a : Nat) : Int))), (2, .int (iZ ((b : Nat) : Int)))] [] [(o, zO 2 fs), (aQ, zI (kG κ) 16 sq)] 0 0
  refine z_aload_n hk dX2_swap_0 0 rfl (kk := ?_)
  refine z_get hk in_X2 0 7 q1287 dX2_swap_1 rfl hF7 (kk := ?_)
  refine z_iload_n hk dX2_swap_4 1 rfl (kk := ?_)
  refine z_iald (i := a) hk 1 dX2_swap_5 rfl (kk := ?_) 
  refine z_istore_n hk [(3, .int (iZ ((sq a : Nat) : Int))), (0, .ref o), (1, .int (iZ ((a : Nat) : Int))), (2, .int (iZ ((b : Nat) : Int)))] dX2_swap_6 (kk := ?_)
  refine z_aload_n hk dX2_swap_7 1 rfl (kk := ?_)
  refine z_get hk in_X2 0 7 q1287 dX2_swap_8 rfl hF7 (kk := ?_)
  refine z_iload_n hk dX2_swap_11 2 rfl (kk := ?_)
  refine z_aload_n hk dX2_swap_12 1 rfl (kk := ?_)
  refine z_get hk in_X2 0 7 q1287 dX2_swap_13 rfl hF7 (kk := ?_)
  refine z_iload_n hk dX2_swap_16 3 rfl (kk := ?_)
  refine z_iald (i := b) hk 1 dX2_swap_17 rfl (kk := ?_) 
  refine z_iast (i := a) hk 1 [(o, zO 2 fs), (aQ, zI (kG κ) 16 (va_up sq a (sq b)))] dX2_swap_18 rfl  (kk := ?_) 
  refine z_aload_n hk dX2_swap_19 1 rfl (kk := ?_)
  refine z_get hk in_X2 0 7 q1287 dX2_swap_20 rfl hF7 (kk := ?_)
  refine z_iload_n hk dX2_swap_23 3 rfl (kk := ?_)
  refine z_iload_n hk dX2_swap_24 0 rfl (kk := ?_)
  refine z_iast (i := b) hk 1 [(o, zO 2 fs), (aQ, zI (kG κ) 16 (va_up (va_up sq a (sq b)) b (sq a)))] dX2_swap_25 rfl  (kk := ?_) 
  exact z_vret hk hR_ () dX2_swap_26 rfl rfl (by trivial) (zSub.ix [0, 1] rfl)

set_option maxHeartbeats 600000 in
theorem ct_X2_goUp (l_ : Launch) (G : zG) (o : Nat) (aS : Nat) (aI : Nat) (aK : Nat) (aP : Nat) (aT : Nat) (aO : Nat) (aQ : Nat) (aR : Nat) (aF : Nat) (aL : Nat) (said : Nat) (kp : Nat) (st : Nat → Nat) (n : Nat) (t : Nat → Nat) (m : Nat) (k : Nat → Nat) (lk : Nat → Nat) (tx : Nat → Nat) (oth : Nat → Nat) (sq : Nat → Nat) (sd : Nat) (tr : Nat) (hn : st 48 = n) (hn48 : n ≤ 48) (ht : ∀ j, j < n → st j = t j ∧ t j < 16) (hm : st 55 = m) (hm6 : 1 ≤ m ∧ m ≤ 6) (hkk : ∀ j, j < m → st (49 + j) = k j ∧ k j < 16) (hlk : ∀ q, q < 256 → st (72 + q) = lk q ∧ lk q ≤ 1) (hb : ∀ j, st j < 100) (hev : n % 2 = 0) (hsd : sd ≤ 9999) (htr : tr ≤ 60) :
    Ct l_ G yX2_goUp cX2_goUp 7 (some .int) 6 0 0 [.ref o, .int (iZ ((sd : Nat) : Int)), .int (iZ ((tr : Nat) : Int))] [(o, zO 2 [.ref aS, .ref aI, .ref aK, .ref aP, .int (iZ ((said : Nat) : Int)), .ref aT, .ref aO, .ref aQ, .ref aR, .ref aF, .ref aL, .int (iZ ((kp : Nat) : Int))]), (aS, zI G 819 st), (aT, zI G 48 tx), (aO, zI G 48 oth), (aQ, zI G 16 sq)]
      (fun u : Nat × Nat × (Nat → Nat) × (Nat → Nat) × (Nat → Nat) => some (.int (iZ ((u.1 : Nat) : Int)))) (fun u : Nat × Nat × (Nat → Nat) × (Nat → Nat) × (Nat → Nat) => u.1 = (clS lk t n (sqF k m) sd tr).2.1 ∧ u.2.1 = (clS lk t n (sqF k m) sd tr).2.2.1 ∧ u.2.2.2.2 = (clS lk t n (sqF k m) sd tr).1 ∧ SqO u.2.2.2.2 ∧ u.1 ≤ 48 ∧ u.2.1 ≤ 60) (fun u : Nat × Nat × (Nat → Nat) × (Nat → Nat) × (Nat → Nat) => [(o, zO 2 [.ref aS, .ref aI, .ref aK, .ref aP, .int (iZ ((said : Nat) : Int)), .ref aT, .ref aO, .ref aQ, .ref aR, .ref aF, .ref aL, .int (iZ ((u.2.1 : Nat) : Int))]), (aS, zI G 819 st), (aT, zI G 48 u.2.2.1), (aO, zI G 48 u.2.2.2.1), (aQ, zI G 16 u.2.2.2.2)]) := by
  refine Ct.of (by decide) (Nat.le_of_ble_eq_true rfl) ?_
  intro κ hl_ hG_ hk hR_
  subst hl_
  subst hG_
  show Z κ 0 [(0, .ref o), (1, .int (iZ ((sd : Nat) : Int))), (2, .int (iZ ((tr : Nat) : Int)))] [] [(o, zO 2 [.ref aS, .ref aI, .ref aK, .ref aP, .int (iZ ((said : Nat) : Int)), .ref aT, .ref aO, .ref aQ, .ref aR, .ref aF, .ref aL, .int (iZ ((kp : Nat) : Int))]), (aS, zI (kG κ) 819 st), (aT, zI (kG κ) 48 tx), (aO, zI (kG κ) 48 oth), (aQ, zI (kG κ) 16 sq)] 0 0
  obtain ⟨Sq, eSq⟩ : ∃ Sq : Nat → Nat, Sq = sqF k m := ⟨_, rfl⟩
  have gSo : SqO Sq := by rw [eSq]; exact (sqF_ok (fun j hj => (hkk j hj).2)).O
  have gle : ∀ q, SqO q → gCl lk t n q ≤ 48 := fun q hq => Nat.le_trans (aGood_le (fun q hq => (hlk q hq).2) (fun j hj => prF_lt hq.P j)) hn48
  refine z_aload_n hk dX2_goUp_0 0 rfl (kk := ?_)
  refine z_callV hk [] 0 [(aT, zI (kG κ) 48 tx), (aO, zI (kG κ) 48 oth)] (ct_X2_laySquare (kL κ) (kG κ) o [.ref aS, .ref aI, .ref aK, .ref aP, .int (iZ ((said : Nat) : Int)), .ref aT, .ref aO, .ref aQ, .ref aR, .ref aF, .ref aL, .int (iZ ((kp : Nat) : Int))] aS aQ st m k sq rfl rfl (by first | assumption | omega) (by first | assumption | omega) (by first | assumption | omega) (by first | assumption | omega)) q1356 q1358 qs31 q66 q1359 (zSub.ix [0, 1, 4, 2, 3] rfl) 0 2 rfl dX2_goUp_1 rfl (kk := fun _ _ => ?_)
  show Z κ 4 [(0, .ref o), (1, .int (iZ ((sd : Nat) : Int))), (2, .int (iZ ((tr : Nat) : Int)))] [] [(o, zO 2 [.ref aS, .ref aI, .ref aK, .ref aP, .int (iZ ((said : Nat) : Int)), .ref aT, .ref aO, .ref aQ, .ref aR, .ref aF, .ref aL, .int (iZ ((kp : Nat) : Int))]), (aS, zI (kG κ) 819 st), (aQ, zI (kG κ) 16 (sqF k m)), (aT, zI (kG κ) 48 tx), (aO, zI (kG κ) 48 oth)] 0 0
  rw [← eSq]
  refine z_aload_n hk dX2_goUp_4 0 rfl (kk := ?_)
  refine z_callV hk [] 0 [(aQ, zI (kG κ) 16 Sq), (aO, zI (kG κ) 48 oth)] (ct_X2_layText (kL κ) (kG κ) o [.ref aS, .ref aI, .ref aK, .ref aP, .int (iZ ((said : Nat) : Int)), .ref aT, .ref aO, .ref aQ, .ref aR, .ref aF, .ref aL, .int (iZ ((kp : Nat) : Int))] aS aT st n t tx rfl rfl (by first | assumption | omega) (by first | assumption | omega) (by first | assumption | omega)) q1459 q1461 qs48 q66 q1462 (zSub.ix [0, 1, 3, 2, 4] rfl) 0 2 rfl dX2_goUp_5 rfl (kk := fun u_2 hu5 => ?_)
  obtain ⟨tx2_3, rfl⟩ : ∃ z_, z_ = u_2 := ⟨_, rfl⟩
  have hu5 : ∀ j, j < n → tx2_3 j = t j ∧ t j < 16 := hu5
  show Z κ 8 [(0, .ref o), (1, .int (iZ ((sd : Nat) : Int))), (2, .int (iZ ((tr : Nat) : Int)))] [] [(o, zO 2 [.ref aS, .ref aI, .ref aK, .ref aP, .int (iZ ((said : Nat) : Int)), .ref aT, .ref aO, .ref aQ, .ref aR, .ref aF, .ref aL, .int (iZ ((kp : Nat) : Int))]), (aS, zI (kG κ) 819 st), (aT, zI (kG κ) 48 tx2_3), (aQ, zI (kG κ) 16 Sq), (aO, zI (kG κ) 48 oth)] 0 0
  refine z_aload_n hk dX2_goUp_8 0 rfl (kk := ?_)
  refine z_callV hk [] 0 [] (ct_X2_goodByPairs (kL κ) (kG κ) o [.ref aS, .ref aI, .ref aK, .ref aP, .int (iZ ((said : Nat) : Int)), .ref aT, .ref aO, .ref aQ, .ref aR, .ref aF, .ref aL, .int (iZ ((kp : Nat) : Int))] aS aT aO aQ st n t lk tx2_3 oth Sq rfl rfl rfl rfl (by first | assumption | omega) (by first | assumption | omega) (by first | assumption | omega) (by first | assumption | omega) (by first | assumption | omega) (by first | assumption | omega)) q1490 q1492 qs53 q66 q1493 (zSub.ix [0, 1, 2, 4, 3] rfl) 0 2 rfl dX2_goUp_9 rfl (kk := fun u_4 hu9 => ?_)
  obtain ⟨o2_5, rfl⟩ : ∃ z_, z_ = u_4 := ⟨_, rfl⟩
  show Z κ 12 [(0, .ref o), (1, .int (iZ ((sd : Nat) : Int))), (2, .int (iZ ((tr : Nat) : Int)))] [.int (iZ (((gCl lk t n Sq) : Nat) : Int))] [(o, zO 2 [.ref aS, .ref aI, .ref aK, .ref aP, .int (iZ ((said : Nat) : Int)), .ref aT, .ref aO, .ref aQ, .ref aR, .ref aF, .ref aL, .int (iZ ((kp : Nat) : Int))]), (aS, zI (kG κ) 819 st), (aT, zI (kG κ) 48 tx2_3), (aO, zI (kG κ) 48 o2_5), (aQ, zI (kG κ) 16 Sq)] 0 0
  obtain ⟨G0, eG0⟩ : ∃ x_ : Nat, x_ = (gCl lk t n Sq) := ⟨_, rfl⟩
  refine z_topN G0 (by rw [eG0]) ?_
  have gG0 := gle Sq gSo
  rw [← eG0] at gG0
  refine z_istore_n hk [(3, .int (iZ ((G0 : Nat) : Int))), (0, .ref o), (1, .int (iZ ((sd : Nat) : Int))), (2, .int (iZ ((tr : Nat) : Int)))] dX2_goUp_12 (kk := ?_)
  refine z_iload_n hk dX2_goUp_13 2 rfl (kk := ?_)
  refine z_istore hk [(4, .int (iZ ((sd : Nat) : Int))), (3, .int (iZ ((G0 : Nat) : Int))), (0, .ref o), (1, .int (iZ ((sd : Nat) : Int))), (2, .int (iZ ((tr : Nat) : Int)))] dX2_goUp_14 (kk := ?_)
  refine z_aload_n hk dX2_goUp_16 2 rfl (kk := ?_)
  refine z_iconst (z := ((0 : Nat) : Int)) hk dX2_goUp_17 (kk := ?_)
  refine z_put hk in_X2 tyX2 tyX2_ok nmX2 0 11 [(o, zO 2 [.ref aS, .ref aI, .ref aK, .ref aP, .int (iZ ((said : Nat) : Int)), .ref aT, .ref aO, .ref aQ, .ref aR, .ref aF, .ref aL, .int (iZ ((0 : Nat) : Int))]), (aS, zI (kG κ) 819 st), (aT, zI (kG κ) 48 tx2_3), (aO, zI (kG κ) 48 o2_5), (aQ, zI (kG κ) 16 Sq)] q1291 dX2_goUp_18 rfl (kk := ?_)
  refine z_iconst (z := ((0 : Nat) : Int)) hk dX2_goUp_21 (kk := ?_)
  refine z_istore hk [(5, .int (iZ ((0 : Nat) : Int))), (4, .int (iZ ((sd : Nat) : Int))), (3, .int (iZ ((G0 : Nat) : Int))), (0, .ref o), (1, .int (iZ ((sd : Nat) : Int))), (2, .int (iZ ((tr : Nat) : Int)))] dX2_goUp_22 (kk := ?_)
  have L24 : ∀ (f_ : Nat) (c : Nat) (g : Nat) (z : Nat) (kq : Nat) (q : Nat → Nat) (o3 : Nat → Nat), (c ≤ tr) → (clS lk t n Sq sd c = (q, g, kq, z)) → (SqO q) → (g ≤ 48) → (kq ≤ c) → (z ≤ 65537) → tr - c < f_ → Z κ 24 [(5, .int (iZ ((c : Nat) : Int))), (3, .int (iZ ((g : Nat) : Int))), (4, .int (iZ ((z : Nat) : Int))), (0, .ref o), (1, .int (iZ ((sd : Nat) : Int))), (2, .int (iZ ((tr : Nat) : Int)))] [] [(o, zO 2 [.ref aS, .ref aI, .ref aK, .ref aP, .int (iZ ((said : Nat) : Int)), .ref aT, .ref aO, .ref aQ, .ref aR, .ref aF, .ref aL, .int (iZ ((kq : Nat) : Int))]), (aS, zI (kG κ) 819 st), (aT, zI (kG κ) 48 tx2_3), (aO, zI (kG κ) 48 o3), (aQ, zI (kG κ) 16 q)] 0 0 := by
    intro f_
    induction f_ with
    | zero => intro c g z kq q o3 hc hcl hS hg hkq hz hm_; exact absurd hm_ (Nat.not_lt_zero _)
    | succ f_ ih24 =>
      intro c g z kq q o3 hc hcl hS hg hkq hz hm_
      refine z_iload hk dX2_goUp_24 0 rfl (kk := ?_)
      refine z_iload_n hk dX2_goUp_26 5 rfl (kk := ?_)
      refine z_icmp_ge hk 111 dX2_goUp_27 (kt := fun h27 => ?_) (kf := fun h27 => ?_) 
      · skip
        refine z_iload_n hk dX2_goUp_111 1 rfl (kk := ?_)
        exact z_iret hk hR_ (g, kq, tx2_3, o3, q) dX2_goUp_112 rfl rfl (by (try dsimp only); have e1 := hcl; rw [show c = tr from by omega] at e1; rw [← eSq, e1]; exact ⟨rfl, rfl, rfl, hS, by omega, by omega⟩) (zSub.ix [0, 1, 2, 3, 4] rfl)
      · skip
        refine z_bipush (z := ((75 : Nat) : Int)) hk dX2_goUp_30 (kk := ?_)
        refine z_iload hk dX2_goUp_32 2 rfl (kk := ?_)
        refine z_imul (z := ((75 * z : Nat) : Int)) hk dX2_goUp_34 (Int.natCast_mul _ _).symm (kk := ?_)
        refine z_bipush (z := ((74 : Nat) : Int)) hk dX2_goUp_35 (kk := ?_)
        refine z_iadd (z := (((75 * z) + 74 : Nat) : Int)) hk dX2_goUp_37 (Int.natCast_add _ _).symm (kk := ?_)
        refine z_ldc (z := ((65537 : Nat) : Int)) hk q1494 dX2_goUp_38 (kk := ?_)
        refine z_irem (a := (75 * z) + 74) (b := 65537) hk dX2_goUp_40 (kk := ?_) 
        obtain ⟨z1, ez1⟩ : ∃ x_ : Nat, x_ = ((75 * z) + 74) % 65537 := ⟨_, rfl⟩
        refine z_topN z1 (by rw [ez1]) ?_
        have gz1 : z1 < 65537 := by rw [ez1]; exact Nat.mod_lt _ (by omega)
        have ez1 : z1 = zNx z := ez1
        refine z_istore hk [(4, .int (iZ ((z1 : Nat) : Int))), (5, .int (iZ ((c : Nat) : Int))), (3, .int (iZ ((g : Nat) : Int))), (0, .ref o), (1, .int (iZ ((sd : Nat) : Int))), (2, .int (iZ ((tr : Nat) : Int)))] dX2_goUp_41 (kk := ?_)
        refine z_aload_n hk dX2_goUp_43 3 rfl (kk := ?_)
        refine z_iload hk dX2_goUp_44 0 rfl (kk := ?_)
        refine z_bipush (z := ((16 : Nat) : Int)) hk dX2_goUp_46 (kk := ?_)
        refine z_irem (a := z1) (b := 16) hk dX2_goUp_48 (kk := ?_) 
        refine z_iload hk dX2_goUp_49 0 rfl (kk := ?_)
        refine z_bipush (z := ((16 : Nat) : Int)) hk dX2_goUp_51 (kk := ?_)
        refine z_idiv (a := z1) (b := 16) hk dX2_goUp_53 (kk := ?_) 
        refine z_bipush (z := ((16 : Nat) : Int)) hk dX2_goUp_54 (kk := ?_)
        refine z_irem (a := z1 / 16) (b := 16) hk dX2_goUp_56 (kk := ?_) 
        refine z_callV hk [.int (iZ ((z1 % 16 : Nat) : Int)), .int (iZ (((z1 / 16) % 16 : Nat) : Int))] 2 [(aS, zI (kG κ) 819 st), (aT, zI (kG κ) 48 tx2_3), (aO, zI (kG κ) 48 o3)] (ct_X2_swap (kL κ) (kG κ) o [.ref aS, .ref aI, .ref aK, .ref aP, .int (iZ ((said : Nat) : Int)), .ref aT, .ref aO, .ref aQ, .ref aR, .ref aF, .ref aL, .int (iZ ((kq : Nat) : Int))] aQ q (z1 % 16) ((z1 / 16) % 16) rfl (by first | assumption | omega) (by first | assumption | omega)) q1495 q1497 qs54 q66 q1498 (zSub.ix [0, 4, 1, 2, 3] rfl) 0 2 rfl dX2_goUp_57 rfl (kk := fun _ _ => ?_)
        show Z κ 60 [(4, .int (iZ ((z1 : Nat) : Int))), (5, .int (iZ ((c : Nat) : Int))), (3, .int (iZ ((g : Nat) : Int))), (0, .ref o), (1, .int (iZ ((sd : Nat) : Int))), (2, .int (iZ ((tr : Nat) : Int)))] [] [(o, zO 2 [.ref aS, .ref aI, .ref aK, .ref aP, .int (iZ ((said : Nat) : Int)), .ref aT, .ref aO, .ref aQ, .ref aR, .ref aF, .ref aL, .int (iZ ((kq : Nat) : Int))]), (aQ, zI (kG κ) 16 (swF q (z1 % 16) ((z1 / 16) % 16))), (aS, zI (kG κ) 819 st), (aT, zI (kG κ) 48 tx2_3), (aO, zI (kG κ) 48 o3)] 0 0
        have gS2 : SqO (swF q (z1 % 16) (z1 / 16 % 16)) := swF_O hS (by omega) (by omega)
        refine z_aload_n hk dX2_goUp_60 3 rfl (kk := ?_)
        refine z_callV hk [] 0 [] (ct_X2_goodByPairs (kL κ) (kG κ) o [.ref aS, .ref aI, .ref aK, .ref aP, .int (iZ ((said : Nat) : Int)), .ref aT, .ref aO, .ref aQ, .ref aR, .ref aF, .ref aL, .int (iZ ((kq : Nat) : Int))] aS aT aO aQ st n t lk tx2_3 o3 (swF q (z1 % 16) ((z1 / 16) % 16)) rfl rfl rfl rfl (by first | assumption | omega) (by first | assumption | omega) (by first | assumption | omega) (by first | assumption | omega) (by first | assumption | omega) (by first | assumption | omega)) q1490 q1492 qs53 q66 q1493 (zSub.ix [0, 2, 3, 4, 1] rfl) 0 2 rfl dX2_goUp_61 rfl (kk := fun u_7 hu61 => ?_)
        obtain ⟨o2_8, rfl⟩ : ∃ z_, z_ = u_7 := ⟨_, rfl⟩
        show Z κ 64 [(4, .int (iZ ((z1 : Nat) : Int))), (5, .int (iZ ((c : Nat) : Int))), (3, .int (iZ ((g : Nat) : Int))), (0, .ref o), (1, .int (iZ ((sd : Nat) : Int))), (2, .int (iZ ((tr : Nat) : Int)))] [.int (iZ (((gCl lk t n (swF q (z1 % 16) ((z1 / 16) % 16))) : Nat) : Int))] [(o, zO 2 [.ref aS, .ref aI, .ref aK, .ref aP, .int (iZ ((said : Nat) : Int)), .ref aT, .ref aO, .ref aQ, .ref aR, .ref aF, .ref aL, .int (iZ ((kq : Nat) : Int))]), (aS, zI (kG κ) 819 st), (aT, zI (kG κ) 48 tx2_3), (aO, zI (kG κ) 48 o2_8), (aQ, zI (kG κ) 16 (swF q (z1 % 16) ((z1 / 16) % 16)))] 0 0
        obtain ⟨G1, eG1⟩ : ∃ x_ : Nat, x_ = (gCl lk t n (swF q (z1 % 16) ((z1 / 16) % 16))) := ⟨_, rfl⟩
        refine z_topN G1 (by rw [eG1]) ?_
        have gG1 := gle _ gS2
        rw [← eG1] at gG1
        refine z_istore hk [(6, .int (iZ ((G1 : Nat) : Int))), (4, .int (iZ ((z1 : Nat) : Int))), (5, .int (iZ ((c : Nat) : Int))), (3, .int (iZ ((g : Nat) : Int))), (0, .ref o), (1, .int (iZ ((sd : Nat) : Int))), (2, .int (iZ ((tr : Nat) : Int)))] dX2_goUp_64 (kk := ?_)
        refine z_iload hk dX2_goUp_66 0 rfl (kk := ?_)
        refine z_iload_n hk dX2_goUp_68 3 rfl (kk := ?_)
        refine z_icmp_ge hk 92 dX2_goUp_69 (kt := fun h69 => ?_) (kf := fun h69 => ?_) 
        · skip
          refine z_iload hk dX2_goUp_92 0 rfl (kk := ?_)
          refine z_istore_n hk [(3, .int (iZ ((G1 : Nat) : Int))), (6, .int (iZ ((G1 : Nat) : Int))), (4, .int (iZ ((z1 : Nat) : Int))), (5, .int (iZ ((c : Nat) : Int))), (0, .ref o), (1, .int (iZ ((sd : Nat) : Int))), (2, .int (iZ ((tr : Nat) : Int)))] dX2_goUp_94 (kk := ?_)
          refine z_aload_n hk dX2_goUp_95 4 rfl (kk := ?_)
          refine z_dup hk dX2_goUp_96 (kk := ?_)
          refine z_get hk in_X2 0 11 q1291 dX2_goUp_97 rfl rfl (kk := ?_)
          refine z_iconst (z := ((1 : Nat) : Int)) hk dX2_goUp_100 (kk := ?_)
          refine z_iadd (z := ((kq + 1 : Nat) : Int)) hk dX2_goUp_101 (Int.natCast_add _ _).symm (kk := ?_)
          refine z_put hk in_X2 tyX2 tyX2_ok nmX2 0 11 [(o, zO 2 [.ref aS, .ref aI, .ref aK, .ref aP, .int (iZ ((said : Nat) : Int)), .ref aT, .ref aO, .ref aQ, .ref aR, .ref aF, .ref aL, .int (iZ ((kq + 1 : Nat) : Int))]), (aS, zI (kG κ) 819 st), (aT, zI (kG κ) 48 tx2_3), (aO, zI (kG κ) 48 o2_8), (aQ, zI (kG κ) 16 (swF q (z1 % 16) ((z1 / 16) % 16)))] q1291 dX2_goUp_102 rfl (kk := ?_)
          refine z_iinc hk (z' := ((c + 1 : Nat) : Int)) [(5, .int (iZ ((c + 1 : Nat) : Int))), (3, .int (iZ ((G1 : Nat) : Int))), (6, .int (iZ ((G1 : Nat) : Int))), (4, .int (iZ ((z1 : Nat) : Int))), (0, .ref o), (1, .int (iZ ((sd : Nat) : Int))), (2, .int (iZ ((tr : Nat) : Int)))] dX2_goUp_105 3 rfl (kk := ?_)
          refine z_goto hk 24 dX2_goUp_108 (kk := ?_)
          refine z_lvs [0, 1, 3, 4, 5, 6] (lv' := [(5, .int (iZ ((c + 1 : Nat) : Int))), (3, .int (iZ ((G1 : Nat) : Int))), (4, .int (iZ ((z1 : Nat) : Int))), (0, .ref o), (1, .int (iZ ((sd : Nat) : Int))), (2, .int (iZ ((tr : Nat) : Int)))]) (kk := ?_)
          exact ih24  (c + 1) G1 z1 (kq + 1) (swF q (z1 % 16) ((z1 / 16) % 16)) o2_8 (by first | assumption | omega) (by rw [clS, hcl]; show (if gCl lk t n (swF q (zNx z % 16) (zNx z / 16 % 16)) < g then (q, g, kq, zNx z) else (swF q (zNx z % 16) (zNx z / 16 % 16), gCl lk t n (swF q (zNx z % 16) (zNx z / 16 % 16)), kq + 1, zNx z)) = _; rw [← ez1, ← eG1]; first | (rw [if_pos (by omega)]; done) | (rw [if_neg (by omega)]; done)) (by first | exact hS | exact gS2) (by first | assumption | omega) (by first | assumption | omega) (by first | assumption | omega) (by omega)
        · skip
          refine z_aload_n hk dX2_goUp_72 4 rfl (kk := ?_)
          refine z_iload hk dX2_goUp_73 1 rfl (kk := ?_)
          refine z_bipush (z := ((16 : Nat) : Int)) hk dX2_goUp_75 (kk := ?_)
          refine z_irem (a := z1) (b := 16) hk dX2_goUp_77 (kk := ?_) 
          refine z_iload hk dX2_goUp_78 1 rfl (kk := ?_)
          refine z_bipush (z := ((16 : Nat) : Int)) hk dX2_goUp_80 (kk := ?_)
          refine z_idiv (a := z1) (b := 16) hk dX2_goUp_82 (kk := ?_) 
          refine z_bipush (z := ((16 : Nat) : Int)) hk dX2_goUp_83 (kk := ?_)
          refine z_irem (a := z1 / 16) (b := 16) hk dX2_goUp_85 (kk := ?_) 
          refine z_callV hk [.int (iZ ((z1 % 16 : Nat) : Int)), .int (iZ (((z1 / 16) % 16 : Nat) : Int))] 2 [(aS, zI (kG κ) 819 st), (aT, zI (kG κ) 48 tx2_3), (aO, zI (kG κ) 48 o2_8)] (ct_X2_swap (kL κ) (kG κ) o [.ref aS, .ref aI, .ref aK, .ref aP, .int (iZ ((said : Nat) : Int)), .ref aT, .ref aO, .ref aQ, .ref aR, .ref aF, .ref aL, .int (iZ ((kq : Nat) : Int))] aQ (swF q (z1 % 16) ((z1 / 16) % 16)) (z1 % 16) ((z1 / 16) % 16) rfl (by first | assumption | omega) (by first | assumption | omega)) q1495 q1497 qs54 q66 q1498 (zSub.ix [0, 4, 1, 2, 3] rfl) 0 2 rfl dX2_goUp_86 rfl (kk := fun _ _ => ?_)
          show Z κ 89 [(6, .int (iZ ((G1 : Nat) : Int))), (4, .int (iZ ((z1 : Nat) : Int))), (5, .int (iZ ((c : Nat) : Int))), (3, .int (iZ ((g : Nat) : Int))), (0, .ref o), (1, .int (iZ ((sd : Nat) : Int))), (2, .int (iZ ((tr : Nat) : Int)))] [] [(o, zO 2 [.ref aS, .ref aI, .ref aK, .ref aP, .int (iZ ((said : Nat) : Int)), .ref aT, .ref aO, .ref aQ, .ref aR, .ref aF, .ref aL, .int (iZ ((kq : Nat) : Int))]), (aQ, zI (kG κ) 16 (swF (swF q (z1 % 16) ((z1 / 16) % 16)) (z1 % 16) ((z1 / 16) % 16))), (aS, zI (kG κ) 819 st), (aT, zI (kG κ) 48 tx2_3), (aO, zI (kG κ) 48 o2_8)] 0 0
          rw [swF_sw]
          refine z_goto hk 105 dX2_goUp_89 (kk := ?_)
          refine z_iinc hk (z' := ((c + 1 : Nat) : Int)) [(5, .int (iZ ((c + 1 : Nat) : Int))), (6, .int (iZ ((G1 : Nat) : Int))), (4, .int (iZ ((z1 : Nat) : Int))), (3, .int (iZ ((g : Nat) : Int))), (0, .ref o), (1, .int (iZ ((sd : Nat) : Int))), (2, .int (iZ ((tr : Nat) : Int)))] dX2_goUp_105 2 rfl (kk := ?_)
          refine z_goto hk 24 dX2_goUp_108 (kk := ?_)
          refine z_lvs [0, 3, 2, 4, 5, 6] (lv' := [(5, .int (iZ ((c + 1 : Nat) : Int))), (3, .int (iZ ((g : Nat) : Int))), (4, .int (iZ ((z1 : Nat) : Int))), (0, .ref o), (1, .int (iZ ((sd : Nat) : Int))), (2, .int (iZ ((tr : Nat) : Int)))]) (kk := ?_)
          refine z_sub (zSub.ix [0, 2, 3, 4, 1] (ws' := [(o, zO 2 [.ref aS, .ref aI, .ref aK, .ref aP, .int (iZ ((said : Nat) : Int)), .ref aT, .ref aO, .ref aQ, .ref aR, .ref aF, .ref aL, .int (iZ ((kq : Nat) : Int))]), (aS, zI (kG κ) 819 st), (aT, zI (kG κ) 48 tx2_3), (aO, zI (kG κ) 48 o2_8), (aQ, zI (kG κ) 16 q)]) rfl) ?_
          exact ih24  (c + 1) g z1 kq q o2_8 (by first | assumption | omega) (by rw [clS, hcl]; show (if gCl lk t n (swF q (zNx z % 16) (zNx z / 16 % 16)) < g then (q, g, kq, zNx z) else (swF q (zNx z % 16) (zNx z / 16 % 16), gCl lk t n (swF q (zNx z % 16) (zNx z / 16 % 16)), kq + 1, zNx z)) = _; rw [← ez1, ← eG1]; first | (rw [if_pos (by omega)]; done) | (rw [if_neg (by omega)]; done)) (by first | exact hS | exact gS2) (by first | assumption | omega) (by first | assumption | omega) (by first | assumption | omega) (by omega)
  refine z_lvs [0, 2, 1, 3, 4, 5] (lv' := [(5, .int (iZ ((0 : Nat) : Int))), (3, .int (iZ ((G0 : Nat) : Int))), (4, .int (iZ ((sd : Nat) : Int))), (0, .ref o), (1, .int (iZ ((sd : Nat) : Int))), (2, .int (iZ ((tr : Nat) : Int)))]) (kk := ?_)
  exact L24 (tr - 0 + 1) 0 G0 sd 0 Sq o2_5 (by first | assumption | omega) (by rw [eG0]; rfl) (by exact gSo) (by first | assumption | omega) (by first | assumption | omega) (by first | assumption | omega) (Nat.lt_succ_self _)

set_option maxHeartbeats 600000 in
theorem ct_X2_climb (l_ : Launch) (G : zG) (o : Nat) (aS : Nat) (aI : Nat) (aK : Nat) (aP : Nat) (aT : Nat) (aO : Nat) (aQ : Nat) (aR : Nat) (aF : Nat) (aL : Nat) (said : Nat) (kp : Nat) (st : Nat → Nat) (n : Nat) (t : Nat → Nat) (m : Nat) (k : Nat → Nat) (lk : Nat → Nat) (tx : Nat → Nat) (oth : Nat → Nat) (sq : Nat → Nat) (sd : Int) (tr : Int) (wh : Int) (hn : st 48 = n) (hn48 : n ≤ 48) (ht : ∀ j, j < n → st j = t j ∧ t j < 16) (hm : st 55 = m) (hm6 : 1 ≤ m ∧ m ≤ 6) (hkk : ∀ j, j < m → st (49 + j) = k j ∧ k j < 16) (hlk : ∀ q, q < 256 → st (72 + q) = lk q ∧ lk q ≤ 1) (hb : ∀ j, st j < 100) (hsd : -2147483648 ≤ sd ∧ sd ≤ 2147483647) (htr : -2147483648 ≤ tr ∧ tr ≤ 2147483647) (hwh : -2147483648 ≤ wh ∧ wh ≤ 2147483647) :
    Ct l_ G yX2_climb cX2_climb 5 (some .int) 7 0 0 [.ref o, .int (iZ (sd)), .int (iZ (tr)), .int (iZ (wh))] [(o, zO 2 [.ref aS, .ref aI, .ref aK, .ref aP, .int (iZ ((said : Nat) : Int)), .ref aT, .ref aO, .ref aQ, .ref aR, .ref aF, .ref aL, .int (iZ ((kp : Nat) : Int))]), (aS, zI G 819 st), (aT, zI G 48 tx), (aO, zI G 48 oth), (aQ, zI G 16 sq)]
      (fun u : Int × Nat × (Nat → Nat) × (Nat → Nat) × (Nat → Nat) => some (.int (iZ (u.1)))) (fun u : Int × Nat × (Nat → Nat) × (Nat → Nat) × (Nat → Nat) => u.1 = aClimb lk t k n m sd tr wh) (fun u : Int × Nat × (Nat → Nat) × (Nat → Nat) × (Nat → Nat) => [(o, zO 2 [.ref aS, .ref aI, .ref aK, .ref aP, .int (iZ ((said : Nat) : Int)), .ref aT, .ref aO, .ref aQ, .ref aR, .ref aF, .ref aL, .int (iZ ((u.2.1 : Nat) : Int))]), (aS, zI G 819 st), (aT, zI G 48 u.2.2.1), (aO, zI G 48 u.2.2.2.1), (aQ, zI G 16 u.2.2.2.2)]) := by
  refine Ct.of (by decide) (Nat.le_of_ble_eq_true rfl) ?_
  intro κ hl_ hG_ hk hR_
  subst hl_
  subst hG_
  show Z κ 0 [(0, .ref o), (1, .int (iZ (sd))), (2, .int (iZ (tr))), (3, .int (iZ (wh)))] [] [(o, zO 2 [.ref aS, .ref aI, .ref aK, .ref aP, .int (iZ ((said : Nat) : Int)), .ref aT, .ref aO, .ref aQ, .ref aR, .ref aF, .ref aL, .int (iZ ((kp : Nat) : Int))]), (aS, zI (kG κ) 819 st), (aT, zI (kG κ) 48 tx), (aO, zI (kG κ) 48 oth), (aQ, zI (kG κ) 16 sq)] 0 0
  refine z_iload_n hk dX2_climb_0 1 rfl (kk := ?_)
  refine z_iconst (z := ((0 : Nat) : Int)) hk dX2_climb_1 (kk := ?_)
  refine z_sipush (z := ((9999 : Nat) : Int)) hk dX2_climb_2 (kk := ?_)
  refine z_callS hk [.int (iZ (sd)), .int (iZ ((0 : Nat) : Int)), .int (iZ ((9999 : Nat) : Int))] 3 [(o, zO 2 [.ref aS, .ref aI, .ref aK, .ref aP, .int (iZ ((said : Nat) : Int)), .ref aT, .ref aO, .ref aQ, .ref aR, .ref aF, .ref aL, .int (iZ ((kp : Nat) : Int))]), (aS, zI (kG κ) 819 st), (aT, zI (kG κ) 48 tx), (aO, zI (kG κ) 48 oth), (aQ, zI (kG κ) 16 sq)] (ct_X2_in (kL κ) (kG κ) sd ((0 : Nat) : Int) ((9999 : Nat) : Int) (by first | assumption | omega) (by first | assumption | omega) (by first | assumption | omega)) q1322 q1323 q66 q1324 (zSub.ix [0, 1, 2, 3, 4] rfl) dX2_climb_5 rfl (kk := fun u_1 hu5 => ?_)
  obtain ⟨u0_2, rfl⟩ : ∃ z_, z_ = u_1 := ⟨_, rfl⟩
  have hu5 : (u0_2 = 1 ∧ ((0 : Nat) : Int) ≤ sd ∧ sd ≤ ((9999 : Nat) : Int)) ∨ (u0_2 = 0 ∧ ¬ (((0 : Nat) : Int) ≤ sd ∧ sd ≤ ((9999 : Nat) : Int))) := hu5
  show Z κ 8 [(0, .ref o), (1, .int (iZ (sd))), (2, .int (iZ (tr))), (3, .int (iZ (wh)))] [.int (iZ ((u0_2 : Nat) : Int))] [(o, zO 2 [.ref aS, .ref aI, .ref aK, .ref aP, .int (iZ ((said : Nat) : Int)), .ref aT, .ref aO, .ref aQ, .ref aR, .ref aF, .ref aL, .int (iZ ((kp : Nat) : Int))]), (aS, zI (kG κ) 819 st), (aT, zI (kG κ) 48 tx), (aO, zI (kG κ) 48 oth), (aQ, zI (kG κ) 16 sq)] 0 0
  refine z_if_eq hk 32 dX2_climb_8 (kt := fun h8 => ?_) (kf := fun h8 => ?_) 
  · skip
    refine z_bipush (z := -2) hk dX2_climb_32 (kk := ?_)
    exact z_iret hk hR_ (-2, kp, tx, oth, sq) dX2_climb_34 rfl rfl (by (try dsimp only); unfold aClimb; rw [if_neg (by omega)]) (zSub.ix [0, 1, 2, 3, 4] rfl)
  · skip
    refine z_iload_n hk dX2_climb_11 2 rfl (kk := ?_)
    refine z_iconst (z := ((0 : Nat) : Int)) hk dX2_climb_12 (kk := ?_)
    refine z_bipush (z := ((60 : Nat) : Int)) hk dX2_climb_13 (kk := ?_)
    refine z_callS hk [.int (iZ (tr)), .int (iZ ((0 : Nat) : Int)), .int (iZ ((60 : Nat) : Int))] 3 [(o, zO 2 [.ref aS, .ref aI, .ref aK, .ref aP, .int (iZ ((said : Nat) : Int)), .ref aT, .ref aO, .ref aQ, .ref aR, .ref aF, .ref aL, .int (iZ ((kp : Nat) : Int))]), (aS, zI (kG κ) 819 st), (aT, zI (kG κ) 48 tx), (aO, zI (kG κ) 48 oth), (aQ, zI (kG κ) 16 sq)] (ct_X2_in (kL κ) (kG κ) tr ((0 : Nat) : Int) ((60 : Nat) : Int) (by first | assumption | omega) (by first | assumption | omega) (by first | assumption | omega)) q1322 q1323 q66 q1324 (zSub.ix [0, 1, 2, 3, 4] rfl) dX2_climb_15 rfl (kk := fun u_3 hu15 => ?_)
    obtain ⟨u0_4, rfl⟩ : ∃ z_, z_ = u_3 := ⟨_, rfl⟩
    have hu15 : (u0_4 = 1 ∧ ((0 : Nat) : Int) ≤ tr ∧ tr ≤ ((60 : Nat) : Int)) ∨ (u0_4 = 0 ∧ ¬ (((0 : Nat) : Int) ≤ tr ∧ tr ≤ ((60 : Nat) : Int))) := hu15
    show Z κ 18 [(0, .ref o), (1, .int (iZ (sd))), (2, .int (iZ (tr))), (3, .int (iZ (wh)))] [.int (iZ ((u0_4 : Nat) : Int))] [(o, zO 2 [.ref aS, .ref aI, .ref aK, .ref aP, .int (iZ ((said : Nat) : Int)), .ref aT, .ref aO, .ref aQ, .ref aR, .ref aF, .ref aL, .int (iZ ((kp : Nat) : Int))]), (aS, zI (kG κ) 819 st), (aT, zI (kG κ) 48 tx), (aO, zI (kG κ) 48 oth), (aQ, zI (kG κ) 16 sq)] 0 0
    refine z_if_eq hk 32 dX2_climb_18 (kt := fun h18 => ?_) (kf := fun h18 => ?_) 
    · skip
      refine z_bipush (z := -2) hk dX2_climb_32 (kk := ?_)
      exact z_iret hk hR_ (-2, kp, tx, oth, sq) dX2_climb_34 rfl rfl (by (try dsimp only); unfold aClimb; rw [if_neg (by omega)]) (zSub.ix [0, 1, 2, 3, 4] rfl)
    · skip
      refine z_iload_n hk dX2_climb_21 3 rfl (kk := ?_)
      refine z_bipush (z := -2) hk dX2_climb_22 (kk := ?_)
      refine z_bipush (z := ((15 : Nat) : Int)) hk dX2_climb_24 (kk := ?_)
      refine z_callS hk [.int (iZ (wh)), .int (iZ (-2)), .int (iZ ((15 : Nat) : Int))] 3 [(o, zO 2 [.ref aS, .ref aI, .ref aK, .ref aP, .int (iZ ((said : Nat) : Int)), .ref aT, .ref aO, .ref aQ, .ref aR, .ref aF, .ref aL, .int (iZ ((kp : Nat) : Int))]), (aS, zI (kG κ) 819 st), (aT, zI (kG κ) 48 tx), (aO, zI (kG κ) 48 oth), (aQ, zI (kG κ) 16 sq)] (ct_X2_in (kL κ) (kG κ) wh (-2) ((15 : Nat) : Int) (by first | assumption | omega) (by first | assumption | omega) (by first | assumption | omega)) q1322 q1323 q66 q1324 (zSub.ix [0, 1, 2, 3, 4] rfl) dX2_climb_26 rfl (kk := fun u_5 hu26 => ?_)
      obtain ⟨u0_6, rfl⟩ : ∃ z_, z_ = u_5 := ⟨_, rfl⟩
      have hu26 : (u0_6 = 1 ∧ (-2) ≤ wh ∧ wh ≤ ((15 : Nat) : Int)) ∨ (u0_6 = 0 ∧ ¬ ((-2) ≤ wh ∧ wh ≤ ((15 : Nat) : Int))) := hu26
      show Z κ 29 [(0, .ref o), (1, .int (iZ (sd))), (2, .int (iZ (tr))), (3, .int (iZ (wh)))] [.int (iZ ((u0_6 : Nat) : Int))] [(o, zO 2 [.ref aS, .ref aI, .ref aK, .ref aP, .int (iZ ((said : Nat) : Int)), .ref aT, .ref aO, .ref aQ, .ref aR, .ref aF, .ref aL, .int (iZ ((kp : Nat) : Int))]), (aS, zI (kG κ) 819 st), (aT, zI (kG κ) 48 tx), (aO, zI (kG κ) 48 oth), (aQ, zI (kG κ) 16 sq)] 0 0
      refine z_if_ne hk 35 dX2_climb_29 (kt := fun h29 => ?_) (kf := fun h29 => ?_) 
      · skip
        refine z_aload_n hk dX2_climb_35 0 rfl (kk := ?_)
        refine z_callV hk [] 0 [(aT, zI (kG κ) 48 tx), (aO, zI (kG κ) 48 oth), (aQ, zI (kG κ) 16 sq)] (ct_X2_many (kL κ) (kG κ) o [.ref aS, .ref aI, .ref aK, .ref aP, .int (iZ ((said : Nat) : Int)), .ref aT, .ref aO, .ref aQ, .ref aR, .ref aF, .ref aL, .int (iZ ((kp : Nat) : Int))] aS st n rfl (by first | assumption | omega)) q1352 q1354 qs30 q66 q1355 (zSub.ix [0, 1, 2, 3, 4] rfl) 0 2 rfl dX2_climb_36 rfl (kk := fun _ _ => ?_)
        show Z κ 39 [(0, .ref o), (1, .int (iZ (sd))), (2, .int (iZ (tr))), (3, .int (iZ (wh)))] [.int (iZ ((n : Nat) : Int))] [(o, zO 2 [.ref aS, .ref aI, .ref aK, .ref aP, .int (iZ ((said : Nat) : Int)), .ref aT, .ref aO, .ref aQ, .ref aR, .ref aF, .ref aL, .int (iZ ((kp : Nat) : Int))]), (aS, zI (kG κ) 819 st), (aT, zI (kG κ) 48 tx), (aO, zI (kG κ) 48 oth), (aQ, zI (kG κ) 16 sq)] 0 0
        refine z_iconst (z := ((2 : Nat) : Int)) hk dX2_climb_39 (kk := ?_)
        refine z_irem (a := n) (b := 2) hk dX2_climb_40 (kk := ?_) 
        refine z_iconst (z := ((1 : Nat) : Int)) hk dX2_climb_41 (kk := ?_)
        refine z_icmp_ne hk 48 dX2_climb_42 (kt := fun h42 => ?_) (kf := fun h42 => ?_) 
        · skip
          refine z_aload_n hk dX2_climb_48 0 rfl (kk := ?_)
          refine z_iload_n hk dX2_climb_49 1 rfl (kk := ?_)
          refine z_topN (sd.toNat) (by omega) ?_
          refine z_iload_n hk dX2_climb_50 2 rfl (kk := ?_)
          refine z_topN (tr.toNat) (by omega) ?_
          refine z_callV hk [.int (iZ ((sd.toNat : Nat) : Int)), .int (iZ ((tr.toNat : Nat) : Int))] 2 [] (ct_X2_goUp (kL κ) (kG κ) o aS aI aK aP aT aO aQ aR aF aL said kp st n t m k lk tx oth sq sd.toNat tr.toNat (by first | assumption | omega) (by first | assumption | omega) (by first | assumption | omega) (by first | assumption | omega) (by first | assumption | omega) (by first | assumption | omega) (by first | assumption | omega) (by first | assumption | omega) (by first | assumption | omega) (by first | assumption | omega) (by first | assumption | omega)) q1486 q1488 qs52 q66 q1489 (zSub.ix [0, 1, 2, 3, 4] rfl) 0 2 rfl dX2_climb_51 rfl (kk := fun u_8 hu51 => ?_)
          obtain ⟨r_9, kp2_10, tx2_11, o2_12, sq2_13⟩ := u_8
          have hu51 : r_9 = (clS lk t n (sqF k m) sd.toNat tr.toNat).2.1 ∧ kp2_10 = (clS lk t n (sqF k m) sd.toNat tr.toNat).2.2.1 ∧ sq2_13 = (clS lk t n (sqF k m) sd.toNat tr.toNat).1 ∧ SqO sq2_13 ∧ r_9 ≤ 48 ∧ kp2_10 ≤ 60 := hu51
          show Z κ 54 [(0, .ref o), (1, .int (iZ (sd))), (2, .int (iZ (tr))), (3, .int (iZ (wh)))] [.int (iZ ((r_9 : Nat) : Int))] [(o, zO 2 [.ref aS, .ref aI, .ref aK, .ref aP, .int (iZ ((said : Nat) : Int)), .ref aT, .ref aO, .ref aQ, .ref aR, .ref aF, .ref aL, .int (iZ ((kp2_10 : Nat) : Int))]), (aS, zI (kG κ) 819 st), (aT, zI (kG κ) 48 tx2_11), (aO, zI (kG κ) 48 o2_12), (aQ, zI (kG κ) 16 sq2_13)] 0 0
          obtain ⟨hv1, hv2, hv3, hv4, hv5, hv6⟩ := hu51
          refine z_istore hk [(4, .int (iZ ((r_9 : Nat) : Int))), (0, .ref o), (1, .int (iZ (sd))), (2, .int (iZ (tr))), (3, .int (iZ (wh)))] dX2_climb_54 (kk := ?_)
          refine z_iload_n hk dX2_climb_56 4 rfl (kk := ?_)
          refine z_iconst (z := -1) hk dX2_climb_57 (kk := ?_)
          refine z_icmp_ne hk 66 dX2_climb_58 (kt := fun h58 => ?_) (kf := fun h58 => ?_) 
          · skip
            refine z_iload_n hk dX2_climb_66 4 rfl (kk := ?_)
            refine z_bipush (z := -2) hk dX2_climb_67 (kk := ?_)
            refine z_icmp_ne hk 79 dX2_climb_69 (kt := fun h69 => ?_) (kf := fun h69 => ?_) 
            · skip
              refine z_aload_n hk dX2_climb_79 1 rfl (kk := ?_)
              refine z_get hk in_X2 0 7 q1287 dX2_climb_80 rfl rfl (kk := ?_)
              refine z_iload_n hk dX2_climb_83 4 rfl (kk := ?_)
              refine z_topN (wh.toNat) (by omega) ?_
              refine z_iald (i := wh.toNat) hk 4 dX2_climb_84 rfl (kk := ?_) 
              exact z_iret hk hR_ (((sq2_13 wh.toNat : Nat) : Int), kp2_10, tx2_11, o2_12, sq2_13) dX2_climb_85 rfl rfl (by (try dsimp only); unfold aClimb; rw [if_pos (by omega), if_neg (by omega)]; first | (rw [if_pos (by omega), hv1]; done) | (rw [if_neg (by omega), if_pos (by omega), hv2]; done) | (rw [if_neg (by omega), if_neg (by omega), hv3]; done)) (zSub.ix [0, 1, 2, 3, 4] rfl)
            · skip
              refine z_aload_n hk dX2_climb_72 1 rfl (kk := ?_)
              refine z_get hk in_X2 0 11 q1291 dX2_climb_73 rfl rfl (kk := ?_)
              refine z_goto hk 85 dX2_climb_76 (kk := ?_)
              exact z_iret hk hR_ (((kp2_10 : Nat) : Int), kp2_10, tx2_11, o2_12, sq2_13) dX2_climb_85 rfl rfl (by (try dsimp only); unfold aClimb; rw [if_pos (by omega), if_neg (by omega)]; first | (rw [if_pos (by omega), hv1]; done) | (rw [if_neg (by omega), if_pos (by omega), hv2]; done) | (rw [if_neg (by omega), if_neg (by omega), hv3]; done)) (zSub.ix [0, 1, 2, 3, 4] rfl)
          · skip
            refine z_iload hk dX2_climb_61 0 rfl (kk := ?_)
            refine z_goto hk 85 dX2_climb_63 (kk := ?_)
            exact z_iret hk hR_ (((r_9 : Nat) : Int), kp2_10, tx2_11, o2_12, sq2_13) dX2_climb_85 rfl rfl (by (try dsimp only); unfold aClimb; rw [if_pos (by omega), if_neg (by omega)]; first | (rw [if_pos (by omega), hv1]; done) | (rw [if_neg (by omega), if_pos (by omega), hv2]; done) | (rw [if_neg (by omega), if_neg (by omega), hv3]; done)) (zSub.ix [0, 1, 2, 3, 4] rfl)
        · skip
          refine z_bipush (z := -3) hk dX2_climb_45 (kk := ?_)
          exact z_iret hk hR_ (-3, kp, tx, oth, sq) dX2_climb_47 rfl rfl (by (try dsimp only); unfold aClimb; rw [if_pos (by omega), if_pos (by omega)]) (zSub.ix [0, 1, 2, 3, 4] rfl)
      · skip
        refine z_bipush (z := -2) hk dX2_climb_32 (kk := ?_)
        exact z_iret hk hR_ (-2, kp, tx, oth, sq) dX2_climb_34 rfl rfl (by (try dsimp only); unfold aClimb; rw [if_neg (by omega)]) (zSub.ix [0, 1, 2, 3, 4] rfl)
