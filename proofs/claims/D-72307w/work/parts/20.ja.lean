/-! contracts, part ja -/
set_option maxRecDepth 100000
set_option maxHeartbeats 600000 in
theorem ct_J11_bitCount (l_ : Launch) (G : zG) (lk : Nat → Nat) (a : Nat) (hlk : ∀ j, lk j ≤ 1) :
    Ct l_ G yJ11_bitCount cJ11_bitCount 2 (some .int) 1 0 0 [.long ((lN (bwR lk a 64)))] ([])
      (fun _u : Unit => some (.int (iZ (((pS (fun j => lk (a + j)) 64) : Nat) : Int)))) (fun _u : Unit => True) (fun _u : Unit => []) := by
  refine Ct.of (by decide) (Nat.le_of_ble_eq_true rfl) ?_
  intro κ hl_ hG_ hk hR_
  subst hl_
  subst hG_
  show Z κ 0 [(0, .long ((lN (bwR lk a 64))))] [] ([]) 0 0
  obtain ⟨x1, x2, x3, hx1, hx2, hx3, h1, h2, h3, h4⟩ := bitF hlk a
  refine z_lload_n hk dJ11_bitCount_0 0 rfl (kk := ?_)
  refine z_lload_n hk dJ11_bitCount_1 0 rfl (kk := ?_)
  refine z_iconst (z := ((1 : Nat) : Int)) hk dJ11_bitCount_2 (kk := ?_)
  refine z_lushr (v := (lN (bwR lk a 64 / 2 ^ 1))) hk dJ11_bitCount_3 (by exact wb_shr (k := 1) (by have := bwR_lt hlk 64 a; omega) (by decide)) (kk := ?_)
  refine z_ldc2 hk q329 dJ11_bitCount_4 (kk := ?_)
  refine z_stk (st' := .long (jZ (6148914691236517205)) :: [.long ((lN (bwR lk a 64 / 2 ^ 1))), .long ((lN (bwR lk a 64)))]) (by rfl) ?_
  refine z_land (v := ((lN (bwR lk a 64 / 2 ^ 1)) &&& jZ (6148914691236517205))) hk dJ11_bitCount_7 (by rfl) (kk := ?_)
  refine z_lsub (v := (lN x1)) hk dJ11_bitCount_8 (by exact h1) (kk := ?_)
  refine z_lstore_n hk [(0, .long ((lN x1)))] dJ11_bitCount_9 (kk := ?_)
  refine z_lload_n hk dJ11_bitCount_10 0 rfl (kk := ?_)
  refine z_ldc2 hk q330 dJ11_bitCount_11 (kk := ?_)
  refine z_stk (st' := .long (jZ (3689348814741910323)) :: [.long ((lN x1))]) (by rfl) ?_
  refine z_land (v := ((lN x1) &&& jZ (3689348814741910323))) hk dJ11_bitCount_14 (by rfl) (kk := ?_)
  refine z_lload_n hk dJ11_bitCount_15 0 rfl (kk := ?_)
  refine z_iconst (z := ((2 : Nat) : Int)) hk dJ11_bitCount_16 (kk := ?_)
  refine z_lushr (v := (lN (x1 / 2 ^ 2))) hk dJ11_bitCount_17 (by exact wb_shr (k := 2) (by omega) (by decide)) (kk := ?_)
  refine z_ldc2 hk q330 dJ11_bitCount_18 (kk := ?_)
  refine z_stk (st' := .long (jZ (3689348814741910323)) :: [.long ((lN (x1 / 2 ^ 2))), .long (((lN x1) &&& jZ (3689348814741910323)))]) (by rfl) ?_
  refine z_land (v := ((lN (x1 / 2 ^ 2)) &&& jZ (3689348814741910323))) hk dJ11_bitCount_21 (by rfl) (kk := ?_)
  refine z_ladd (v := (lN x2)) hk dJ11_bitCount_22 (by exact h2) (kk := ?_)
  refine z_lstore_n hk [(0, .long ((lN x2)))] dJ11_bitCount_23 (kk := ?_)
  refine z_lload_n hk dJ11_bitCount_24 0 rfl (kk := ?_)
  refine z_lload_n hk dJ11_bitCount_25 0 rfl (kk := ?_)
  refine z_iconst (z := ((4 : Nat) : Int)) hk dJ11_bitCount_26 (kk := ?_)
  refine z_lushr (v := (lN (x2 / 2 ^ 4))) hk dJ11_bitCount_27 (by exact wb_shr (k := 4) (by omega) (by decide)) (kk := ?_)
  refine z_ladd (v := (lN (x2 + x2 / 2 ^ 4))) hk dJ11_bitCount_28 (by exact lN_addN _ _) (kk := ?_)
  refine z_ldc2 hk q331 dJ11_bitCount_29 (kk := ?_)
  refine z_stk (st' := .long (jZ (1085102592571150095)) :: [.long ((lN (x2 + x2 / 2 ^ 4)))]) (by rfl) ?_
  refine z_land (v := (lN x3)) hk dJ11_bitCount_32 (by exact h3) (kk := ?_)
  refine z_lstore_n hk [(0, .long ((lN x3)))] dJ11_bitCount_33 (kk := ?_)
  refine z_lload_n hk dJ11_bitCount_34 0 rfl (kk := ?_)
  refine z_lload_n hk dJ11_bitCount_35 0 rfl (kk := ?_)
  refine z_bipush (z := ((8 : Nat) : Int)) hk dJ11_bitCount_36 (kk := ?_)
  refine z_lushr (v := (lN (x3 / 2 ^ 8))) hk dJ11_bitCount_38 (by exact wb_shr (k := 8) (by omega) (by decide)) (kk := ?_)
  refine z_ladd (v := (lN (x3 + x3 / 2 ^ 8))) hk dJ11_bitCount_39 (by exact lN_addN _ _) (kk := ?_)
  obtain ⟨y4, ey4⟩ : ∃ z_, z_ = x3 + x3 / 2 ^ 8 := ⟨_, rfl⟩
  refine z_topL (lN y4) (by rw [ey4]) ?_
  rw [← ey4] at h4
  have hy4 : y4 < 2 ^ 61 := by omega
  refine z_lstore_n hk [(0, .long ((lN y4)))] dJ11_bitCount_40 (kk := ?_)
  refine z_lload_n hk dJ11_bitCount_41 0 rfl (kk := ?_)
  refine z_lload_n hk dJ11_bitCount_42 0 rfl (kk := ?_)
  refine z_bipush (z := ((16 : Nat) : Int)) hk dJ11_bitCount_43 (kk := ?_)
  refine z_lushr (v := (lN (y4 / 2 ^ 16))) hk dJ11_bitCount_45 (by exact wb_shr (k := 16) (by omega) (by decide)) (kk := ?_)
  refine z_ladd (v := (lN (y4 + y4 / 2 ^ 16))) hk dJ11_bitCount_46 (by exact lN_addN _ _) (kk := ?_)
  obtain ⟨y5, ey5⟩ : ∃ z_, z_ = y4 + y4 / 2 ^ 16 := ⟨_, rfl⟩
  refine z_topL (lN y5) (by rw [ey5]) ?_
  rw [← ey5] at h4
  have hy5 : y5 < 2 ^ 62 := by omega
  refine z_lstore_n hk [(0, .long ((lN y5)))] dJ11_bitCount_47 (kk := ?_)
  refine z_lload_n hk dJ11_bitCount_48 0 rfl (kk := ?_)
  refine z_lload_n hk dJ11_bitCount_49 0 rfl (kk := ?_)
  refine z_bipush (z := ((32 : Nat) : Int)) hk dJ11_bitCount_50 (kk := ?_)
  refine z_lushr (v := (lN (y5 / 2 ^ 32))) hk dJ11_bitCount_52 (by exact wb_shr (k := 32) (by omega) (by decide)) (kk := ?_)
  refine z_ladd (v := (lN (y5 + y5 / 2 ^ 32))) hk dJ11_bitCount_53 (by exact lN_addN _ _) (kk := ?_)
  refine z_lstore_n hk [(0, .long ((lN (y5 + y5 / 2 ^ 32))))] dJ11_bitCount_54 (kk := ?_)
  refine z_lload_n hk dJ11_bitCount_55 0 rfl (kk := ?_)
  refine z_l2i (v := nI (y5 + y5 / 2 ^ 32)) hk dJ11_bitCount_56 (by exact lN_i32 _) (kk := ?_)
  refine z_bipush (z := ((127 : Nat) : Int)) hk dJ11_bitCount_57 (kk := ?_)
  refine z_iand (v := iZ (((y5 + y5 / 2 ^ 32) % 128 : Nat) : Int)) hk dJ11_bitCount_59 (by exact nI_127 _) (kk := ?_)
  exact z_iret hk hR_ () dJ11_bitCount_60 rfl (by rw [h4]) (by trivial) (zSub.ix [] rfl)
