/-! contracts, part jc -/
set_option maxRecDepth 100000
set_option maxHeartbeats 600000 in
theorem ct_J8_floorMod (l_ : Launch) (G : zG) (a : Int) (b : Nat) (ha : -1000000 ≤ a ∧ a ≤ 1000000) (hb : 1 ≤ b ∧ b ≤ 1000) :
    Ct l_ G yJ8_floorMod cJ8_floorMod 3 (some .int) 1 0 0 [.int (iZ (a)), .int (iZ ((b : Nat) : Int))] ([])
      (fun _u : Unit => some (.int (iZ (((a % (b : Int)).toNat : Nat) : Int)))) (fun _u : Unit => True) (fun _u : Unit => []) := by
  refine Ct.ofF (by decide +kernel) (Nat.le_of_ble_eq_true rfl) ?_
  intro κ hl_ hG_ hk hR_
  subst hl_
  subst hG_
  show Z κ 0 [(0, .int (iZ (a))), (1, .int (iZ ((b : Nat) : Int)))] [] ([]) 0 0
  have hfl := fl_rng (a := a) (b := b) (by omega)
  have hgx := xor_ge (a := a) (b := b) (by omega) (by omega)
  obtain ⟨tm, htm⟩ : ∃ tm, tm = a.tmod (b : Int) := ⟨_, rfl⟩
  obtain ⟨em, hem⟩ : ∃ em, em = a % (b : Int) := ⟨_, rfl⟩
  have htp := tmod_pos (a := a) (b := b)
  have htn := tmod_neg (a := a) (b := b)
  rw [← htm, ← hem] at htp htn
  rw [← hem] at hfl
  have hh1 : 0 ≤ a → tm = em := htp
  have hh2 : a < 0 → em = 0 → tm = 0 := fun q => (htn q (by omega)).1
  have hh3 : a < 0 → em ≠ 0 → tm = em - b := fun q => (htn q (by omega)).2
  refine z_iload_n hk dJ8_floorMod_0 0 rfl (kk := ?_)
  refine z_iload_n hk dJ8_floorMod_1 1 rfl (kk := ?_)
  refine z_iremZ (a := a) (b := b) hk dJ8_floorMod_2 (kk := ?_) 
  refine z_topZ tm (by rw [htm]) ?_
  refine z_istore_n hk [(2, .int (iZ (tm))), (0, .int (iZ (a))), (1, .int (iZ ((b : Nat) : Int)))] dJ8_floorMod_3 (kk := ?_)
  refine z_iload_n hk dJ8_floorMod_4 1 rfl (kk := ?_)
  refine z_iload_n hk dJ8_floorMod_5 2 rfl (kk := ?_)
  refine z_ixor (v := iZ a ^^^ iZ ((b : Nat) : Int)) hk dJ8_floorMod_6 (by rfl) (kk := ?_)
  refine z_ifgeB hk 18 dJ8_floorMod_7 (kt := fun h7 => ?_) (kf := fun h7 => ?_) 
  · skip
    have g7 := hgx.mp h7
    refine z_iload_n hk dJ8_floorMod_18 0 rfl (kk := ?_)
    exact z_iret hk hR_ () dJ8_floorMod_19 rfl (by congr 2; rw [← hem]; congr 1; first | omega | (have := hh1 g7; omega)) (by trivial) (zSub.ix [] rfl)
  · skip
    have g7 : a < 0 := by have := mt hgx.mpr h7; omega
    refine z_iload_n hk dJ8_floorMod_10 0 rfl (kk := ?_)
    refine z_if_eq hk 18 dJ8_floorMod_11 (kt := fun h11 => ?_) (kf := fun h11 => ?_) 
    · skip
      have g8 := hh2 g7
      have g9 : em = 0 := by by_cases q : em = 0; exact q; have := hh3 g7 q; omega
      refine z_iload_n hk dJ8_floorMod_18 0 rfl (kk := ?_)
      exact z_iret hk hR_ () dJ8_floorMod_19 rfl (by congr 2; rw [← hem]; congr 1; first | omega | (have := hh1 g7; omega)) (by trivial) (zSub.ix [] rfl)
    · skip
      have g9 : em ≠ 0 := fun q => h11 (hh2 g7 q)
      have g8 := hh3 g7 g9
      refine z_iload_n hk dJ8_floorMod_14 0 rfl (kk := ?_)
      refine z_iload_n hk dJ8_floorMod_15 2 rfl (kk := ?_)
      refine z_iadd (z := tm + ((b : Nat) : Int)) hk dJ8_floorMod_16 (kk := ?_)
      exact z_iret hk hR_ () dJ8_floorMod_17 rfl (by congr 2; rw [← hem]; congr 1; first | omega | (have := hh1 g7; omega)) (by trivial) (zSub.ix [] rfl)

set_option maxHeartbeats 600000 in
theorem ct_J8_min (l_ : Launch) (G : zG) (a : Int) (b : Int) (ha : -2147483648 ≤ a ∧ a ≤ 2147483647) (hb : -2147483648 ≤ b ∧ b ≤ 2147483647) :
    Ct l_ G yJ8_min cJ8_min 2 (some .int) 1 0 0 [.int (iZ (a)), .int (iZ (b))] ([])
      (fun _u : Unit => some (.int (iZ (min a b)))) (fun _u : Unit => True) (fun _u : Unit => []) := by
  refine Ct.ofF (by decide +kernel) (Nat.le_of_ble_eq_true rfl) ?_
  intro κ hl_ hG_ hk hR_
  subst hl_
  subst hG_
  show Z κ 0 [(0, .int (iZ (a))), (1, .int (iZ (b)))] [] ([]) 0 0
  refine z_iload_n hk dJ8_min_0 0 rfl (kk := ?_)
  refine z_iload_n hk dJ8_min_1 1 rfl (kk := ?_)
  refine z_icmp_gt hk 9 dJ8_min_2 (kt := fun h2 => ?_) (kf := fun h2 => ?_) 
  · skip
    refine z_iload_n hk dJ8_min_9 1 rfl (kk := ?_)
    exact z_iret hk hR_ () dJ8_min_10 rfl (by congr 3; omega) (by trivial) (zSub.ix [] rfl)
  · skip
    refine z_iload_n hk dJ8_min_5 0 rfl (kk := ?_)
    refine z_goto hk 10 dJ8_min_6 (kk := ?_)
    exact z_iret hk hR_ () dJ8_min_10 rfl (by congr 3; omega) (by trivial) (zSub.ix [] rfl)

set_option maxHeartbeats 600000 in
theorem ct_J15_valueOf (l_ : Launch) (G : zG) (v : Nat) (hv : v < 16) :
    Ct l_ G yJ15_valueOf cJ15_valueOf 1 (some (.object "java/lang/Integer")) 1 0 0 [.int (iZ ((v : Nat) : Int))] ([])
      (fun _u : Unit => some (.ref (G.2.2.1 (128 + v)))) (fun _u : Unit => True) (fun _u : Unit => []) := by
  refine Ct.of (by decide) (Nat.le_of_ble_eq_true rfl) ?_
  intro κ hl_ hG_ hk hR_
  subst hl_
  subst hG_
  show Z κ 0 [(0, .int (iZ ((v : Nat) : Int)))] [] ([]) 0 0
  refine z_iload_n hk dJ15_valueOf_0 0 rfl (kk := ?_)
  refine z_bipush (z := -128) hk dJ15_valueOf_1 (kk := ?_)
  refine z_icmp_lt hk 23 dJ15_valueOf_3 (kt := fun h3 => ?_) (kf := fun h3 => ?_) 
  · skip
    exfalso; omega
  · skip
    refine z_iload_n hk dJ15_valueOf_6 0 rfl (kk := ?_)
    refine z_getHi hk rfl q376 dJ15_valueOf_7 (kk := ?_)
    refine z_icmp_gt hk 23 dJ15_valueOf_10 (kt := fun h10 => ?_) (kf := fun h10 => ?_) 
    · skip
      exfalso; omega
    · skip
      refine z_getCa hk rfl q378 dJ15_valueOf_13 (kk := ?_)
      refine z_iload_n hk dJ15_valueOf_16 0 rfl (kk := ?_)
      refine z_sipush (z := ((128 : Nat) : Int)) hk dJ15_valueOf_17 (kk := ?_)
      refine z_iadd (z := ((v + 128 : Nat) : Int)) hk dJ15_valueOf_20 (Int.natCast_add _ _).symm (kk := ?_)
      refine z_topN (128 + v) (by omega) ?_
      refine z_aldC (v := 128 + v) hk dJ15_valueOf_21 (by omega) (kk := ?_)
      exact z_aret hk hR_ () dJ15_valueOf_22 rfl (Or.inl ⟨_, rfl⟩) rfl (by trivial) (zSub.ix [] rfl)

set_option maxHeartbeats 600000 in
theorem ct_J15_intValue (l_ : Launch) (G : zG) (v : Nat) (hv : v < 16) :
    Ct l_ G yJ15_intValue cJ15_intValue 1 (some .int) 1 0 0 [.ref (G.2.2.1 (128 + v))] ([])
      (fun _u : Unit => some (.int (iZ ((v : Nat) : Int)))) (fun _u : Unit => True) (fun _u : Unit => []) := by
  refine Ct.of (by decide) (Nat.le_of_ble_eq_true rfl) ?_
  intro κ hl_ hG_ hk hR_
  subst hl_
  subst hG_
  show Z κ 0 [(0, .ref ((kG κ).2.2.1 (128 + v)))] [] ([]) 0 0
  refine z_aload_n hk dJ15_intValue_0 0 rfl (kk := ?_)
  refine z_getV (v := v) hk rfl q389 dJ15_intValue_1 (by omega) (kk := ?_)
  exact z_iret hk hR_ () dJ15_intValue_4 rfl rfl (by trivial) (zSub.ix [] rfl)

set_option maxHeartbeats 600000 in
theorem ct_J15_equals (l_ : Launch) (G : zG) (v : Nat) (w : Nat) (hv : v < 16) (hw : w < 16) :
    Ct l_ G yJ15_equals cJ15_equals 2 (some .boolean) 2 0 0 [.ref (G.2.2.1 (128 + v)), .ref (G.2.2.1 (128 + w))] ([])
      (fun u : Nat => some (.int (iZ ((u : Nat) : Int)))) (fun u : Nat => (v = w ∧ u = 1) ∨ (v ≠ w ∧ u = 0)) (fun u : Nat => []) := by
  refine Ct.of (by decide) (Nat.le_of_ble_eq_true rfl) ?_
  intro κ hl_ hG_ hk hR_
  subst hl_
  subst hG_
  show Z κ 0 [(0, .ref ((kG κ).2.2.1 (128 + v))), (1, .ref ((kG κ).2.2.1 (128 + w)))] [] ([]) 0 0
  refine z_aload_n hk dJ15_equals_0 1 rfl (kk := ?_)
  refine z_instV (v := w) hk rfl q380 dJ15_equals_1 (by omega) (kk := ?_)
  refine z_if_eq hk 27 dJ15_equals_4 (kt := fun h4 => ?_) (kf := fun h4 => ?_) 
  · skip
    exfalso; omega
  · skip
    refine z_aload_n hk dJ15_equals_7 0 rfl (kk := ?_)
    refine z_getV (v := v) hk rfl q389 dJ15_equals_8 (by omega) (kk := ?_)
    refine z_aload_n hk dJ15_equals_11 1 rfl (kk := ?_)
    refine z_castV (v := w) hk rfl q380 dJ15_equals_12 (by omega) (kk := ?_)
    refine z_callVi (v := w) hk [] 0 [] (ct_J15_intValue (kL κ) (kG κ) w (by first | assumption | omega)) q1132 q866 q867 q75 q868 (zSub.ix [] rfl) (by omega) dJ15_equals_15 rfl (kk := fun _ _ => ?_)
    show Z κ 18 [(0, .ref ((kG κ).2.2.1 (128 + v))), (1, .ref ((kG κ).2.2.1 (128 + w)))] [.int (iZ ((w : Nat) : Int)), .int (iZ ((v : Nat) : Int))] ([]) 0 0
    refine z_icmp_ne hk 25 dJ15_equals_18 (kt := fun h18 => ?_) (kf := fun h18 => ?_) 
    · skip
      refine z_iconst (z := ((0 : Nat) : Int)) hk dJ15_equals_25 (kk := ?_)
      exact z_zret hk hR_ 0 (by omega) dJ15_equals_26 rfl rfl (by first | assumption | omega) (zSub.ix [] rfl)
    · skip
      refine z_iconst (z := ((1 : Nat) : Int)) hk dJ15_equals_21 (kk := ?_)
      refine z_goto hk 26 dJ15_equals_22 (kk := ?_)
      exact z_zret hk hR_ 1 (by omega) dJ15_equals_26 rfl rfl (by first | assumption | omega) (zSub.ix [] rfl)

set_option maxHeartbeats 600000 in
theorem ct_J7_requireNonNull (l_ : Launch) (G : zG) (a : Nat) :
    Ct l_ G yJ7_requireNonNull cJ7_requireNonNull 1 (some (.object "java/lang/Object")) 1 0 0 [.ref a] ([])
      (fun _u : Unit => some (.ref a)) (fun _u : Unit => True) (fun _u : Unit => []) := by
  refine Ct.of (by decide) (Nat.le_of_ble_eq_true rfl) ?_
  intro κ hl_ hG_ hk hR_
  subst hl_
  subst hG_
  show Z κ 0 [(0, .ref a)] [] ([]) 0 0
  refine z_aload_n hk dJ7_requireNonNull_0 0 rfl (kk := ?_)
  refine z_ifnonnull hk 12 dJ7_requireNonNull_1 (kk := ?_)
  refine z_aload_n hk dJ7_requireNonNull_12 0 rfl (kk := ?_)
  exact z_aret hk hR_ () dJ7_requireNonNull_13 rfl (Or.inl ⟨_, rfl⟩) rfl (by trivial) (zSub.ix [] rfl)

set_option maxHeartbeats 600000 in
theorem ct_J1_init (l_ : Launch) (G : zG) (o : Nat) :
    Ct l_ G yJ1_init cJ1_init 1 none 2 0 0 [.ref o] ([])
      (fun _u : Unit => none) (fun _u : Unit => True) (fun _u : Unit => []) := by
  refine Ct.of (by decide) (Nat.le_of_ble_eq_true rfl) ?_
  intro κ hl_ hG_ hk hR_
  subst hl_
  subst hG_
  show Z κ 0 [(0, .ref o)] [] ([]) 0 0
  refine z_aload_n hk dJ1_init_0 0 rfl (kk := ?_)
  refine z_objInit hk q143 q102 q103 dJ1_init_1 (kk := ?_)
  exact z_vret hk hR_ () dJ1_init_4 rfl rfl (by trivial) (zSub.ix [] rfl)

set_option maxHeartbeats 600000 in
theorem ct_J4_init (l_ : Launch) (G : zG) (o : Nat) :
    Ct l_ G yJ4_init cJ4_init 1 none 3 0 0 [.ref o] ([])
      (fun _u : Unit => none) (fun _u : Unit => True) (fun _u : Unit => []) := by
  refine Ct.of (by decide) (Nat.le_of_ble_eq_true rfl) ?_
  intro κ hl_ hG_ hk hR_
  subst hl_
  subst hG_
  show Z κ 0 [(0, .ref o)] [] ([]) 0 0
  refine z_aload_n hk dJ4_init_0 0 rfl (kk := ?_)
  refine z_callI hk [] 0 [] (ct_J1_init (kL κ) (kG κ) o ) q193 q141 q59 q142 (zSub.ix [] rfl) dJ4_init_1 rfl (kk := fun _ _ => ?_)
  show Z κ 4 [(0, .ref o)] [] ([]) 0 0
  exact z_vret hk hR_ () dJ4_init_4 rfl rfl (by trivial) (zSub.ix [] rfl)

set_option maxHeartbeats 600000 in
theorem ct_J5_init (l_ : Launch) (G : zG) (o : Nat) :
    Ct l_ G yJ5_init cJ5_init 1 none 4 0 0 [.ref o] ([])
      (fun _u : Unit => none) (fun _u : Unit => True) (fun _u : Unit => []) := by
  refine Ct.of (by decide) (Nat.le_of_ble_eq_true rfl) ?_
  intro κ hl_ hG_ hk hR_
  subst hl_
  subst hG_
  show Z κ 0 [(0, .ref o)] [] ([]) 0 0
  refine z_aload_n hk dJ5_init_0 0 rfl (kk := ?_)
  refine z_callI hk [] 0 [] (ct_J4_init (kL κ) (kG κ) o ) q190 q191 q62 q192 (zSub.ix [] rfl) dJ5_init_1 rfl (kk := fun _ _ => ?_)
  show Z κ 4 [(0, .ref o)] [] ([]) 0 0
  exact z_vret hk hR_ () dJ5_init_4 rfl rfl (by trivial) (zSub.ix [] rfl)

set_option maxHeartbeats 600000 in
theorem ct_J6_init (l_ : Launch) (G : zG) (o : Nat) (e0 : Nat) (e1 : Nat) :
    Ct l_ G yJ6_init cJ6_init 3 none 5 0 0 [.ref o, .ref e0, .ref e1] ([(o, zO 5 [.null, .null])])
      (fun _u : Unit => none) (fun _u : Unit => True) (fun _u : Unit => [(o, zO 5 [.ref e0, .ref e1])]) := by
  refine Ct.of (by decide) (Nat.le_of_ble_eq_true rfl) ?_
  intro κ hl_ hG_ hk hR_
  subst hl_
  subst hG_
  show Z κ 0 [(0, .ref o), (1, .ref e0), (2, .ref e1)] [] ([(o, zO 5 [.null, .null])]) 0 0
  refine z_aload_n hk dJ6_init_0 0 rfl (kk := ?_)
  refine z_callI hk [] 0 [(o, zO 5 [.null, .null])] (ct_J5_init (kL κ) (kG κ) o ) q187 q188 q63 q189 (zSub.ix [0] rfl) dJ6_init_1 rfl (kk := fun _ _ => ?_)
  show Z κ 4 [(0, .ref o), (1, .ref e0), (2, .ref e1)] [] ([(o, zO 5 [.null, .null])]) 0 0
  refine z_aload_n hk dJ6_init_4 0 rfl (kk := ?_)
  refine z_aload_n hk dJ6_init_5 1 rfl (kk := ?_)
  refine z_callS hk [.ref e0] 1 [(o, zO 5 [.null, .null])] (ct_J7_requireNonNull (kL κ) (kG κ) e0 ) q194 q195 q65 q196 (zSub.ix [0] rfl) dJ6_init_6 rfl (kk := fun _ _ => ?_)
  show Z κ 9 [(0, .ref o), (1, .ref e0), (2, .ref e1)] [.ref e0, .ref o] ([(o, zO 5 [.null, .null])]) 0 0
  refine z_putF hk in_J6 tyJ6 tyJ6_ok nmJ6 0 0 ([(o, zO 5 [.ref e0, .null])]) q197 dJ6_init_9 rfl (kk := ?_)
  refine z_aload_n hk dJ6_init_12 0 rfl (kk := ?_)
  refine z_aload_n hk dJ6_init_13 2 rfl (kk := ?_)
  refine z_callS hk [.ref e1] 1 [(o, zO 5 [.ref e0, .null])] (ct_J7_requireNonNull (kL κ) (kG κ) e1 ) q194 q195 q65 q196 (zSub.ix [0] rfl) dJ6_init_14 rfl (kk := fun _ _ => ?_)
  show Z κ 17 [(0, .ref o), (1, .ref e0), (2, .ref e1)] [.ref e1, .ref o] ([(o, zO 5 [.ref e0, .null])]) 0 0
  refine z_putF hk in_J6 tyJ6 tyJ6_ok nmJ6 0 1 ([(o, zO 5 [.ref e0, .ref e1])]) q198 dJ6_init_17 rfl (kk := ?_)
  exact z_vret hk hR_ () dJ6_init_20 rfl rfl (by trivial) (zSub.ix [0] rfl)

set_option maxHeartbeats 600000 in
theorem ct_J3_of (l_ : Launch) (G : zG) (e0 : Nat) (e1 : Nat) :
    Ct l_ G yJ3_of cJ3_of 2 (some (.object "java/util/List")) 6 1 2 [.ref e0, .ref e1] ([])
      (fun u : Nat => some (.ref u)) (fun u : Nat => True) (fun u : Nat => [(u, zO 5 [.ref e0, .ref e1])]) := by
  refine Ct.of (by decide) (Nat.le_of_ble_eq_true rfl) ?_
  intro κ hl_ hG_ hk hR_
  subst hl_
  subst hG_
  show Z κ 0 [(0, .ref e0), (1, .ref e1)] [] ([]) 0 0
  refine z_new (ci := 5) hk in_J6 tyJ6 tyJ6_ok [.null, .null] q182 q183 q64 dJ3_of_0 (fun j hj => by have hj2 : j = 0 ∨ j = 1 := (by omega); rcases hj2 with rfl | rfl <;> rfl) (kk := fun q_1 => ?_)
  show Z κ 3 [(0, .ref e0), (1, .ref e1)] [.ref q_1] ([(q_1, zO 5 [.null, .null])]) 1 2
  refine z_dup hk dJ3_of_3 (kk := ?_)
  refine z_aload_n hk dJ3_of_4 0 rfl (kk := ?_)
  refine z_aload_n hk dJ3_of_5 1 rfl (kk := ?_)
  refine z_callI hk [.ref e0, .ref e1] 2 [] (ct_J6_init (kL κ) (kG κ) q_1 e0 e1 ) q184 q185 q64 q186 (zSub.ix [0] rfl) dJ3_of_6 rfl (kk := fun _ _ => ?_)
  show Z κ 9 [(0, .ref e0), (1, .ref e1)] [.ref q_1] ([(q_1, zO 5 [.ref e0, .ref e1])]) 1 2
  exact z_aret hk hR_ q_1 dJ3_of_9 rfl (Or.inl ⟨_, rfl⟩) rfl (by trivial) (zSub.ix [0] rfl)
