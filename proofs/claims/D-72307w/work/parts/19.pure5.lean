/-! how many ones, as Long.bitCount counts them -/
theorem enc_lt : ∀ {L : List Nat}, (∀ v ∈ L, v < 256) → enc L < 256 ^ L.length
  | [], _ => Nat.one_pos
  | v :: L, h => by
    have h1 := enc_lt (L := L) (fun w hw => h w (List.mem_cons_of_mem _ hw))
    have h2 := h v (List.mem_cons_self ..)
    show v + 256 * enc L < 256 ^ (L.length + 1)
    rw [Nat.pow_succ]
    omega
theorem lan_lt {k : Nat} (h : k < 256) (L : List Nat) : ∀ v ∈ lan k L, v < 256 := by
  intro v hv
  obtain ⟨w, -, rfl⟩ := List.mem_map.mp hv
  exact h
theorem enc8 {L : List Nat} (h : ∀ v ∈ L, v < 256) (hl : L.length = 8) : enc L < 2 ^ 64 := by
  have := enc_lt h
  rw [hl] at this
  exact Nat.lt_of_lt_of_eq this (by decide)
theorem enc_le : ∀ {L : List Nat}, (∀ v ∈ L, v ≤ 127) → 2 * enc L < 256 ^ L.length
  | [], _ => Nat.one_pos
  | v :: L, h => by
    have h1 := enc_le (L := L) (fun w hw => h w (List.mem_cons_of_mem _ hw))
    have h2 := h v (List.mem_cons_self ..)
    show 2 * (v + 256 * enc L) < 256 ^ (L.length + 1)
    rw [Nat.pow_succ]
    omega
theorem lN_subN {a b : Nat} (h : b ≤ a) : lN a - lN b = lN (a - b) := by
  have e : lN a = lN (a - b) + lN b := by
    show Int64.ofNat a = Int64.ofNat (a - b) + Int64.ofNat b
    rw [← Int64.ofNat_add]; congr 1; omega
  rw [e, Int64.add_sub_cancel]
theorem lN_addN (a b : Nat) : lN a + lN b = lN (a + b) := (Int64.ofNat_add a b).symm
theorem jZ_nat (n : Nat) : jZ (n : Int) = lN n := Int64.ofInt_eq_ofNat
theorem dv_ {a b d x : Nat} (h : x = a + d * b) (ha : a < d) : x / d = b := by
  subst h
  rw [Nat.add_mul_div_left _ _ (by omega), Nat.div_eq_of_lt ha, Nat.zero_add]
theorem pS64 (f : Nat → Nat) : pS f 64 = (f 0 + f 1 + f 2 + f 3 + f 4 + f 5 + f 6 + f 7) + (f 8 + f 9 + f 10 + f 11 + f 12 + f 13 + f 14 + f 15) + (f 16 + f 17 + f 18 + f 19 + f 20 + f 21 + f 22 + f 23) + (f 24 + f 25 + f 26 + f 27 + f 28 + f 29 + f 30 + f 31) + (f 32 + f 33 + f 34 + f 35 + f 36 + f 37 + f 38 + f 39) + (f 40 + f 41 + f 42 + f 43 + f 44 + f 45 + f 46 + f 47) + (f 48 + f 49 + f 50 + f 51 + f 52 + f 53 + f 54 + f 55) + (f 56 + f 57 + f 58 + f 59 + f 60 + f 61 + f 62 + f 63) := by
  simp only [pS]; omega
theorem bit_end (c0 c1 c2 c3 c4 c5 c6 c7 : Nat) (h0 : c0 ≤ 8) (h1 : c1 ≤ 8) (h2 : c2 ≤ 8) (h3 : c3 ≤ 8) (h4 : c4 ≤ 8) (h5 : c5 ≤ 8) (h6 : c6 ≤ 8) (h7 : c7 ≤ 8) (x y z : Nat) (hx : x = enc [c0, c1, c2, c3, c4, c5, c6, c7]) (hy : y = x + x / 256) (hz : z = y + y / 65536) : (z + z / 4294967296) % 128 = c0 + c1 + c2 + c3 + c4 + c5 + c6 + c7 ∧ x < 1152921504606846976 := by
  have hx : x = c0 + 256 * c1 + 65536 * c2 + 16777216 * c3 + 4294967296 * c4 + 1099511627776 * c5 + 281474976710656 * c6 + 72057594037927936 * c7 := by rw [hx]; simp only [enc]; omega
  have d1 : x / 256 = c1 + 256 * c2 + 65536 * c3 + 16777216 * c4 + 4294967296 * c5 + 1099511627776 * c6 + 281474976710656 * c7 := dv_ (a := c0) (by rw [hx]; clear hx hy hz; omega) (by clear hx hy hz; omega)
  have hy2 : y = (c0 + c1) + 256 * (c1 + c2) + 65536 * (c2 + c3) + 16777216 * (c3 + c4) + 4294967296 * (c4 + c5) + 1099511627776 * (c5 + c6) + 281474976710656 * (c6 + c7) + 72057594037927936 * c7 := by rw [hy, d1, hx]; clear hx hy hz d1; omega
  have d2 : y / 65536 = (c2 + c3) + 256 * (c3 + c4) + 65536 * (c4 + c5) + 16777216 * (c5 + c6) + 4294967296 * (c6 + c7) + 1099511627776 * c7 := dv_ (a := (c0 + c1) + 256 * (c1 + c2)) (by rw [hy2]; clear hx hy hz d1 hy2; omega) (by clear hx hy hz d1 hy2; omega)
  have hz2 : z = (c0 + c1 + c2 + c3) + 256 * (c1 + c2 + c3 + c4) + 65536 * (c2 + c3 + c4 + c5) + 16777216 * (c3 + c4 + c5 + c6) + 4294967296 * (c4 + c5 + c6 + c7) + 1099511627776 * (c5 + c6 + c7) + 281474976710656 * (c6 + c7) + 72057594037927936 * c7 := by rw [hz, d2, hy2]; clear hx hy hz d1 hy2 d2; omega
  have d3 : z / 4294967296 = (c4 + c5 + c6 + c7) + 256 * (c5 + c6 + c7) + 65536 * (c6 + c7) + 16777216 * c7 := dv_ (a := (c0 + c1 + c2 + c3) + 256 * (c1 + c2 + c3 + c4) + 65536 * (c2 + c3 + c4 + c5) + 16777216 * (c3 + c4 + c5 + c6)) (by rw [hz2]; clear hx hy hz d1 hy2 d2 hz2; omega) (by clear hx hy hz d1 hy2 d2 hz2; omega)
  refine ⟨?_, by rw [hx]; clear hx hy hz d1 hy2 d2 hz2 d3; omega⟩
  clear hx hy d1 hy2 d2 hz
  rw [d3, hz2, show (c0 + c1 + c2 + c3) + 256 * (c1 + c2 + c3 + c4) + 65536 * (c2 + c3 + c4 + c5) + 16777216 * (c3 + c4 + c5 + c6) + 4294967296 * (c4 + c5 + c6 + c7) + 1099511627776 * (c5 + c6 + c7) + 281474976710656 * (c6 + c7) + 72057594037927936 * c7 + ((c4 + c5 + c6 + c7) + 256 * (c5 + c6 + c7) + 65536 * (c6 + c7) + 16777216 * c7) = (c0 + c1 + c2 + c3 + c4 + c5 + c6 + c7) + 128 * (2 * (c1 + c2 + c3 + c4) + 512 * (c2 + c3 + c4 + c5) + 131072 * (c3 + c4 + c5 + c6) + 33554432 * (c4 + c5 + c6 + c7) + 8589934592 * (c5 + c6 + c7) + 2199023255552 * (c6 + c7) + 562949953421312 * c7 + 2 * (c5 + c6 + c7) + 512 * (c6 + c7) + 131072 * c7) from by clear hz2 d3; omega, Nat.add_mul_mod_self_left, Nat.mod_eq_of_lt (by clear hz2 d3; omega)]
theorem bitF {lk : Nat → Nat} (h : ∀ j, lk j ≤ 1) (a : Nat) : ∃ x1 x2 x3 : Nat, x1 < 2 ^ 64 ∧ x2 < 2 ^ 64 ∧ x3 < 2 ^ 60 ∧
    (lN (bwR lk a 64) - (lN (bwR lk a 64 / 2 ^ 1) &&& jZ 6148914691236517205) = lN x1) ∧
    ((lN x1 &&& jZ 3689348814741910323) + (lN (x1 / 2 ^ 2) &&& jZ 3689348814741910323) = lN x2) ∧
    ((lN (x2 + x2 / 2 ^ 4)) &&& jZ 1085102592571150095 = lN x3) ∧
    ((x3 + x3 / 2 ^ 8) + (x3 + x3 / 2 ^ 8) / 2 ^ 16 + ((x3 + x3 / 2 ^ 8) + (x3 + x3 / 2 ^ 8) / 2 ^ 16) / 2 ^ 32) % 128 = pS (fun j => lk (a + j)) 64 := by
  have hb : ∀ v ∈ byts lk a, v < 256 := by
    intro v hv
    simp only [byts, List.mem_cons, List.not_mem_nil, or_false] at hv
    rcases hv with rfl | rfl | rfl | rfl | rfl | rfl | rfl | rfl <;> exact bwR_lt h 8 _
  have hb1 : ∀ v ∈ (byts lk a).map l1, v < 256 := by
    intro v hv
    obtain ⟨w, hw, rfl⟩ := List.mem_map.mp hv
    exact (l1_le w (hb w hw)).2.1
  have hb2 : ∀ v ∈ ((byts lk a).map l1).map l2, v < 256 ∧ l2ok v := by
    intro v hv
    obtain ⟨w, hw, rfl⟩ := List.mem_map.mp hv
    obtain ⟨u, hu, rfl⟩ := List.mem_map.mp hw
    exact ⟨(l1_le u (hb u hu)).2.2.1, (l1_le u (hb u hu)).2.2.2.1⟩
  obtain ⟨e1, e1b, e1c⟩ := en1 hb
  have e2 := en2 hb1
  obtain ⟨e3, -⟩ := en3 (L := ((byts lk a).map l1).map l2) (fun v hv => (hb2 v hv).2)
  have b0 : bwR lk a 64 < 2 ^ 64 := bwR_lt h 64 a
  have b1 : enc ((byts lk a).map l1) < 2 ^ 64 := enc8 hb1 rfl
  have b2 : enc (((byts lk a).map l1).map l2) < 2 ^ 64 := enc8 (fun v hv => (hb2 v hv).1) rfl
  have c5 : jZ 6148914691236517205 = lN (enc (lan 85 (byts lk a))) := by
    have e : enc (lan 85 (byts lk a)) = 6148914691236517205 := by simp only [byts, lan, List.map, enc]
    rw [e]; exact jZ_nat 6148914691236517205
  have c3 : jZ 3689348814741910323 = lN (enc (lan 51 ((byts lk a).map l1))) := by
    have e : enc (lan 51 ((byts lk a).map l1)) = 3689348814741910323 := by simp only [byts, lan, List.map, enc]
    rw [e]; exact jZ_nat 3689348814741910323
  have cF : jZ 1085102592571150095 = lN (enc (lan 15 (((byts lk a).map l1).map l2))) := by
    have e : enc (lan 15 (((byts lk a).map l1).map l2)) = 1085102592571150095 := by simp only [byts, lan, List.map, enc]
    rw [e]; exact jZ_nat 1085102592571150095
  have k8 : ∀ q, l3 (l2 (l1 (bwR lk q 8))) ≤ 8 := fun q => (l1_le _ (bwR_lt h 8 q)).2.2.2.2
  obtain ⟨f1, f2⟩ := bit_end _ _ _ _ _ _ _ _ (k8 a) (k8 (a + 8)) (k8 (a + 16)) (k8 (a + 24)) (k8 (a + 32)) (k8 (a + 40)) (k8 (a + 48)) (k8 (a + 56)) _ _ _ rfl rfl rfl
  refine ⟨enc ((byts lk a).map l1), enc (((byts lk a).map l1).map l2), enc ((((byts lk a).map l1).map l2).map l3), b1, b2, f2, ?_, ?_, ?_, ?_⟩
  · rw [c5, bwR64] at *
    rw [wb_and (by omega) (enc8 (L := lan 85 (byts lk a)) (lan_lt (by decide) _) rfl), lN_subN (by rw [Nat.pow_one, e1]; exact e1c), Nat.pow_one, e1b]
  · rw [c3, wb_and b1 (enc8 (L := lan 51 ((byts lk a).map l1)) (lan_lt (by decide) _) rfl), wb_and (by omega) (enc8 (L := lan 51 ((byts lk a).map l1)) (lan_lt (by decide) _) rfl), lN_addN]
    exact congrArg lN e2
  · rw [cF]
    have hs : enc (((byts lk a).map l1).map l2) + enc (((byts lk a).map l1).map l2) / 2 ^ 4 < 2 ^ 64 := by
      have h9 := enc_le (L := ((byts lk a).map l1).map l2) (fun v hv => by have h8 := (hb2 v hv).2; have := h8.1; have := h8.2; omega)
      have h7 : (256 : Nat) ^ (((byts lk a).map l1).map l2).length = 18446744073709551616 := by rw [show (((byts lk a).map l1).map l2).length = 8 from rfl]
      rw [h7] at h9
      omega
    rw [wb_and hs (enc8 (L := lan 15 (((byts lk a).map l1).map l2)) (lan_lt (by decide) _) rfl)]
    exact congrArg lN e3
  · rw [show (2 : Nat) ^ 8 = 256 from rfl, show (2 : Nat) ^ 16 = 65536 from rfl, show (2 : Nat) ^ 32 = 4294967296 from rfl]
    refine f1.trans ?_
    rw [pS64, bwR8 h, bwR8 h, bwR8 h, bwR8 h, bwR8 h, bwR8 h, bwR8 h, bwR8 h]
    simp only [Nat.add_zero, Nat.add_assoc, Nat.reduceAdd]
theorem lN_i32 (n : Nat) : (lN n).toInt32 = nI n := by
  apply Int32.toBitVec_inj.mp
  show (BitVec.ofNat 64 n).signExtend 32 = BitVec.ofNat 32 n
  apply BitVec.eq_of_toNat_eq
  rw [BitVec.signExtend_eq_setWidth_of_le _ (by decide)]
  simp only [BitVec.toNat_setWidth, BitVec.toNat_ofNat]
  omega
theorem nI_127 (n : Nat) : nI n &&& iZ 127 = iZ ((n % 128 : Nat) : Int) := by
  rw [iZ_nI]
  apply Int32.toBitVec_inj.mp
  show BitVec.ofNat 32 n &&& BitVec.ofNat 32 127 = BitVec.ofNat 32 (n % 128)
  apply BitVec.eq_of_toNat_eq
  rw [BitVec.toNat_and, BitVec.toNat_ofNat, BitVec.toNat_ofNat, BitVec.toNat_ofNat, show 127 % 2 ^ 32 = 2 ^ 7 - 1 from rfl, Nat.and_two_pow_sub_one_eq_mod]
  omega
/-! a set of bits: lk, u words in use of nw -/
def bsI (lk : Nat → Nat) (u nw : Nat) : Prop := u ≤ nw ∧ nw ≤ 4 ∧ (∀ j, lk j ≤ 1) ∧ (∀ j, 64 * u ≤ j → lk j = 0) ∧ (u ≠ 0 → bW lk (u - 1) ≠ 0)
theorem jW_oneJ {k : Nat} (hk : k < 256) : jZ 1 <<< ((iZ (k : Int)).toInt64 &&& 63) = lN (2 ^ (k % 64)) := jW_one hk
theorem jW_clrJ {lk : Nat → Nat} (h : ∀ j, lk j ≤ 1) (i : Nat) : jW lk (i / 64) &&& (lN (2 ^ (i % 64)) ^^^ jZ (-1)) = jW (va_up lk i 0) (i / 64) := jW_clr h i
theorem jW_getJ {lk : Nat → Nat} (h : ∀ j, lk j ≤ 1) (i : Nat) : lg_cmp (jW lk (i / 64) &&& lN (2 ^ (i % 64))) (jZ 0) = 0 ↔ lk i = 0 := lgc0.trans (jW_get h i)
theorem jW_cmp {lk : Nat → Nat} (h : ∀ j, lk j ≤ 1) (w : Nat) : lg_cmp (jW lk w) (jZ 0) = 0 ↔ bW lk w = 0 := lgc0.trans (jW_0 h w)
theorem bW_ne {lk : Nat → Nat} {w i : Nat} (h : lk i = 1) (hi : i / 64 = w) : bW lk w ≠ 0 := fun e => by
  have := bwR_zero' e (i % 64) (by omega)
  rw [show 64 * w + i % 64 = i from by omega] at this
  omega
theorem bsI_set {lk : Nat → Nat} {u u1 nw i : Nat} (h : bsI lk u nw) (hi : i < 64 * nw) (h1 : (u < i / 64 + 1 ∧ u1 = i / 64 + 1) ∨ (i / 64 + 1 ≤ u ∧ u1 = u)) : bsI (va_up lk i 1) u1 nw := by
  obtain ⟨hu, hn, hlk, hz, ht⟩ := h
  refine ⟨by omega, hn, up_le1 hlk i (Nat.le_refl 1), fun j hj => ?_, fun h0 => ?_⟩
  · unfold va_up; rw [if_neg (by omega)]; exact hz j (by omega)
  · by_cases e : u1 - 1 = i / 64
    · exact bW_ne (i := i) (by unfold va_up; rw [if_pos rfl]) e.symm
    · rw [bW_up_ne e, show u1 = u from by omega]; exact ht (by omega)
theorem bsI_clr0 {lk : Nat → Nat} {u nw i : Nat} (h : bsI lk u nw) (hi : u ≤ i / 64) : bsI (va_up lk i 0) u nw ∧ va_up lk i 0 = lk := by
  have e : va_up lk i 0 = lk := by
    funext j; unfold va_up; split
    · rename_i q; rw [q]; exact (h.2.2.2.1 i (by omega)).symm
    · rfl
  rw [e]; exact ⟨h, rfl⟩
theorem pS_add (f : Nat → Nat) (a : Nat) : ∀ b, pS f (a + b) = pS f a + pS (fun j => f (a + j)) b
  | 0 => rfl
  | b + 1 => by
    have e1 : pS f (a + (b + 1)) = pS f (a + b) + f (a + b) := rfl
    have e2 : pS (fun j => f (a + j)) (b + 1) = pS (fun j => f (a + j)) b + f (a + b) := rfl
    rw [e1, e2, pS_add f a b]; omega
theorem pS_z {f : Nat → Nat} {a : Nat} (h : ∀ j, a ≤ j → f j = 0) (b : Nat) : pS f (a + b) = pS f a := by
  rw [pS_add]
  have : pS (fun j => f (a + j)) b = 0 := by
    have g : ∀ b, pS (fun j => f (a + j)) b = 0 := fun b => by
      induction b with
      | zero => rfl
      | succ b ih => show pS (fun j => f (a + j)) b + f (a + b) = 0; rw [ih, h _ (by omega)]
    exact g b
  omega
theorem pS_64 {f : Nat → Nat} (h : ∀ j, f j ≤ 1) : ∀ n, pS f n ≤ n
  | 0 => Nat.le_refl 0
  | n + 1 => by have := pS_64 h n; have := h n; show pS f n + f n ≤ n + 1; omega
/-! floorMod -/
theorem xor_ge {a : Int} {b : Nat} (ha : -2147483648 ≤ a ∧ a ≤ 2147483647) (hb : b < 2147483648) : 0 ≤ iZ a ^^^ iZ (b : Int) ↔ 0 ≤ a := by
  have m0 : ∀ x : Int32, 0 ≤ x ↔ x.toBitVec.msb = false := by
    intro x
    rw [Int32.le_iff_toInt_le, show (0 : Int32).toInt = 0 from rfl, BitVec.msb_eq_toInt]
    show 0 ≤ x.toBitVec.toInt ↔ _
    rw [decide_eq_false_iff_not]; omega
  have h1 := m0 (iZ a)
  have h2 := m0 (iZ (b : Int))
  have h3 : (0 : Int32) ≤ iZ a ↔ 0 ≤ a := iZ_le (a := 0) (by omega) ha
  have h4 : (0 : Int32) ≤ iZ (b : Int) ↔ 0 ≤ (b : Int) := iZ_le (a := 0) (by omega) (by omega)
  have h5 : (iZ (b : Int)).toBitVec.msb = false := h2.mp (h4.mpr (by omega))
  rw [m0, Int32.toBitVec_xor, BitVec.msb_xor, h5, Bool.xor_false, ← h1, h3]
theorem tmod_pos {a : Int} {b : Nat} (h : 0 ≤ a) : a.tmod (b : Int) = a % (b : Int) := Int.tmod_eq_emod_of_nonneg h
theorem tmod_neg {a : Int} {b : Nat} (h : a < 0) (hb : 0 < b) : (a % (b : Int) = 0 → a.tmod (b : Int) = 0) ∧ (a % (b : Int) ≠ 0 → a.tmod (b : Int) = a % (b : Int) - b) := by
  have e := Int.tmod_eq_emod (a := a) (b := (b : Int))
  have hd : (b : Int) ∣ a ↔ a % (b : Int) = 0 := Int.dvd_iff_emod_eq_zero
  constructor
  · intro h0
    rw [e, if_pos (Or.inr (hd.mpr h0)), h0]; rfl
  · intro h0
    rw [e, if_neg (fun q => by
      rcases q with q | q
      · omega
      · exact h0 (hd.mp q))]
    rfl
theorem fl_rng {a : Int} {b : Nat} (hb : 0 < b) : 0 ≤ a % (b : Int) ∧ a % (b : Int) < b := ⟨Int.emod_nonneg _ (by omega), Int.emod_lt_of_pos _ (by omega)⟩
