/-! pasted: laws of words (a starting text) -/
theorem wb_tb (n : Nat) : (lN n).toBitVec = BitVec.ofNat 64 n := rfl
theorem wb_inj {a b : Int64} (h : a.toBitVec = b.toBitVec) : a = b := Int64.toBitVec_inj.mp h
theorem wb_tn {n : Nat} (h : n < 2 ^ 64) : (lN n).toBitVec.toNat = n := by rw [wb_tb, BitVec.toNat_ofNat, Nat.mod_eq_of_lt h]
theorem wb_of (x : Int64) : ∃ n, n < 2 ^ 64 ∧ x = lN n := ⟨x.toBitVec.toNat, x.toBitVec.isLt, wb_inj (by rw [wb_tb]; simp)⟩
theorem wb_of32 (x : Int32) : ∃ n, n < 2 ^ 32 ∧ x = nI n := ⟨x.toBitVec.toNat, x.toBitVec.isLt, Int32.toBitVec_inj.mp (by show _ = BitVec.ofNat 32 _; simp)⟩
theorem wb_c : ∀ k, k < 64 → ((nI k).toInt64 &&& 63) = lN k := by decide +kernel
theorem wb_cu : ∀ k, k < 64 → ((nI k).toInt64.toUInt64 &&& Int64.toUInt64 63) = UInt64.ofNat k := by decide +kernel
theorem wb_sm : ∀ k, k < 64 → (BitVec.ofNat 64 k).smod 64 = BitVec.ofNat 64 k := by decide +kernel
theorem wb_pw {a b : Nat} (h : a ≤ b) : 2 ^ b = 2 ^ a * 2 ^ (b - a) := by rw [← Nat.pow_add]; congr 1; omega
theorem wb_lt2 {a b : Nat} (h : a < b) : 2 ^ a < 2 ^ b := Nat.pow_lt_pow_right (by decide) h
theorem wb_mod (n : Nat) : lN n = lN (n % 2 ^ 64) := wb_inj (by rw [wb_tb, wb_tb]; apply BitVec.eq_of_toNat_eq; rw [BitVec.toNat_ofNat, BitVec.toNat_ofNat, Nat.mod_mod])
theorem wb_shr {n k : Nat} (hn : n < 2 ^ 64) (hk : k < 64) : ((lN n).toUInt64 >>> ((nI k).toInt64.toUInt64 &&& Int64.toUInt64 63)).toInt64 = lN (n / 2 ^ k) := by
  rw [wb_cu k hk]
  apply wb_inj
  apply BitVec.eq_of_toNat_eq
  show ((lN n).toUInt64 >>> UInt64.ofNat k).toNat = (BitVec.ofNat 64 _).toNat
  have h1 : (UInt64.ofNat k).toNat = k := by
    show (BitVec.ofNat 64 k).toNat = k
    rw [BitVec.toNat_ofNat, Nat.mod_eq_of_lt (by omega)]
  have h2 : (lN n).toUInt64.toNat = n := wb_tn hn
  rw [UInt64.toNat_shiftRight, h1, h2, Nat.mod_eq_of_lt hk, Nat.shiftRight_eq_div_pow, BitVec.toNat_ofNat, Nat.mod_eq_of_lt (Nat.lt_of_le_of_lt (Nat.div_le_self _ _) hn)]
theorem wb_shl (n : Nat) {k : Nat} (hk : k < 64) : lN n <<< ((nI k).toInt64 &&& 63) = lN (n * 2 ^ k) := by
  rw [wb_c k hk]
  apply wb_inj
  rw [Int64.toBitVec_shiftLeft, wb_tb, wb_tb, wb_tb, wb_sm k hk]
  apply BitVec.eq_of_toNat_eq
  rw [BitVec.shiftLeft_eq', BitVec.toNat_shiftLeft, BitVec.toNat_ofNat, BitVec.toNat_ofNat, BitVec.toNat_ofNat, Nat.mod_eq_of_lt (show k < 2 ^ 64 by omega), Nat.shiftLeft_eq, Nat.mul_mod, Nat.mod_mod, ← Nat.mul_mod]
theorem wb_and {a b : Nat} (ha : a < 2 ^ 64) (hb : b < 2 ^ 64) : lN a &&& lN b = lN (a &&& b) := by
  apply wb_inj
  rw [Int64.toBitVec_and, wb_tb, wb_tb, wb_tb]
  apply BitVec.eq_of_toNat_eq
  rw [BitVec.toNat_and, BitVec.toNat_ofNat, BitVec.toNat_ofNat, BitVec.toNat_ofNat, Nat.mod_eq_of_lt ha, Nat.mod_eq_of_lt hb, Nat.mod_eq_of_lt (Nat.and_lt_two_pow _ hb)]
theorem wb_or {a b : Nat} (ha : a < 2 ^ 64) (hb : b < 2 ^ 64) : lN a ||| lN b = lN (a ||| b) := by
  apply wb_inj
  rw [Int64.toBitVec_or, wb_tb, wb_tb, wb_tb]
  apply BitVec.eq_of_toNat_eq
  rw [BitVec.toNat_or, BitVec.toNat_ofNat, BitVec.toNat_ofNat, BitVec.toNat_ofNat, Nat.mod_eq_of_lt ha, Nat.mod_eq_of_lt hb, Nat.mod_eq_of_lt (Nat.or_lt_two_pow ha hb)]
theorem wb_mask {n k : Nat} (hn : n < 2 ^ 64) (hk : k < 64) : lN n &&& lN (2 ^ k - 1) = lN (n % 2 ^ k) := by
  rw [wb_and hn (by have := wb_lt2 hk; omega), Nat.and_two_pow_sub_one_eq_mod]
theorem wb_a1 {n : Nat} (hn : n < 2 ^ 64) : lN n &&& 1 = lN (n % 2) := wb_mask (k := 1) hn (by decide)
theorem wb_bit {n k : Nat} (hn : n < 2 ^ 64) (hk : k < 64) : ((lN n).toUInt64 >>> ((nI k).toInt64.toUInt64 &&& Int64.toUInt64 63)).toInt64 &&& 1 = lN (n / 2 ^ k % 2) := by
  rw [wb_shr hn hk, wb_a1 (Nat.lt_of_le_of_lt (Nat.div_le_self _ _) hn)]
theorem wb_xor {q k : Nat} (hk : k < 63) (h : 2 ^ k ≤ q) (h2 : q < 2 ^ (k + 1)) : lN q ^^^ lN (2 ^ k) = lN (q - 2 ^ k) := by
  obtain ⟨r, rfl⟩ : ∃ r, q = 2 ^ k + r := ⟨q - 2 ^ k, by omega⟩
  have hr : r < 2 ^ k := by rw [Nat.pow_succ] at h2; omega
  have hx : (2 ^ k + r) ^^^ 2 ^ k = r := by
    apply Nat.eq_of_testBit_eq
    intro i
    rw [Nat.testBit_xor, Nat.testBit_two_pow]
    rcases Nat.lt_trichotomy i k with h | h | h
    · rw [Nat.testBit_two_pow_add_gt h]
      simp [show ¬ k = i by omega]
    · subst h
      rw [Nat.testBit_two_pow_add_eq]
      simp
    · have a1 : 2 ^ (k + 1) ≤ 2 ^ i := Nat.pow_le_pow_right (by decide) h
      rw [Nat.testBit_lt_two_pow (show 2 ^ k + r < 2 ^ i by omega), Nat.testBit_lt_two_pow (show r < 2 ^ i by omega)]
      simp [show ¬ k = i by omega]
  have b1 := wb_lt2 (show k + 1 < 64 by omega)
  have b2 := wb_lt2 (show k < 64 by omega)
  apply wb_inj
  rw [Int64.toBitVec_xor, wb_tb, wb_tb, wb_tb]
  apply BitVec.eq_of_toNat_eq
  rw [BitVec.toNat_xor, BitVec.toNat_ofNat, BitVec.toNat_ofNat, BitVec.toNat_ofNat, Nat.mod_eq_of_lt (by omega : 2 ^ k + r < 2 ^ 64), Nat.mod_eq_of_lt b2, hx, Nat.add_sub_cancel_left, Nat.mod_eq_of_lt (by omega)]
/-! ===== lN: masks, 'or' of parts that don't overlap is a sum ===== -/
theorem lN_bv (n : Nat) : (lN n).toBitVec = BitVec.ofNat 64 n := rfl
theorem lN_nat {n : Nat} (h : n < 2 ^ 64) : (lN n).toBitVec.toNat = n := by rw [lN_bv, BitVec.toNat_ofNat]; exact Nat.mod_eq_of_lt h
theorem lN_xor (a b : Nat) : lN a ^^^ lN b = lN (a ^^^ b) := by
  apply Int64.toBitVec_inj.mp; rw [Int64.toBitVec_xor, lN_bv, lN_bv, lN_bv]; apply BitVec.eq_of_getLsbD_eq; intro i hi; simp [BitVec.getLsbD_ofNat, Nat.testBit_xor, hi]
/-! BITS: words of bits, and how many are 1 -/
def bwR (lk : Nat → Nat) : Nat → Nat → Nat
  | _, 0 => 0
  | a, k + 1 => lk a + 2 * bwR lk (a + 1) k
theorem bwR_lt {lk : Nat → Nat} (h : ∀ j, lk j ≤ 1) : ∀ (k a : Nat), bwR lk a k < 2 ^ k
  | 0, _ => Nat.one_pos
  | k + 1, a => by
    have h1 := bwR_lt h k (a + 1)
    have h2 := h a
    rw [bwR, Nat.pow_succ]
    omega
theorem bwR_tb {lk : Nat → Nat} (h : ∀ j, lk j ≤ 1) : ∀ (k a b : Nat), (bwR lk a k).testBit b = (decide (b < k) && decide (lk (a + b) = 1))
  | 0, a, b => by simp [bwR]
  | k + 1, a, 0 => by
    have h2 := h a
    rw [bwR, Nat.testBit_zero]
    rcases (show lk a = 0 ∨ lk a = 1 by omega) with e | e <;> rw [e] <;> simp [e] <;> omega
  | k + 1, a, b + 1 => by
    have h2 := h a
    rw [bwR, Nat.testBit_succ, show (lk a + 2 * bwR lk (a + 1) k) / 2 = bwR lk (a + 1) k from by omega, bwR_tb h k (a + 1) b, show a + 1 + b = a + (b + 1) from by omega]
    by_cases e : b < k
    · rw [decide_eq_true e, decide_eq_true (show b + 1 < k + 1 by omega)]
    · rw [decide_eq_false e, decide_eq_false (show ¬ b + 1 < k + 1 by omega)]
theorem bwR_congr {lk lk' : Nat → Nat} : ∀ {k a : Nat}, (∀ b, b < k → lk (a + b) = lk' (a + b)) → bwR lk a k = bwR lk' a k
  | 0, _, _ => rfl
  | k + 1, a, h => by
    rw [bwR, bwR, show lk a = lk' a from h 0 (by omega), bwR_congr (lk := lk) (lk' := lk') (k := k) (a := a + 1) (fun b hb => by have := h (b + 1) (by omega); rw [show a + 1 + b = a + (b + 1) from by omega]; exact this)]
theorem bwR_zero {lk : Nat → Nat} : ∀ {k a : Nat}, (∀ b, b < k → lk (a + b) = 0) → bwR lk a k = 0
  | 0, _, _ => rfl
  | k + 1, a, h => by
    rw [bwR, show lk a = 0 from h 0 (by omega), bwR_zero (lk := lk) (k := k) (a := a + 1) (fun b hb => by have := h (b + 1) (by omega); rw [show a + 1 + b = a + (b + 1) from by omega]; exact this)]
theorem bwR_zero' {lk : Nat → Nat} : ∀ {k a : Nat}, bwR lk a k = 0 → ∀ b, b < k → lk (a + b) = 0
  | 0, _, _, b, hb => absurd hb (Nat.not_lt_zero b)
  | k + 1, a, h, 0, _ => by rw [bwR] at h; show lk a = 0; omega
  | k + 1, a, h, b + 1, hb => by
    rw [bwR] at h
    have := bwR_zero' (lk := lk) (k := k) (a := a + 1) (by omega) b (by omega)
    rw [show a + (b + 1) = a + 1 + b from by omega]; exact this
/-- word w of the bits lk -/
def bW (lk : Nat → Nat) (w : Nat) : Nat := bwR lk (64 * w) 64
def jW (lk : Nat → Nat) : Nat → Int64 := fun w => lN (bW lk w)
theorem bW_lt {lk : Nat → Nat} (h : ∀ j, lk j ≤ 1) (w : Nat) : bW lk w < 2 ^ 64 := bwR_lt h 64 _
theorem up_le1 {lk : Nat → Nat} (h : ∀ j, lk j ≤ 1) (i : Nat) {v : Nat} (hv : v ≤ 1) : ∀ j, va_up lk i v j ≤ 1 := fun j => by unfold va_up; split; exact hv; exact h j
theorem bW_up_ne {lk : Nat → Nat} {i v w : Nat} (h : w ≠ i / 64) : bW (va_up lk i v) w = bW lk w := bwR_congr fun b hb => by unfold va_up; rw [if_neg (by omega)]
theorem bW_set {lk : Nat → Nat} (h : ∀ j, lk j ≤ 1) (i : Nat) : bW lk (i / 64) ||| 2 ^ (i % 64) = bW (va_up lk i 1) (i / 64) := by
  apply Nat.eq_of_testBit_eq
  intro b
  rw [Nat.testBit_or, Nat.testBit_two_pow, bW, bW, bwR_tb h, bwR_tb (up_le1 h i (Nat.le_refl 1))]
  unfold va_up
  by_cases e : b < 64
  · by_cases e2 : 64 * (i / 64) + b = i
    · rw [if_pos e2, decide_eq_true (show i % 64 = b by omega), decide_eq_true e]; simp
    · rw [if_neg e2, decide_eq_false (show ¬ i % 64 = b by omega)]; simp
  · rw [decide_eq_false e, decide_eq_false (show ¬ i % 64 = b by omega)]; simp
theorem bW_clr {lk : Nat → Nat} (h : ∀ j, lk j ≤ 1) (i : Nat) : bW lk (i / 64) &&& (2 ^ (i % 64) ^^^ (2 ^ 64 - 1)) = bW (va_up lk i 0) (i / 64) := by
  apply Nat.eq_of_testBit_eq
  intro b
  rw [Nat.testBit_and, Nat.testBit_xor, Nat.testBit_two_pow, Nat.testBit_two_pow_sub_one, bW, bW, bwR_tb h, bwR_tb (up_le1 h i (Nat.zero_le 1))]
  unfold va_up
  by_cases e : b < 64
  · by_cases e2 : 64 * (i / 64) + b = i
    · rw [if_pos e2, decide_eq_true (show i % 64 = b by omega), decide_eq_true e]; simp
    · rw [if_neg e2, decide_eq_false (show ¬ i % 64 = b by omega), decide_eq_true e]; simp
  · rw [decide_eq_false e, decide_eq_false (show ¬ i % 64 = b by omega)]; simp
theorem bW_get {lk : Nat → Nat} (h : ∀ j, lk j ≤ 1) (i : Nat) : bW lk (i / 64) &&& 2 ^ (i % 64) = if lk i = 1 then 2 ^ (i % 64) else 0 := by
  apply Nat.eq_of_testBit_eq
  intro b
  rw [Nat.testBit_and, Nat.testBit_two_pow, bW, bwR_tb h]
  by_cases e : i % 64 = b
  · rw [decide_eq_true e, decide_eq_true (show b < 64 by omega), show 64 * (i / 64) + b = i from by omega]
    by_cases e2 : lk i = 1
    · rw [if_pos e2, decide_eq_true e2, Nat.testBit_two_pow, decide_eq_true e]; rfl
    · rw [if_neg e2, decide_eq_false e2, Nat.zero_testBit]; rfl
  · rw [decide_eq_false e, Bool.and_false]
    by_cases e2 : lk i = 1
    · rw [if_pos e2, Nat.testBit_two_pow, decide_eq_false e]
    · rw [if_neg e2, Nat.zero_testBit]
theorem zz_sh : ∀ k : Nat, k < 256 → ((iZ (k : Int)).toInt64 &&& 63) = ((nI (k % 64)).toInt64 &&& 63) := by decide +kernel
theorem jW_one {k : Nat} (hk : k < 256) : (1 : Int64) <<< ((iZ (k : Int)).toInt64 &&& 63) = lN (2 ^ (k % 64)) := by
  rw [zz_sh k hk, show (1 : Int64) = lN 1 from rfl, wb_shl 1 (by omega), Nat.one_mul]
theorem two_lt (k : Nat) : 2 ^ (k % 64) < 2 ^ 64 := Nat.pow_lt_pow_right (by decide) (by omega)
theorem jW_set {lk : Nat → Nat} (h : ∀ j, lk j ≤ 1) (i : Nat) : jW lk (i / 64) ||| lN (2 ^ (i % 64)) = jW (va_up lk i 1) (i / 64) := by
  unfold jW; rw [wb_or (bW_lt h _) (two_lt i), bW_set h]
theorem jW_clr {lk : Nat → Nat} (h : ∀ j, lk j ≤ 1) (i : Nat) : jW lk (i / 64) &&& (lN (2 ^ (i % 64)) ^^^ (-1)) = jW (va_up lk i 0) (i / 64) := by
  unfold jW; rw [show (-1 : Int64) = lN (2 ^ 64 - 1) from by decide +kernel, lN_xor, wb_and (bW_lt h _) (Nat.xor_lt_two_pow (two_lt i) (by decide)), bW_clr h]
theorem lN0 {n : Nat} (h : n < 2 ^ 64) : lN n = 0 ↔ n = 0 := by
  constructor
  · intro e
    have := congrArg (fun x => x.toBitVec.toNat) e
    simp only [wb_tn h] at this
    exact this
  · intro e; subst e; rfl
theorem jW_get {lk : Nat → Nat} (h : ∀ j, lk j ≤ 1) (i : Nat) : jW lk (i / 64) &&& lN (2 ^ (i % 64)) = 0 ↔ lk i = 0 := by
  unfold jW; rw [wb_and (bW_lt h _) (two_lt i), bW_get h]
  have := h i
  have := Nat.two_pow_pos (i % 64)
  split
  · rw [lN0 (two_lt i)]; omega
  · rw [lN0 (by decide)]; omega
theorem jW_0 {lk : Nat → Nat} (h : ∀ j, lk j ≤ 1) (w : Nat) : jW lk w = 0 ↔ bW lk w = 0 := lN0 (bW_lt h w)
theorem jW_up {lk : Nat → Nat} {i v j : Nat} (x : Int64) (hx : x = jW (va_up lk i v) (i / 64)) : va_up (jW lk) (i / 64) x j = jW (va_up lk i v) j := by
  unfold va_up
  split
  · rename_i e; subst e; exact hx
  · rename_i e; unfold jW; rw [show bW (fun q => if q = i then v else lk q) j = bW (va_up lk i v) j from rfl, bW_up_ne e]
/-! many ones: by lanes of a byte -/
def enc : List Nat → Nat
  | [] => 0
  | v :: L => v + 256 * enc L
theorem nl_and {a b c d : Nat} (ha : a < 256) (hc : c < 256) : (a + 256 * b) &&& (c + 256 * d) = (a &&& c) + 256 * (b &&& d) := by
  have e1 : a + 256 * b = 2 ^ 8 * b + a := by omega
  have e2 : c + 256 * d = 2 ^ 8 * d + c := by omega
  have h3 : a &&& c < 2 ^ 8 := Nat.and_lt_two_pow _ hc
  rw [e1, e2, show (a &&& c) + 256 * (b &&& d) = 2 ^ 8 * (b &&& d) + (a &&& c) from by omega]
  apply Nat.eq_of_testBit_eq
  intro i
  rw [Nat.testBit_and, Nat.testBit_two_pow_mul_add _ ha, Nat.testBit_two_pow_mul_add _ hc, Nat.testBit_two_pow_mul_add _ h3]
  by_cases e : i < 8
  · simp only [if_pos e, Nat.testBit_and]
  · simp only [if_neg e, Nat.testBit_and]
def lan (m : Nat) (L : List Nat) : List Nat := L.map (fun _ => m)
theorem lan_s1a : ∀ v, v < 256 → ∀ c, c < 2 → (v / 2 + 128 * c) &&& 85 = v / 2 &&& 85 := by decide +kernel
theorem lan_s2a : ∀ v, v < 256 → ∀ c, c < 4 → (v / 4 + 64 * c) &&& 51 = v / 4 &&& 51 := by decide +kernel
def l1 (v : Nat) : Nat := v - (v / 2 &&& 85)
def l2 (v : Nat) : Nat := (v &&& 51) + (v / 4 &&& 51)
def l3 (v : Nat) : Nat := (v + v / 16) &&& 15
abbrev l2ok (v : Nat) : Prop := v % 16 ≤ 4 ∧ v / 16 ≤ 4
theorem l1_le : ∀ v, v < 256 → (v / 2 &&& 85) ≤ v ∧ l1 v < 256 ∧ l2 (l1 v) < 256 ∧ l2ok (l2 (l1 v)) ∧ l3 (l2 (l1 v)) ≤ 8 := by decide +kernel
theorem en1 : ∀ {L : List Nat}, (∀ v ∈ L, v < 256) → (enc L / 2 &&& enc (lan 85 L)) = enc (L.map (fun v => v / 2 &&& 85)) ∧ enc L - (enc L / 2 &&& enc (lan 85 L)) = enc (L.map l1) ∧ enc (L.map (fun v => v / 2 &&& 85)) ≤ enc L
  | [], _ => ⟨rfl, rfl, Nat.le_refl _⟩
  | v :: L, h => by
    have hv := h v (List.mem_cons_self ..)
    obtain ⟨i1, i2, i3⟩ := en1 (L := L) (fun w hw => h w (List.mem_cons_of_mem _ hw))
    have e : enc (v :: L) / 2 = (v / 2 + 128 * (enc L % 2)) + 256 * (enc L / 2) := by show (v + 256 * enc L) / 2 = _; omega
    have e2 : enc (v :: L) / 2 &&& enc (lan 85 (v :: L)) = enc ((v :: L).map (fun v => v / 2 &&& 85)) := by
      rw [e]
      show _ &&& (85 + 256 * enc (lan 85 L)) = (v / 2 &&& 85) + 256 * enc (L.map _)
      rw [nl_and (by omega) (by omega), lan_s1a v hv _ (Nat.mod_lt _ (by decide)), i1]
    have h1 := (l1_le v hv).1
    refine ⟨e2, ?_, ?_⟩
    · rw [e2]
      rw [i1] at i2
      show v + 256 * enc L - ((v / 2 &&& 85) + 256 * enc (L.map (fun v => v / 2 &&& 85))) = l1 v + 256 * enc (L.map l1)
      rw [← i2]; unfold l1
      omega
    · show (v / 2 &&& 85) + 256 * enc (L.map (fun v => v / 2 &&& 85)) ≤ v + 256 * enc L
      omega
theorem en2 : ∀ {L : List Nat}, (∀ v ∈ L, v < 256) → (enc L &&& enc (lan 51 L)) + (enc L / 4 &&& enc (lan 51 L)) = enc (L.map l2)
  | [], _ => rfl
  | v :: L, h => by
    have hv := h v (List.mem_cons_self ..)
    have i1 := en2 (L := L) (fun w hw => h w (List.mem_cons_of_mem _ hw))
    have e : enc (v :: L) / 4 = (v / 4 + 64 * (enc L % 4)) + 256 * (enc L / 4) := by show (v + 256 * enc L) / 4 = _; omega
    rw [e]
    show ((v + 256 * enc L) &&& (51 + 256 * enc (lan 51 L))) + (_ &&& (51 + 256 * enc (lan 51 L))) = l2 v + 256 * enc (L.map l2)
    rw [nl_and (by omega) (by omega), nl_and (by omega) (by omega), lan_s2a v hv _ (Nat.mod_lt _ (by decide)), ← i1]
    unfold l2
    omega
theorem lan_s3 : ∀ n0, n0 ≤ 4 → ∀ n1, n1 ≤ 4 → ∀ c, c < 16 → (n0 + 16 * n1 + n1 + 16 * c) % 256 &&& 15 = (n0 + n1) &&& 15 := by decide +kernel
theorem en3 : ∀ {L : List Nat}, (∀ v ∈ L, l2ok v) → ((enc L + enc L / 16) &&& enc (lan 15 L)) = enc (L.map l3) ∧ enc L % 16 ≤ 4
  | [], _ => ⟨rfl, by decide⟩
  | v :: L, h => by
    have hv := h v (List.mem_cons_self ..)
    obtain ⟨i1, i2⟩ := en3 (L := L) (fun w hw => h w (List.mem_cons_of_mem _ hw))
    obtain ⟨n1, hn1⟩ : ∃ n1, n1 = v / 16 := ⟨_, rfl⟩
    obtain ⟨n0, hn0⟩ : ∃ n0, n0 = v % 16 := ⟨_, rfl⟩
    have hv1 := hv.1
    have hv2 := hv.2
    have ev : v = n0 + 16 * n1 := by omega
    obtain ⟨c, hc⟩ : ∃ c, c = enc L % 16 := ⟨_, rfl⟩
    have e : enc (v :: L) + enc (v :: L) / 16 = (n0 + 16 * n1 + n1 + 16 * c) + 256 * (enc L + enc L / 16) := by
      show (v + 256 * enc L) + (v + 256 * enc L) / 16 = _; omega
    refine ⟨?_, by show (v + 256 * enc L) % 16 ≤ 4; omega⟩
    rw [e]
    show _ &&& (15 + 256 * enc (lan 15 L)) = l3 v + 256 * enc (L.map l3)
    have hlt : n0 + 16 * n1 + n1 + 16 * c < 256 := by omega
    rw [nl_and hlt (by omega), i1]
    have := lan_s3 n0 (by omega) n1 (by omega) c (by omega)
    rw [Nat.mod_eq_of_lt hlt] at this
    rw [this]
    unfold l3
    rw [show v + v / 16 = (n0 + n1) + 16 * n1 from by omega]
    have h4 : ((n0 + n1) + 16 * n1) &&& 15 = (n0 + n1) &&& 15 := by
      rw [show (15 : Nat) = 2 ^ 4 - 1 from rfl, Nat.and_two_pow_sub_one_eq_mod, Nat.and_two_pow_sub_one_eq_mod]; omega
    rw [h4]
theorem pS8 : ∀ v, v < 256 → l3 (l2 (l1 v)) = v % 2 + v / 2 % 2 + v / 4 % 2 + v / 8 % 2 + v / 16 % 2 + v / 32 % 2 + v / 64 % 2 + v / 128 % 2 := by decide +kernel
theorem bwR8 {lk : Nat → Nat} (h : ∀ j, lk j ≤ 1) (a : Nat) : l3 (l2 (l1 (bwR lk a 8))) = lk a + lk (a + 1) + lk (a + 2) + lk (a + 3) + lk (a + 4) + lk (a + 5) + lk (a + 6) + lk (a + 7) := by
  rw [pS8 _ (bwR_lt h 8 a)]
  have h0 := h a
  have h1 := h (a + 1)
  have h2 := h (a + 2)
  have h3 := h (a + 3)
  have h4 := h (a + 4)
  have h5 := h (a + 5)
  have h6 := h (a + 6)
  have h7 := h (a + 7)
  simp only [bwR, Nat.add_assoc, Nat.reduceAdd]
  generalize lk a = b0 at *
  generalize lk (a + 1) = b1 at *
  generalize lk (a + 2) = b2 at *
  generalize lk (a + 3) = b3 at *
  generalize lk (a + 4) = b4 at *
  generalize lk (a + 5) = b5 at *
  generalize lk (a + 6) = b6 at *
  generalize lk (a + 7) = b7 at *
  omega
theorem bwR_split (lk : Nat → Nat) : ∀ (i a j : Nat), bwR lk a (i + j) = bwR lk a i + 2 ^ i * bwR lk (a + i) j
  | 0, a, j => by rw [Nat.zero_add, bwR, Nat.pow_zero, Nat.one_mul, Nat.zero_add]; rfl
  | i + 1, a, j => by
    rw [show i + 1 + j = (i + j) + 1 from by omega, bwR, bwR, bwR_split lk i (a + 1) j, show a + 1 + i = a + (i + 1) from by omega, Nat.pow_succ, Nat.mul_add, ← Nat.mul_assoc, Nat.mul_comm (2 ^ i) 2]
    omega
def byts (lk : Nat → Nat) (a : Nat) : List Nat := [bwR lk a 8, bwR lk (a + 8) 8, bwR lk (a + 16) 8, bwR lk (a + 24) 8, bwR lk (a + 32) 8, bwR lk (a + 40) 8, bwR lk (a + 48) 8, bwR lk (a + 56) 8]
theorem bwR64 (lk : Nat → Nat) (a : Nat) : bwR lk a 64 = enc (byts lk a) := by
  rw [show (64 : Nat) = 8 + 56 from rfl, bwR_split, show (56 : Nat) = 8 + 48 from rfl, bwR_split, show (48 : Nat) = 8 + 40 from rfl, bwR_split, show (40 : Nat) = 8 + 32 from rfl, bwR_split, show (32 : Nat) = 8 + 24 from rfl, bwR_split, show (24 : Nat) = 8 + 16 from rfl, bwR_split, show (16 : Nat) = 8 + 8 from rfl, bwR_split]
  simp only [byts, enc, Nat.add_assoc, Nat.reduceAdd, Nat.reducePow, Nat.mul_add, ← Nat.mul_assoc, Nat.reduceMul]
  omega
