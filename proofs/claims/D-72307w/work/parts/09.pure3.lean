/-! PLAIN FACTS: undo, ranks of shifts, orders, the climb -/
def undoF (st : Nat → Nat) : Nat → Nat := pP (va_up st 328 (st 328 - 1)) (fun j => st (329 + 49 * (st 328 - 1) + j)) 0 49
theorem aScore_le {w t : Nat → Nat} {n s f k : Nat} (hw : ∀ l, l < 16 → w l ≤ 99) (hn : n ≤ 48) : aScore w t n s f k ≤ 4752 := by
  have h := scF_le (t := t) (n := n) (s := s) (k := k) hw n f
  have : n * 99 ≤ 4752 := by omega
  unfold aScore
  omega
def shK (w t : Nat → Nat) (n s f : Nat) : Nat → Nat := fun j => 4752 - aScore w t n s f j
def aRank (w t : Nat → Nat) (n s f k : Nat) : Nat := rk (shK w t n s f) 16 k
theorem aRank_pC {w t : Nat → Nat} {n s f k : Nat} (hw : ∀ l, l < 16 → w l ≤ 99) (hn : n ≤ 48) :
    pC (fun j => decide (aScore w t n s f k < aScore w t n s f j ∨ (aScore w t n s f j = aScore w t n s f k ∧ j < k))) 16 = aRank w t n s f k := by
  unfold aRank rk
  refine pC_cong (fun j hj => ?_)
  have h1 := aScore_le (t := t) (n := n) (s := s) (f := f) (k := k) hw hn
  have h2 := aScore_le (t := t) (n := n) (s := s) (f := f) (k := j) hw hn
  unfold shK
  by_cases h : aScore w t n s f k < aScore w t n s f j ∨ (aScore w t n s f j = aScore w t n s f k ∧ j < k)
  · rw [decide_eq_true h, decide_eq_true (by omega)]
  · rw [decide_eq_false h, decide_eq_false (by omega)]
/-- the shift of rank i -/
def aShK (w t : Nat → Nat) (n s f i : Nat) : Nat := kO (shK w t n s f) 16 i
theorem aShK_ok {w t : Nat → Nat} {n s f i : Nat} (hi : i < 16) : aShK w t n s f i < 16 ∧ aRank w t n s f (aShK w t n s f i) = i := by
  obtain ⟨c, hc, e⟩ := kO_ex (key := shK w t n s f) hi
  unfold aShK aRank
  rw [kO_of hc e]
  exact ⟨hc, e⟩
theorem aShK_one {w t : Nat → Nat} {n s f i k : Nat} (hi : i < 16) (hk : k < 16) (e : aRank w t n s f k = i) : k = aShK w t n s f i := rk_inj hk (aShK_ok hi).1 (e.trans (aShK_ok (w := w) (t := t) (n := n) (s := s) (f := f) hi).2.symm)
def aShift (w t : Nat → Nat) (n : Nat) (s f i what : Int) : Int :=
  if (1 ≤ s ∧ s ≤ 8) ∧ (0 ≤ f ∧ f ≤ s - 1) ∧ (0 ≤ i ∧ i ≤ 15) ∧ 0 ≤ what ∧ what ≤ 1 then
    (if what = 0 then ((aShK w t n s.toNat f.toNat i.toNat : Nat) : Int) else ((aScore w t n s.toNat f.toNat (aShK w t n s.toNat f.toNat i.toNat) : Nat) : Int)) else -2
theorem aGood_cong {lk f g : Nat → Nat} {n : Nat} (h : ∀ j, j < n → f j = g j) : aGood lk f n = aGood lk g n := pS_cong (fun k hk => by show lk (16 * f k + f (k + 1)) = _; rw [h k (by omega), h (k + 1) (by omega)])
theorem aGood_le {lk f : Nat → Nat} {n : Nat} (hl : ∀ q, q < 256 → lk q ≤ 1) (hf : ∀ j, j < n → f j < 16) : aGood lk f n ≤ n := by
  have h := pS_le (f := fun i => lk (16 * f i + f (i + 1))) (c := 1) (n := n - 1) (fun k hk => hl _ (by have := hf k (by omega); have := hf (k + 1) (by omega); omega))
  unfold aGood
  omega
/-! orders of columns -/
def whl : Nat → Nat → Nat → Nat → Option Nat
  | 0, _, _, _ => none
  | f + 1, l, s, a => if l / 2 ^ a % 2 = 0 ∨ 0 < s then whl f l (s - l / 2 ^ a % 2) (a + 1) else some a
theorem whl_bit : ∀ {f l s a r : Nat}, whl f l s a = some r → l / 2 ^ r % 2 = 1 ∧ r < a + f
  | 0, _, _, _, _, h => by cases h
  | f + 1, l, s, a, r, h => by
    rw [whl] at h
    by_cases e : l / 2 ^ a % 2 = 0 ∨ 0 < s
    · rw [if_pos e] at h
      have := whl_bit h
      exact ⟨this.1, by omega⟩
    · rw [if_neg e] at h
      cases h
      have := Nat.mod_lt (l / 2 ^ a) (show 0 < 2 by omega)
      exact ⟨by omega, by omega⟩
def dgR (num : Nat) : Nat → Nat
  | 0 => num
  | j + 1 => dgR num j / (j + 1)
def dgF (num n : Nat) : Nat → Nat := fun k => dgR num (n - 1 - k) % (n - k)
def lay2 (dg : Nat → Nat) (n : Nat) : Nat → Option (Nat × List Nat)
  | 0 => some (2 ^ n - 1, [])
  | k + 1 => (lay2 dg n k).bind (fun p => (whl 8 p.1 (dg k) 0).bind (fun a => some (p.1 - 2 ^ a, p.2 ++ [a])))
def layO (num n : Nat) : Option (List Nat) := (lay2 (dgF num n) n n).map (fun p => p.2)
theorem lay2_le {dg : Nat → Nat} {n : Nat} : ∀ {k : Nat} {p : Nat × List Nat}, lay2 dg n k = some p → p.1 ≤ 2 ^ n - 1 ∧ p.2.length = k
  | 0, p, h => by cases h; exact ⟨Nat.le_refl _, rfl⟩
  | k + 1, p, h => by
    rw [lay2] at h
    obtain ⟨q, h1, h2⟩ := Option.bind_eq_some_iff.mp h
    obtain ⟨a, h3, h4⟩ := Option.bind_eq_some_iff.mp h2
    cases h4
    have := lay2_le h1
    exact ⟨Nat.le_trans (Nat.sub_le _ _) this.1, by show (q.2 ++ [a]).length = _; rw [List.length_append, this.2]; rfl⟩
theorem lay2_pre {dg : Nat → Nat} {n : Nat} : ∀ {d k : Nat} {p : Nat × List Nat}, lay2 dg n (k + d) = some p → ∃ q, lay2 dg n k = some q
  | 0, _, p, h => ⟨p, h⟩
  | d + 1, k, p, h => by
    rw [show k + (d + 1) = (k + d) + 1 from rfl, lay2] at h
    obtain ⟨q, h1, -⟩ := Option.bind_eq_some_iff.mp h
    exact lay2_pre h1
theorem lay2_next {dg : Nat → Nat} {n k N l : Nat} {L : List Nat} {p : Nat × List Nat} (hN : lay2 dg n N = some p) (hk : k < N) (h : lay2 dg n k = some (l, L)) : ∃ a, whl 8 l (dg k) 0 = some a ∧ lay2 dg n (k + 1) = some (l - 2 ^ a, L ++ [a]) := by
  obtain ⟨q, hq⟩ := lay2_pre (k := k + 1) (d := N - (k + 1)) (by rw [show k + 1 + (N - (k + 1)) = N from by omega]; exact hN)
  have h1 := hq
  rw [lay2, h] at h1
  obtain ⟨a, h3, h4⟩ := Option.bind_eq_some_iff.mp (show (whl 8 l (dg k) 0).bind (fun a => some (l - 2 ^ a, L ++ [a])) = some q from h1)
  exact ⟨a, h3, by rw [hq]; exact h4.symm⟩
theorem layO_some {num n : Nat} {L : List Nat} (h : layO num n = some L) : ∃ l, lay2 (dgF num n) n n = some (l, L) := by
  unfold layO at h
  obtain ⟨p, h1, h2⟩ := Option.map_eq_some_iff.mp h
  exact ⟨p.1, by rw [h1, ← h2]⟩
theorem zb_clr : ∀ l : Nat, l < 64 → ∀ a : Nat, a < 8 → l / 2 ^ a % 2 = 1 → iZ (l : Int) &&& (iZ ((2 ^ a : Nat) : Int) ^^^ iZ (-1)) = iZ ((l - 2 ^ a : Nat) : Int) := by decide +kernel
theorem pow6 {n : Nat} (h : n ≤ 6) : 1 ≤ 2 ^ n ∧ 2 ^ n ≤ 64 := ⟨Nat.one_le_two_pow, by have := Nat.pow_le_pow_right (n := 2) (by omega) h; simpa using this⟩
def fc : Nat → Nat
  | 0 => 1
  | n + 1 => fc n * (n + 1)
/-- all orders of the numbers of av, the first one first -/
def lexL : Nat → List Nat → List (List Nat)
  | 0, _ => [[]]
  | f + 1, av => av.flatMap (fun c => (lexL f (av.erase c)).map (fun r => c :: r))
def permB (n : Nat) (L : List Nat) : Bool := L.length == n && L.all (fun x => decide (x < n)) && (List.range n).all (fun x => decide (x ∈ L))
def ordB (n : Nat) : Bool := ((List.range (fc n)).map (fun q => layO q n) == (lexL n (List.range n)).map some) && (lexL n (List.range n)).all (permB n)
theorem ordB_2 : ordB 2 = true := by decide +kernel
theorem ordB_3 : ordB 3 = true := by decide +kernel
theorem ordB_4 : ordB 4 = true := by decide +kernel
theorem ordB_5 : ordB 5 = true := by decide +kernel
theorem ordB_6 : ordB 6 = true := by decide +kernel
theorem ordB_all {n : Nat} (h2 : 2 ≤ n) (h6 : n ≤ 6) : ordB n = true := by
  rcases (show n = 2 ∨ n = 3 ∨ n = 4 ∨ n = 5 ∨ n = 6 by omega) with rfl | rfl | rfl | rfl | rfl
  · exact ordB_2
  · exact ordB_3
  · exact ordB_4
  · exact ordB_5
  · exact ordB_6
def lxF (L : List Nat) : Nat → Nat := fun j => L.getD j 0
theorem permB_ok {n : Nat} {L : List Nat} (h : permB n L = true) : L.length = n ∧ OrdP (lxF L) n := by
  simp only [permB, Bool.and_eq_true, beq_iff_eq, List.all_eq_true, decide_eq_true_eq] at h
  obtain ⟨⟨h1, h2⟩, h3⟩ := h
  refine ⟨h1, fun k hk => h2 _ (getD_mem (by omega)), fun i j hi hj e => ?_⟩
  -- a row as long as its numbers are many, that has them all, has none twice
  refine Classical.byContradiction fun hij => ?_
  have key : ∀ a b, a < b → b < n → L.getD a 0 = L.getD b 0 → False := by
    intro a b hab hb e
    have h4 : n ≤ (L.eraseIdx b).length := nd_ge n _ (fun x hx => by
      obtain ⟨q, hq, eq⟩ := mem_getD (h3 x (List.mem_range.mpr hx))
      by_cases hqb : q = b
      · subst hqb
        rw [← eq, ← e]
        have h5 : a < (L.eraseIdx q).length := by rw [List.length_eraseIdx_of_lt (by omega)]; omega
        have h6 : (L.eraseIdx q).getD a 0 = L.getD a 0 := by
          rw [List.getD_eq_getElem?_getD, List.getD_eq_getElem?_getD, List.getElem?_eraseIdx, if_pos hab]
        rw [← h6]
        exact getD_mem h5
      · have h5 : (if q < b then q else q - 1) < (L.eraseIdx b).length := by rw [List.length_eraseIdx_of_lt (by omega)]; split <;> omega
        have h6 : (L.eraseIdx b).getD (if q < b then q else q - 1) 0 = L.getD q 0 := by
          rw [List.getD_eq_getElem?_getD, List.getD_eq_getElem?_getD, List.getElem?_eraseIdx]
          by_cases hq2 : q < b
          · rw [if_pos hq2, if_pos hq2]
          · rw [if_neg hq2, if_neg (by omega), show q - 1 + 1 = q from by omega]
        rw [← eq, ← h6]
        exact getD_mem h5)
    rw [List.length_eraseIdx_of_lt (by omega)] at h4
    omega
  rcases Nat.lt_or_ge i j with q | q
  · exact key i j q hj e
  · exact key j i (by omega) hi e.symm
def prm (n q : Nat) : List Nat := (layO q n).getD []
theorem layO_ok {n q : Nat} (h2 : 2 ≤ n) (h6 : n ≤ 6) (hq : q < fc n) : layO q n = some (prm n q) ∧ (prm n q).length = n ∧ OrdP (lxF (prm n q)) n := by
  have h := ordB_all h2 h6
  simp only [ordB, Bool.and_eq_true, beq_iff_eq, List.all_eq_true] at h
  obtain ⟨h1, h3⟩ := h
  have e1 : ((List.range (fc n)).map (fun q => layO q n))[q]? = some (layO q n) := by simp [hq]
  rw [h1, List.getElem?_map] at e1
  obtain ⟨L, e2, e3⟩ := Option.map_eq_some_iff.mp e1
  have e4 : prm n q = L := by unfold prm; rw [← e3]; rfl
  rw [e4]
  exact ⟨e3.symm, permB_ok (h3 L (List.mem_of_getElem? e2))⟩
theorem lexL_prm {n : Nat} (h2 : 2 ≤ n) (h6 : n ≤ 6) : lexL n (List.range n) = (List.range (fc n)).map (prm n) := by
  have h := ordB_all h2 h6
  simp only [ordB, Bool.and_eq_true, beq_iff_eq, List.all_eq_true] at h
  have e := congrArg (List.map (fun o => o.getD ([] : List Nat))) h.1
  rw [List.map_map, List.map_map] at e
  refine Eq.trans ?_ (Eq.trans e.symm ?_)
  · have : ((fun o => o.getD ([] : List Nat)) ∘ some) = id := rfl
    rw [this, List.map_id]
  · rfl
/-- what an order of columns is worth: what is good in the text that it hides -/
def gPm (lk t : Nat → Nat) (n : Nat) (L : List Nat) : Nat := aGood lk (mvF (-1) (clL (lxF L) L.length n L.length) t n) n
def stO (lk t : Nat → Nat) (n : Nat) (s : Int × Nat × List Nat) (L : List Nat) : Int × Nat × List Nat :=
  if s.1 < (gPm lk t n L : Int) then ((gPm lk t n L : Int), 1, L) else if (gPm lk t n L : Int) = s.1 then (s.1, s.2.1 + 1, s.2.2) else s
def foO (lk t : Nat → Nat) (n nc : Nat) : Nat → Int × Nat × List Nat
  | 0 => (-1, 0, [])
  | q + 1 => stO lk t n (foO lk t n nc q) (prm nc q)
def aOrder (lk t : Nat → Nat) (n : Nat) (nc what : Int) : Int :=
  if (2 ≤ nc ∧ nc ≤ 6) ∧ -2 ≤ what ∧ what ≤ nc - 1 then
    (if what = -1 then (foO lk t n nc.toNat (fc nc.toNat)).1 else if what = -2 then (((foO lk t n nc.toNat (fc nc.toNat)).2.1 : Nat) : Int) else ((lxF (foO lk t n nc.toNat (fc nc.toNat)).2.2 what.toNat : Nat) : Int)) else -2
theorem fc_rng {n : Nat} (h6 : n ≤ 6) : 1 ≤ fc n ∧ fc n ≤ 720 := by
  rcases (show n = 0 ∨ n = 1 ∨ n = 2 ∨ n = 3 ∨ n = 4 ∨ n = 5 ∨ n = 6 by omega) with rfl | rfl | rfl | rfl | rfl | rfl | rfl <;> decide
/-- the best order so far has a number -/
def ordI (nc q : Nat) (b ms : Int) (bL : List Nat) : Prop := 0 < q → ∃ bn : Nat, b = (bn : Int) ∧ bn < fc nc ∧ bL = prm nc bn ∧ 0 ≤ ms
/-! the climb -/
def invF (sq : Nat → Nat) : Nat → Nat := fun l => ((List.range 16).find? (fun q => sq q == l)).getD 0
def SqO (sq : Nat → Nat) : Prop := (∀ q, q < 16 → sq q < 16) ∧ ∀ i j, i < 16 → j < 16 → sq i = sq j → i = j
theorem invF_of {sq : Nat → Nat} {q l : Nat} (h : SqO sq) (hq : q < 16) (e : sq q = l) : invF sq l = q := by
  unfold invF
  cases hf : (List.range 16).find? (fun q => sq q == l) with
  | none =>
    have h1 := List.find?_eq_none.mp hf q (List.mem_range.mpr hq)
    simp at h1
    exact absurd e h1
  | some d =>
    have h1 := List.find?_some hf
    have h2 := List.mem_range.mp (List.mem_of_find?_eq_some hf)
    simp at h1
    exact h.2 d q h2 hq (h1.trans e.symm)
theorem SqO.P {sq : Nat → Nat} (h : SqO sq) : SqP sq (invF sq) := by
  refine ⟨fun q hq => ⟨h.1 q hq, invF_of h hq rfl⟩, fun l hl => ?_⟩
  obtain ⟨q, hq, e⟩ := onto_of h.1 h.2 hl
  rw [invF_of h hq e]
  exact ⟨hq, e⟩
theorem SqP.O {sq P : Nat → Nat} (h : SqP sq P) : SqO sq := ⟨fun q hq => (h.1 q hq).1, fun i j hi hj e => by rw [← (h.1 i hi).2, e, (h.1 j hj).2]⟩
def swF (sq : Nat → Nat) (a b : Nat) : Nat → Nat := va_up (va_up sq a (sq b)) b (sq a)
theorem swF_at (sq : Nat → Nat) (a b j : Nat) : swF sq a b j = if j = b then sq a else if j = a then sq b else sq j := by
  unfold swF va_up
  rfl
theorem swF_sw (sq : Nat → Nat) (a b : Nat) : swF (swF sq a b) a b = sq := by
  funext j
  simp only [swF_at]
  by_cases h1 : j = b
  · subst h1
    by_cases h2 : a = j
    · subst h2; simp
    · simp [h2]
  · by_cases h2 : j = a
    · subst h2; simp [h1]
    · simp [h1, h2]
theorem swF_O {sq : Nat → Nat} {a b : Nat} (h : SqO sq) (ha : a < 16) (hb : b < 16) : SqO (swF sq a b) := by
  have e : ∀ j, j < 16 → swF sq a b j = sq (if j = b then a else if j = a then b else j) := fun j _ => by
    rw [swF_at]
    split
    · rfl
    · split <;> rfl
  refine ⟨fun q hq => ?_, fun i j hi hj eq => ?_⟩
  · rw [e q hq]
    refine h.1 _ ?_
    split
    · exact ha
    · split
      · exact hb
      · exact hq
  · rw [e i hi, e j hj] at eq
    have h1 : ∀ x, x < 16 → (if x = b then a else if x = a then b else x) < 16 := fun x hx => by
      split
      · exact ha
      · split
        · exact hb
        · exact hx
    have h2 := h.2 _ _ (h1 i hi) (h1 j hj) eq
    by_cases c1 : i = b <;> by_cases c2 : j = b <;> by_cases c3 : i = a <;> by_cases c4 : j = a <;> by_cases c5 : a = b <;> simp [c1, c2, c3, c4, c5] at h2 <;> omega
def gCl (lk t : Nat → Nat) (n : Nat) (sq : Nat → Nat) : Nat := aGood lk (prF sq (invF sq) t (-1)) n
def zNx (z : Nat) : Nat := (75 * z + 74) % 65537
/-- after k tries: the square, what is good, how many stayed, the number -/
def clS (lk t : Nat → Nat) (n : Nat) (sq0 : Nat → Nat) (seed : Nat) : Nat → (Nat → Nat) × Nat × Nat × Nat
  | 0 => (sq0, gCl lk t n sq0, 0, seed)
  | k + 1 =>
    let s := clS lk t n sq0 seed k
    let z := zNx s.2.2.2
    let q := swF s.1 (z % 16) (z / 16 % 16)
    if gCl lk t n q < s.2.1 then (s.1, s.2.1, s.2.2.1, z) else (q, gCl lk t n q, s.2.2.1 + 1, z)
def aClimb (lk t k : Nat → Nat) (n m : Nat) (seed tr what : Int) : Int :=
  if (0 ≤ seed ∧ seed ≤ 9999) ∧ (0 ≤ tr ∧ tr ≤ 60) ∧ -2 ≤ what ∧ what ≤ 15 then
    (if n % 2 = 1 then -3 else if what = -1 then (((clS lk t n (sqF k m) seed.toNat tr.toNat).2.1 : Nat) : Int) else if what = -2 then (((clS lk t n (sqF k m) seed.toNat tr.toNat).2.2.1 : Nat) : Int) else (((clS lk t n (sqF k m) seed.toNat tr.toNat).1 what.toNat : Nat) : Int)) else -2
def aCount (what : Int) (w lk : Nat → Nat) (n m said ns k0 k1 : Nat) : Int :=
  if 10 ≤ what ∧ what ≤ 25 then (w (what.toNat - 10) : Int) else if what = 0 then (n : Int) else if what = 1 then (m : Int) else if what = 2 then (said : Int) else if what = 3 then (ns : Int)
  else if what = 4 then (pS lk 256 : Int) else if what = 5 then ((k0 + 2 * k1 : Nat) : Int) else -2
