/-! PLAIN FACTS: counts, sums, overlays -/
def pC (p : Nat → Bool) : Nat → Nat
  | 0 => 0
  | n + 1 => pC p n + (if p n then 1 else 0)
theorem pC_yes {p : Nat → Bool} {n r : Nat} (h : r = pC p n) (hp : p n = true) : r + 1 = pC p (n + 1) := by rw [h, pC, hp]; rfl
theorem pC_no {p : Nat → Bool} {n r : Nat} (h : r = pC p n) (hp : p n = false) : r = pC p (n + 1) := by rw [h, pC, hp]; rfl
theorem pC_le (p : Nat → Bool) : ∀ n, pC p n ≤ n
  | 0 => Nat.le_refl 0
  | n + 1 => by
    have := pC_le p n
    rw [pC]
    split <;> omega
theorem pC_cong {p q : Nat → Bool} : ∀ {n : Nat}, (∀ k, k < n → p k = q k) → pC p n = pC q n
  | 0, _ => rfl
  | n + 1, h => by rw [pC, pC, pC_cong (fun k hk => h k (by omega)), h n (by omega)]
def pS (f : Nat → Nat) : Nat → Nat
  | 0 => 0
  | n + 1 => pS f n + f n
theorem pS_cong {f g : Nat → Nat} : ∀ {n : Nat}, (∀ k, k < n → f k = g k) → pS f n = pS g n
  | 0, _ => rfl
  | n + 1, h => by rw [pS, pS, pS_cong (fun k hk => h k (by omega)), h n (by omega)]
theorem pS_le {f : Nat → Nat} {c : Nat} : ∀ {n : Nat}, (∀ k, k < n → f k ≤ c) → pS f n ≤ n * c
  | 0, _ => by simp [pS]
  | n + 1, h => by
    have h1 := pS_le (n := n) (fun k hk => h k (by omega))
    have h2 := h n (by omega)
    rw [pS, Nat.succ_mul]
    omega
/-- f, with the first n places from a on those of g -/
def pP (f g : Nat → Nat) (a n : Nat) : Nat → Nat := fun k => if a ≤ k ∧ k < a + n then g (k - a) else f k
theorem pP_0 (f g : Nat → Nat) (a : Nat) : pP f g a 0 = f := funext fun k => if_neg (by omega)
theorem pP_in {f g : Nat → Nat} {a n k : Nat} (h1 : a ≤ k) (h2 : k < a + n) : pP f g a n k = g (k - a) := if_pos ⟨h1, h2⟩
theorem pP_out {f g : Nat → Nat} {a n k : Nat} (h : k < a ∨ a + n ≤ k) : pP f g a n k = f k := if_neg (by omega)
theorem pP_up {f g : Nat → Nat} {a n v : Nat} (hv : v = g n) : va_up (pP f g a n) (a + n) v = pP f g a (n + 1) := by
  subst hv
  funext k
  by_cases h : k = a + n
  · subst h
    rw [va_up_self, pP_in (by omega) (by omega), Nat.add_sub_cancel_left]
  · rw [va_up_ne _ _ h]
    by_cases h2 : a ≤ k ∧ k < a + n
    · rw [pP_in h2.1 h2.2, pP_in h2.1 (by omega)]
    · rw [pP_out (by omega), pP_out (by omega)]
theorem pP_up0 {f g : Nat → Nat} {n v : Nat} (hv : v = g n) : va_up (pP f g 0 n) n v = pP f g 0 (n + 1) := by
  have h := pP_up (f := f) (a := 0) hv
  rw [Nat.zero_add] at h
  exact h
/-- the same letters at d places' distance -/
def aSame (t : Nat → Nat) (n d : Nat) : Nat := pC (fun i => decide (t i = t (i + d))) (n - d)
theorem pC_lt {p : Nat → Bool} {k : Nat} (hk : p k = false) : ∀ {n : Nat}, k < n → pC p n < n
  | 0, h => absurd h (Nat.not_lt_zero _)
  | n + 1, h => by
    rw [pC]
    by_cases e : k = n
    · subst e
      have := pC_le p k
      rw [hk]
      simp
      omega
    · have := pC_lt hk (n := n) (by omega)
      split <;> omega
theorem pC_all {p : Nat → Bool} {n : Nat} (h : pC p n = n) {k : Nat} (hk : k < n) : p k = true := by
  cases e : p k with
  | true => rfl
  | false => exact absurd h (Nat.ne_of_lt (pC_lt e hk))
theorem pC_s (p : Nat → Bool) (n : Nat) : pC p (n + 1) = pC p n + (if p n then 1 else 0) := rfl
theorem pS_s (f : Nat → Nat) (n : Nat) : pS f (n + 1) = pS f n + f n := rfl
/-- the signs that are letters -/
def gL (pad : Nat → Nat) : Nat → Bool := fun j => decide (97 ≤ pad j ∧ pad j ≤ 112)
theorem gL_t {pad : Nat → Nat} {j : Nat} (h : 97 ≤ pad j ∧ pad j ≤ 112) : gL pad j = true := decide_eq_true h
theorem gL_f {pad : Nat → Nat} {j : Nat} (h : ¬ (97 ≤ pad j ∧ pad j ≤ 112)) : gL pad j = false := decide_eq_false h
theorem gL_all {pad : Nat → Nat} {n : Nat} (h : pC (gL pad) n = n) {k : Nat} (hk : k < n) : 97 ≤ pad k ∧ pad k ≤ 112 := of_decide_eq_true (pC_all h hk)
def tkOK (what : Int) (s : Nat) (pad : Nat → Nat) : Prop := (what = 0 ∨ (1 ≤ s ∧ s ≤ 6)) ∧ pC (gL pad) s = s
/-- how often a letter stands in the text -/
def aTimes (t : Nat → Nat) (n : Nat) (l : Int) : Nat := pC (fun i => decide ((t i : Int) = l)) n
/-- the first length at which most letters agree, of m -/
def lenStep (t : Nat → Nat) (n : Nat) (d : Nat) (best : Int) : Int :=
  if best < 0 ∨ aSame t n best.toNat * (n - d) < aSame t n d * (n - best.toNat) then d else best
def aLen (t : Nat → Nat) (n : Nat) : Nat → Int
  | 0 => -6
  | d + 1 => lenStep t n (d + 1) (aLen t n d)
theorem aLen_rng (t : Nat → Nat) (n : Nat) : ∀ d, aLen t n d = -6 ∨ (1 ≤ aLen t n d ∧ aLen t n d ≤ d)
  | 0 => Or.inl rfl
  | d + 1 => by
    have := aLen_rng t n d
    rw [aLen, lenStep]
    split <;> omega
/-- what a text's letters are worth, from f on, each n-th, if shifted back by k -/
def scI (w t : Nat → Nat) (k : Nat) (i : Nat) : Nat := w ((t i + 16 - k) % 16)
def scF (w t : Nat → Nat) (n s k : Nat) : Nat → Nat → Nat
  | 0, _ => 0
  | f + 1, i => if i < n then scI w t k i + scF w t n s k f (i + s) else 0
def aScore (w t : Nat → Nat) (n s f k : Nat) : Nat := scF w t n s k n f
theorem scF_le {w t : Nat → Nat} {n s k c : Nat} (hw : ∀ l, l < 16 → w l ≤ c) : ∀ f i, scF w t n s k f i ≤ f * c
  | 0, _ => by simp [scF]
  | f + 1, i => by
    have h1 := scF_le hw f (i + s) (t := t) (n := n) (s := s) (k := k)
    have h2 := hw ((t i + 16 - k) % 16) (Nat.mod_lt _ (by omega))
    rw [scF, Nat.succ_mul]
    split
    · unfold scI; omega
    · omega
theorem scF_stop {w t : Nat → Nat} {n s k : Nat} : ∀ {f i : Nat}, n ≤ i → scF w t n s k f i = 0
  | 0, _, _ => rfl
  | f + 1, i, h => by rw [scF, if_neg (by omega)]
/-- liked pairs of neighbours -/
def aGood (lk f : Nat → Nat) (n : Nat) : Nat := pS (fun i => lk (16 * f i + f (i + 1))) (n - 1)
