/-! PLAIN FACTS: lists of places, the square, the ways -/
theorem nd_le : ∀ (n : Nat) (l : List Nat), l.Nodup → (∀ x ∈ l, x < n) → l.length ≤ n
  | 0, l, _, h => by
    cases l with
    | nil => exact Nat.le_refl 0
    | cons a l => exact absurd (h a List.mem_cons_self) (Nat.not_lt_zero _)
  | n + 1, l, hn, h => by
    by_cases hm : n ∈ l
    · have h1 := nd_le n (l.erase n) (hn.erase n) (fun x hx => by
        have h2 := (hn.mem_erase_iff).mp hx
        have h3 := h x h2.2
        omega)
      rw [List.length_erase_of_mem hm] at h1
      omega
    · have h1 := nd_le n l hn (fun x hx => by
        have h3 := h x hx
        have h4 : x ≠ n := fun e => hm (e ▸ hx)
        omega)
      omega
theorem nd_ge : ∀ (n : Nat) (l : List Nat), (∀ x, x < n → x ∈ l) → n ≤ l.length
  | 0, _, _ => Nat.zero_le _
  | n + 1, l, h => by
    have hm := h n (by omega)
    have h1 := nd_ge n (l.erase n) (fun x hx => (List.mem_erase_of_ne (by omega)).mpr (h x (by omega)))
    rw [List.length_erase_of_mem hm] at h1
    have : 0 < l.length := List.length_pos_of_mem hm
    omega
theorem nd_snoc {l : List Nat} {x : Nat} (h : l.Nodup) (hx : x ∉ l) : (l ++ [x]).Nodup := by
  rw [List.nodup_append]
  exact ⟨h, by simp, fun a ha b hb => by rw [List.mem_singleton] at hb; subst hb; exact fun e => hx (e ▸ ha)⟩
theorem nd_room {l : List Nat} {x n : Nat} (h : l.Nodup) (hl : ∀ y ∈ l, y < n) (hx : x ∉ l) (hxn : x < n) : l.length < n := by
  have := nd_le n (l ++ [x]) (nd_snoc h hx) (fun y hy => by
    rcases List.mem_append.mp hy with h1 | h1
    · exact hl y h1
    · rw [List.mem_singleton] at h1; omega)
  rw [List.length_append, List.length_singleton] at this
  omega
/-- f with its first places those of L -/
def pL (L : List Nat) (f : Nat → Nat) : Nat → Nat := fun j => if j < L.length then L.getD j 0 else f j
theorem pL_nil (f : Nat → Nat) : pL [] f = f := funext fun j => if_neg (Nat.not_lt_zero j)
theorem pL_in {L : List Nat} {f : Nat → Nat} {j : Nat} (h : j < L.length) : pL L f j = L.getD j 0 := if_pos h
theorem pL_up {L : List Nat} {f : Nat → Nat} {k v : Nat} (hk : k = L.length) : va_up (pL L f) k v = pL (L ++ [v]) f := by
  subst hk
  funext j
  unfold va_up pL
  simp only [List.length_append, List.length_singleton]
  by_cases h : j = L.length
  · subst h
    rw [if_pos rfl, if_pos (by omega)]
    simp
  · rw [if_neg h]
    by_cases h2 : j < L.length
    · rw [if_pos h2, if_pos (by omega)]
      simp [List.getD_eq_getElem?_getD, List.getElem?_append_left h2]
    · rw [if_neg h2, if_neg (by omega)]
theorem getD_mem {L : List Nat} {j : Nat} (h : j < L.length) : L.getD j 0 ∈ L := by
  rw [List.getD_eq_getElem?_getD, List.getElem?_eq_getElem h]
  exact List.getElem_mem h
theorem mem_getD {L : List Nat} {x : Nat} (h : x ∈ L) : ∃ j, j < L.length ∧ L.getD j 0 = x := by
  obtain ⟨j, hj, e⟩ := List.getElem_of_mem h
  exact ⟨j, hj, by rw [List.getD_eq_getElem?_getD, List.getElem?_eq_getElem hj]; exact e⟩
/-! bits -/
theorem zb_s : ∀ n, n < 32 → ((nI n &&& 31).toBitVec.smod 32).toNat = n := by decide +kernel
theorem iZ_shr {h l : Nat} (hh : h < 2147483648) (hl : l < 32) : iZ (h : Int) >>> (iZ (l : Int) &&& 31) = iZ ((h / 2 ^ l : Nat) : Int) := by
  rw [iZ_nI, iZ_nI, iZ_nI]
  exact pk_shrN (by omega) _ l (zb_s l hl)
theorem iZ_shl1 : ∀ l : Nat, l < 31 → iZ ((1 : Nat) : Int) <<< (iZ (l : Int) &&& 31) = iZ ((2 ^ l : Nat) : Int) := by decide +kernel
theorem iZ_and1 {n : Nat} (h : n < 2147483648) : iZ (n : Int) &&& iZ ((1 : Nat) : Int) = iZ ((n % 2 : Nat) : Int) := by
  rw [iZ_nI, iZ_nI, iZ_nI]
  exact pk_andN (by omega) 1 (by decide)
theorem iZ_or (a b : Nat) : iZ (a : Int) ||| iZ (b : Int) = iZ ((a ||| b : Nat) : Int) := by
  rw [iZ_nI, iZ_nI, iZ_nI]
  apply Int32.toBitVec_inj.1
  show BitVec.ofNat 32 a ||| BitVec.ofNat 32 b = BitVec.ofNat 32 (a ||| b)
  apply BitVec.eq_of_getLsbD_eq
  intro i hi
  simp [hi]
/-- h is the set L of numbers below 16, as bits -/
def bsOf (h : Nat) (L : List Nat) : Prop := h < 65536 ∧ ∀ v, v < 16 → h / 2 ^ v % 2 = if v ∈ L then 1 else 0
theorem bsOf_0 : bsOf 0 [] := ⟨by decide, fun v _ => by simp⟩
theorem bsOf_add {h l : Nat} {L : List Nat} (hb : bsOf h L) (hl : l < 16) : bsOf (h ||| 2 ^ l) (L ++ [l]) := by
  refine ⟨Nat.or_lt_two_pow (n := 16) hb.1 (Nat.pow_lt_pow_right (by omega) hl), fun v hv => ?_⟩
  have h1 := hb.2 v hv
  have e1 : h.testBit v = decide (h / 2 ^ v % 2 = 1) := Nat.testBit_eq_decide_div_mod_eq
  have e2 : (h ||| 2 ^ l).testBit v = decide ((h ||| 2 ^ l) / 2 ^ v % 2 = 1) := Nat.testBit_eq_decide_div_mod_eq
  rw [Nat.testBit_or, Nat.testBit_two_pow, e1] at e2
  have h3 : (h ||| 2 ^ l) / 2 ^ v % 2 < 2 := Nat.mod_lt _ (by omega)
  by_cases hvl : l = v
  · subst hvl
    rw [if_pos (by simp)]
    simp at e2
    omega
  · by_cases hm : v ∈ L
    · rw [if_pos hm] at h1
      rw [if_pos (by simp [hm])]
      simp [h1] at e2
      omega
    · rw [if_neg hm] at h1
      rw [if_neg (by simp [hm]; omega)]
      simp [h1, hvl] at e2
      omega
/-! the key's letters, each once -/
def dd (s : Nat → Nat) : Nat → List Nat
  | 0 => []
  | k + 1 => if s k ∈ dd s k then dd s k else dd s k ++ [s k]
theorem dd_in {s : Nat → Nat} {k : Nat} (h : s k ∈ dd s k) : dd s (k + 1) = dd s k := by rw [dd, if_pos h]
theorem dd_out {s : Nat → Nat} {k : Nat} (h : s k ∉ dd s k) : dd s (k + 1) = dd s k ++ [s k] := by rw [dd, if_neg h]
theorem dd_nd (s : Nat → Nat) : ∀ k, (dd s k).Nodup
  | 0 => by simp [dd]
  | k + 1 => by
    by_cases h : s k ∈ dd s k
    · rw [dd_in h]; exact dd_nd s k
    · rw [dd_out h]; exact nd_snoc (dd_nd s k) h
theorem dd_mem (s : Nat → Nat) (v : Nat) : ∀ k, v ∈ dd s k ↔ ∃ j, j < k ∧ s j = v
  | 0 => by simp [dd]
  | k + 1 => by
    have ih := dd_mem s v k
    constructor
    · intro h
      by_cases h1 : s k ∈ dd s k
      · rw [dd_in h1] at h
        obtain ⟨j, hj, e⟩ := ih.mp h
        exact ⟨j, by omega, e⟩
      · rw [dd_out h1] at h
        rcases List.mem_append.mp h with h2 | h2
        · obtain ⟨j, hj, e⟩ := ih.mp h2
          exact ⟨j, by omega, e⟩
        · rw [List.mem_singleton] at h2
          exact ⟨k, by omega, h2.symm⟩
    · rintro ⟨j, hj, e⟩
      by_cases hk : j = k
      · subst hk
        by_cases h1 : s j ∈ dd s j
        · rw [dd_in h1, ← e]; exact h1
        · rw [dd_out h1, ← e]; simp
      · have h2 := ih.mpr ⟨j, by omega, e⟩
        by_cases h1 : s k ∈ dd s k
        · rw [dd_in h1]; exact h2
        · rw [dd_out h1]; exact List.mem_append_left _ h2
def sqK (key : Nat → Nat) (m : Nat) : Nat → Nat := fun j => if j < m then key j else j - m
theorem sqK_lt {key : Nat → Nat} {m j : Nat} (hk : ∀ j, j < m → key j < 16) (h : j < m + 16) : sqK key m j < 16 := by
  unfold sqK
  split
  · exact hk j (by omega)
  · omega
theorem dd_lt {key : Nat → Nat} {m k x : Nat} (hk : ∀ j, j < m → key j < 16) (h : k ≤ m + 16) (hx : x ∈ dd (sqK key m) k) : x < 16 := by
  obtain ⟨j, hj, e⟩ := (dd_mem _ x k).mp hx
  rw [← e]
  exact sqK_lt hk (by omega)
def SQ (key : Nat → Nat) (m : Nat) : List Nat := dd (sqK key m) (m + 16)
theorem SQ_all {key : Nat → Nat} {m v : Nat} (h : v < 16) : v ∈ SQ key m := (dd_mem _ v _).mpr ⟨m + v, by omega, by unfold sqK; rw [if_neg (by omega)]; omega⟩
theorem SQ_len {key : Nat → Nat} {m : Nat} (hk : ∀ j, j < m → key j < 16) : (SQ key m).length = 16 :=
  Nat.le_antisymm (nd_le 16 _ (dd_nd _ _) (fun x hx => dd_lt hk (Nat.le_refl _) hx)) (nd_ge 16 _ (fun x hx => SQ_all hx))
/-- the square, place by place, and back -/
def sqF (key : Nat → Nat) (m : Nat) : Nat → Nat := fun j => (SQ key m).getD j 0
def sqP (key : Nat → Nat) (m : Nat) : Nat → Nat := fun l => (SQ key m).idxOf l
def SqP (sq P : Nat → Nat) : Prop := (∀ q, q < 16 → sq q < 16 ∧ P (sq q) = q) ∧ ∀ l, l < 16 → P l < 16 ∧ sq (P l) = l
theorem sqF_ok {key : Nat → Nat} {m : Nat} (hk : ∀ j, j < m → key j < 16) : SqP (sqF key m) (sqP key m) := by
  have hl := SQ_len (key := key) (m := m) hk
  constructor
  · intro q hq
    have h1 : q < (SQ key m).length := by omega
    have e : sqF key m q = (SQ key m)[q] := by unfold sqF; rw [List.getD_eq_getElem?_getD, List.getElem?_eq_getElem h1]; rfl
    refine ⟨?_, ?_⟩
    · rw [e]; exact dd_lt hk (Nat.le_refl _) (List.getElem_mem h1)
    · unfold sqP; rw [e]; exact (dd_nd _ _).idxOf_getElem q h1
  · intro l hl2
    have hm := SQ_all (key := key) (m := m) hl2
    have h1 := List.idxOf_lt_length_of_mem hm
    refine ⟨by unfold sqP; omega, ?_⟩
    unfold sqF sqP
    rw [List.getD_eq_getElem?_getD, List.getElem?_eq_getElem h1]
    exact List.getElem_idxOf h1
theorem SqP.inj {sq P : Nat → Nat} (h : SqP sq P) {q l : Nat} (hq : q < 16) (e : sq q = l) : q = P l := by rw [← e]; exact ((h.1 q hq).2).symm
/-! shifts, pairs -/
def shF (t k : Nat → Nat) (w : Nat) (by_ : Int) : Nat → Nat := fun i => (((t i : Int) + by_ * (k (i % w) : Int)) % 16).toNat
def rnd (v : Int) : Nat := ((v + 4) % 4).toNat
def prD (a b : Nat) (by_ : Int) : Int := if a = b ∨ (a / 4 ≠ b / 4 ∧ a % 4 = b % 4) then by_ else 0
def prR (a b : Nat) (by_ : Int) : Int := if a / 4 = b / 4 then by_ else 0
def prT (sq : Nat → Nat) (a b : Nat) (by_ : Int) : Nat := sq (4 * rnd ((a / 4 : Nat) + prD a b by_) + rnd (((if a / 4 ≠ b / 4 ∧ a % 4 ≠ b % 4 then b else a) % 4 : Nat) + prR a b by_))
def prF (sq P t : Nat → Nat) (by_ : Int) : Nat → Nat := fun j => if j % 2 = 0 then prT sq (P (t j)) (P (t (j + 1))) by_ else prT sq (P (t j)) (P (t (j - 1))) by_
theorem rnd_lt (v : Int) : rnd v < 4 := by unfold rnd; omega
theorem rnd_small {v : Nat} (h : v < 4) : rnd (v : Int) = v := by unfold rnd; omega
theorem prT_X {sq : Nat → Nat} {a b : Nat} {by_ : Int} (h1 : a / 4 ≠ b / 4) (h2 : a % 4 ≠ b % 4) (ha : a < 16) : prT sq a b by_ = sq (4 * rnd ((a / 4 : Nat) : Int) + rnd ((b % 4 : Nat) : Int)) := by
  unfold prT prD prR
  rw [if_neg (by omega), if_neg h1, if_pos ⟨h1, h2⟩, Int.add_zero, Int.add_zero]
theorem prT_N {sq : Nat → Nat} {a b : Nat} {by_ : Int} (h : a / 4 = b / 4 ∨ a % 4 = b % 4) : prT sq a b by_ = sq (4 * rnd ((a / 4 : Nat) + prD a b by_) + rnd ((a % 4 : Nat) + prR a b by_)) := by
  unfold prT
  rw [if_neg (by omega)]
theorem prD_c (a b : Nat) (by_ : Int) : prD b a by_ = prD a b by_ := by
  unfold prD
  by_cases h : a = b ∨ (a / 4 ≠ b / 4 ∧ a % 4 = b % 4)
  · rw [if_pos h, if_pos (by omega)]
  · rw [if_neg h, if_neg (by omega)]
theorem prR_c (a b : Nat) (by_ : Int) : prR b a by_ = prR a b by_ := by
  unfold prR
  by_cases h : a / 4 = b / 4
  · rw [if_pos h, if_pos (by omega)]
  · rw [if_neg h, if_neg (by omega)]
theorem prF_lt {sq P t : Nat → Nat} {by_ : Int} (h : SqP sq P) (j : Nat) : prF sq P t by_ j < 16 := by
  have h1 : ∀ a b, prT sq a b by_ < 16 := fun a b => by
    unfold prT
    refine (h.1 _ ?_).1
    have := rnd_lt ((a / 4 : Nat) + prD a b by_)
    have := rnd_lt (((if a / 4 ≠ b / 4 ∧ a % 4 ≠ b % 4 then b else a) % 4 : Nat) + prR a b by_)
    omega
  unfold prF
  split
  · exact h1 _ _
  · exact h1 _ _
/-! writing through a list of places -/
def sct (f t old : Nat → Nat) : Nat → Nat → Nat
  | 0 => old
  | i + 1 => va_up (sct f t old i) (f i) (t i)
theorem sct_hit {f t a b : Nat → Nat} {j : Nat} : ∀ {n : Nat}, (∃ i, i < n ∧ f i = j) → sct f t a n j = sct f t b n j
  | 0, ⟨_, h, _⟩ => absurd h (Nat.not_lt_zero _)
  | n + 1, ⟨i, h, e⟩ => by
    rw [sct, sct]
    by_cases hj : j = f n
    · rw [hj, va_up_self, va_up_self]
    · rw [va_up_ne _ _ hj, va_up_ne _ _ hj]
      refine sct_hit ⟨i, ?_, e⟩
      rcases Nat.lt_or_ge i n with q | q
      · exact q
      · have : i = n := by omega
        subst this
        exact absurd e.symm hj
theorem sct_cong {f g t u a : Nat → Nat} : ∀ {n : Nat}, (∀ i, i < n → f i = g i ∧ t i = u i) → sct f t a n = sct g u a n
  | 0, _ => rfl
  | n + 1, h => by rw [sct, sct, sct_cong (fun i hi => h i (by omega)), (h n (by omega)).1, (h n (by omega)).2]
theorem sct_lt {f t a : Nat → Nat} {c : Nat} (ha : ∀ j, a j < c) (n : Nat) (ht : ∀ i, i < n → t i < c) : ∀ j, sct f t a n j < c := by
  induction n with
  | zero => exact ha
  | succ n ih =>
    intro j
    rw [sct]
    by_cases hj : j = f n
    · rw [hj, va_up_self]; exact ht n (by omega)
    · rw [va_up_ne _ _ hj]; exact ih (fun i hi => ht i (by omega)) j
def mvF (by_ : Int) (L : List Nat) (t : Nat → Nat) (n : Nat) : Nat → Nat := if 0 < by_ then fun j => t (L.getD j 0) else sct (fun i => L.getD i 0) t (fun _ => 0) n
/-! columns -/
def stp (s n : Nat) : Nat → Nat → List Nat
  | 0, _ => []
  | f + 1, i => if i < n then i :: stp s n f (i + s) else []
theorem stp_stop {s n : Nat} : ∀ {f i : Nat}, n ≤ i → stp s n f i = []
  | 0, _, _ => rfl
  | f + 1, i, h => by rw [stp, if_neg (by omega)]
theorem stp_go {s n f i : Nat} (h : i < n) : stp s n (f + 1) i = i :: stp s n f (i + s) := by rw [stp, if_pos h]
theorem stp_mem {s n x : Nat} (hs : 0 < s) : ∀ {f i : Nat}, n - i ≤ f → (x ∈ stp s n f i ↔ i ≤ x ∧ x < n ∧ x % s = i % s)
  | 0, i, h => by
    rw [stp]
    simp
    omega
  | f + 1, i, h => by
    by_cases hi : i < n
    · rw [stp_go hi, List.mem_cons, stp_mem hs (f := f) (i := i + s) (by omega)]
      rw [Nat.add_mod_right]
      constructor
      · rintro (e | ⟨h1, h2, h3⟩)
        · subst e; exact ⟨Nat.le_refl _, hi, rfl⟩
        · exact ⟨by omega, h2, h3⟩
      · rintro ⟨h1, h2, h3⟩
        by_cases e : x = i
        · exact Or.inl e
        · refine Or.inr ⟨?_, h2, h3⟩
          rcases Nat.lt_or_ge x (i + s) with q | q
          · exfalso
            have h4 : (x - i) % s = 0 := by
              have h5 : x = i + (x - i) := by omega
              rw [h5, Nat.add_mod] at h3
              have h6 : (x - i) % s = x - i := Nat.mod_eq_of_lt (by omega)
              rw [h6] at h3 ⊢
              have h7 : i % s < s := Nat.mod_lt _ hs
              by_cases h8 : i % s + (x - i) < s
              · rw [Nat.mod_eq_of_lt h8] at h3; omega
              · rw [Nat.mod_eq_sub_mod (by omega), Nat.mod_eq_of_lt (by omega)] at h3; omega
            have h6 : (x - i) % s = x - i := Nat.mod_eq_of_lt (by omega)
            omega
          · exact q
    · rw [stp_stop (by omega)]
      simp
      omega
theorem stp_nd {s n : Nat} (hs : 0 < s) : ∀ {f i : Nat}, n - i ≤ f → (stp s n f i).Nodup
  | 0, _, _ => by simp [stp]
  | f + 1, i, h => by
    by_cases hi : i < n
    · rw [stp_go hi, List.nodup_cons]
      exact ⟨fun hm => by have := ((stp_mem hs (by omega)).mp hm).1; omega, stp_nd hs (by omega)⟩
    · rw [stp_stop (by omega)]; simp
def clL (ord : Nat → Nat) (s n : Nat) : Nat → List Nat
  | 0 => []
  | k + 1 => clL ord s n k ++ stp s n n (ord k)
def OrdP (ord : Nat → Nat) (s : Nat) : Prop := (∀ k, k < s → ord k < s) ∧ ∀ i j, i < s → j < s → ord i = ord j → i = j
theorem clL_mem {ord : Nat → Nat} {s n x : Nat} (hs : 0 < s) : ∀ {k : Nat}, (∀ j, j < k → ord j < s) → (x ∈ clL ord s n k ↔ x < n ∧ ∃ j, j < k ∧ x % s = ord j)
  | 0, _ => by simp [clL]
  | k + 1, h => by
    rw [clL, List.mem_append, clL_mem hs (fun j hj => h j (by omega)), stp_mem hs (by omega)]
    have hk : ord k % s = ord k := Nat.mod_eq_of_lt (h k (by omega))
    rw [hk]
    constructor
    · rintro (⟨h1, j, hj, e⟩ | ⟨h1, h2, h3⟩)
      · exact ⟨h1, j, by omega, e⟩
      · exact ⟨h2, k, by omega, h3⟩
    · rintro ⟨h1, j, hj, e⟩
      by_cases hjk : j = k
      · subst hjk
        refine Or.inr ⟨?_, h1, e⟩
        rw [← e]; exact Nat.mod_le _ _
      · exact Or.inl ⟨h1, j, by omega, e⟩
theorem clL_nd {ord : Nat → Nat} {s n : Nat} (hs : 0 < s) (ho : OrdP ord s) : ∀ {k : Nat}, k ≤ s → (clL ord s n k).Nodup
  | 0, _ => by simp [clL]
  | k + 1, h => by
    rw [clL, List.nodup_append]
    refine ⟨clL_nd hs ho (by omega), stp_nd hs (by omega), fun a ha b hb e => ?_⟩
    subst e
    obtain ⟨-, j, hj, e1⟩ := (clL_mem hs (fun j hj => ho.1 j (by omega))).mp ha
    have e2 := ((stp_mem hs (by omega)).mp hb).2.2
    rw [Nat.mod_eq_of_lt (ho.1 k (by omega)), e1] at e2
    have := ho.2 j k (by omega) (by omega) e2
    omega
theorem clL_pre {ord : Nat → Nat} {s n : Nat} : ∀ {k d : Nat}, ∃ R, clL ord s n (k + d) = clL ord s n k ++ R
  | k, 0 => ⟨[], by simp⟩
  | k, d + 1 => by
    obtain ⟨R, e⟩ := clL_pre (ord := ord) (s := s) (n := n) (k := k) (d := d)
    exact ⟨R ++ stp s n n (ord (k + d)), by rw [show k + (d + 1) = (k + d) + 1 from rfl, clL, e, List.append_assoc]⟩
theorem clL_len_le {ord : Nat → Nat} {s n k : Nat} (h : k ≤ s) : (clL ord s n k).length ≤ (clL ord s n s).length := by
  obtain ⟨R, e⟩ := clL_pre (ord := ord) (s := s) (n := n) (k := k) (d := s - k)
  rw [show k + (s - k) = s from by omega] at e
  rw [e, List.length_append]
  omega
theorem onto_of {n : Nat} {f : Nat → Nat} (h : ∀ i, i < n → f i < n) (h2 : ∀ i j, i < n → j < n → f i = f j → i = j) {y : Nat} (hy : y < n) : ∃ i, i < n ∧ f i = y := by
  have h3 : ∀ k, k ≤ n → ((List.range k).map f).Nodup := by
    intro k
    induction k with
    | zero => intro _; simp
    | succ k ih =>
      intro hk
      rw [List.range_succ, List.map_append]
      refine nd_snoc (ih (by omega)) (fun hm => ?_)
      obtain ⟨j, hj, e⟩ := List.mem_map.mp hm
      rw [List.mem_range] at hj
      have := h2 j k (by omega) (by omega) e
      omega
  have hnd := h3 n (Nat.le_refl _)
  refine Classical.byContradiction fun hx => ?_
  have := nd_room (n := n) hnd (fun z hz => by obtain ⟨j, hj, e⟩ := List.mem_map.mp hz; rw [← e]; exact h j (List.mem_range.mp hj)) (x := y) (fun hm => by
    obtain ⟨j, hj, e⟩ := List.mem_map.mp hm
    exact hx ⟨j, List.mem_range.mp hj, e⟩) hy
  simp at this
theorem clL_all {ord : Nat → Nat} {s n x : Nat} (hs : 0 < s) (ho : OrdP ord s) (hx : x < n) : x ∈ clL ord s n s := by
  obtain ⟨j, hj, e⟩ := onto_of ho.1 ho.2 (Nat.mod_lt x hs)
  exact (clL_mem hs ho.1).mpr ⟨hx, j, hj, e.symm⟩
theorem clL_lt {ord : Nat → Nat} {s n x : Nat} (hs : 0 < s) (ho : OrdP ord s) (hx : x ∈ clL ord s n s) : x < n := ((clL_mem hs ho.1).mp hx).1
theorem clL_len {ord : Nat → Nat} {s n : Nat} (hs : 0 < s) (ho : OrdP ord s) : (clL ord s n s).length = n :=
  Nat.le_antisymm (nd_le n _ (clL_nd hs ho (Nat.le_refl _)) (fun _ hx => clL_lt hs ho hx)) (nd_ge n _ (fun _ hx => clL_all hs ho hx))
theorem clL_cong {o1 o2 : Nat → Nat} {s n : Nat} : ∀ {k : Nat}, (∀ j, j < k → o1 j = o2 j) → clL o1 s n k = clL o2 s n k
  | 0, _ => rfl
  | k + 1, h => by rw [clL, clL, clL_cong (fun j hj => h j (by omega)), h k (by omega)]
/-! rails -/
def zig (r p : Nat) : Nat := if p % (2 * (r - 1)) < r then p % (2 * (r - 1)) else 2 * (r - 1) - p % (2 * (r - 1))
def rlL (r n : Nat) : Nat → List Nat
  | 0 => []
  | k + 1 => rlL r n k ++ (List.range n).filter (fun p => zig r p == k)
def rlI (r n k i : Nat) : List Nat := rlL r n k ++ (List.range i).filter (fun p => zig r p == k)
theorem zig_lt {r p : Nat} (h : 2 ≤ r) : zig r p < r := by
  unfold zig
  have := Nat.mod_lt p (show 0 < 2 * (r - 1) by omega)
  split <;> omega
theorem rlL_mem {r n x : Nat} : ∀ {k : Nat}, x ∈ rlL r n k ↔ x < n ∧ zig r x < k
  | 0 => by simp [rlL]
  | k + 1 => by
    rw [rlL, List.mem_append, rlL_mem, List.mem_filter, List.mem_range]
    simp
    omega
theorem rlI_mem {r n k i x : Nat} : x ∈ rlI r n k i ↔ (x < n ∧ zig r x < k) ∨ (x < i ∧ zig r x = k) := by
  unfold rlI
  rw [List.mem_append, rlL_mem, List.mem_filter, List.mem_range]
  simp
theorem rlL_nd {r n : Nat} : ∀ {k : Nat}, (rlL r n k).Nodup
  | 0 => by simp [rlL]
  | k + 1 => by
    rw [rlL, List.nodup_append]
    refine ⟨rlL_nd, List.nodup_range.filter _, fun a ha b hb e => ?_⟩
    subst e
    have h1 := (rlL_mem.mp ha).2
    have h2 := (List.mem_filter.mp hb).2
    simp at h2
    omega
theorem rlI_nd {r n k i : Nat} : (rlI r n k i).Nodup := by
  unfold rlI
  rw [List.nodup_append]
  refine ⟨rlL_nd, List.nodup_range.filter _, fun a ha b hb e => ?_⟩
  subst e
  have h1 := (rlL_mem.mp ha).2
  have h2 := (List.mem_filter.mp hb).2
  simp at h2
  omega
theorem rlI_0 {r n k : Nat} : rlI r n k 0 = rlL r n k := by simp [rlI]
theorem rlI_end {r n k : Nat} : rlI r n k n = rlL r n (k + 1) := rfl
theorem rlI_yes {r n k i : Nat} (h : zig r i = k) : rlI r n k (i + 1) = rlI r n k i ++ [i] := by
  unfold rlI
  rw [List.range_succ, List.filter_append, List.append_assoc]
  simp [h]
theorem rlI_no {r n k i : Nat} (h : zig r i ≠ k) : rlI r n k (i + 1) = rlI r n k i := by
  unfold rlI
  rw [List.range_succ, List.filter_append]
  simp [h]
theorem rlI_room {r n k i : Nat} (hi : i < n) (h : zig r i = k) : (rlI r n k i).length < n := by
  refine nd_room rlI_nd (fun y hy => ?_) (x := i) (fun hm => ?_) hi
  · rcases rlI_mem.mp hy with q | q <;> omega
  · rcases rlI_mem.mp hm with q | q <;> omega
theorem rlL_len {r n : Nat} (h : 2 ≤ r) : (rlL r n r).length = n :=
  Nat.le_antisymm (nd_le n _ rlL_nd (fun _ hx => (rlL_mem.mp hx).1)) (nd_ge n _ (fun x hx => rlL_mem.mpr ⟨hx, zig_lt h⟩))
/-! the key's order -/
def rk (key : Nat → Nat) (m c : Nat) : Nat := pC (fun j => decide (key j < key c ∨ (key j = key c ∧ j < c))) m
theorem pC_sub {p q : Nat → Bool} : ∀ {n : Nat}, (∀ k, k < n → p k = true → q k = true) → pC p n ≤ pC q n
  | 0, _ => Nat.le_refl _
  | n + 1, h => by
    have h1 := pC_sub (n := n) (fun k hk => h k (by omega))
    have h2 := h n (by omega)
    rw [pC, pC]
    cases hp : p n <;> cases hq : q n <;> simp_all <;> omega
theorem pC_slt {p q : Nat → Bool} {j : Nat} : ∀ {n : Nat}, (∀ k, k < n → p k = true → q k = true) → j < n → p j = false → q j = true → pC p n < pC q n
  | 0, _, h, _, _ => absurd h (Nat.not_lt_zero _)
  | n + 1, h, hj, h1, h2 => by
    rw [pC, pC]
    by_cases e : j = n
    · subst e
      have := pC_sub (n := j) (fun k hk => h k (by omega))
      rw [h1, h2]
      simp
      omega
    · have := pC_slt (n := n) (fun k hk => h k (by omega)) (by omega) h1 h2
      have h3 := h n (by omega)
      cases hp : p n <;> cases hq : q n <;> simp_all <;> omega
theorem rk_lt {key : Nat → Nat} {m c : Nat} (h : c < m) : rk key m c < m := pC_lt (k := c) (by simp) h
theorem rk_slt {key : Nat → Nat} {m a b : Nat} (ha : a < m) (h : key a < key b ∨ (key a = key b ∧ a < b)) : rk key m a < rk key m b := by
  unfold rk
  refine pC_slt (j := a) (fun k _ hk => ?_) ha (by simp) (by simpa using h)
  have hk := of_decide_eq_true hk
  apply decide_eq_true
  omega
theorem rk_inj {key : Nat → Nat} {m a b : Nat} (ha : a < m) (hb : b < m) (e : rk key m a = rk key m b) : a = b := by
  by_cases h1 : key a < key b ∨ (key a = key b ∧ a < b)
  · have := rk_slt ha h1; omega
  · by_cases h2 : key b < key a ∨ (key b = key a ∧ b < a)
    · have := rk_slt hb h2; omega
    · omega
def kO (key : Nat → Nat) (m : Nat) : Nat → Nat := fun p => ((List.range m).find? (fun c => rk key m c == p)).getD 0
theorem kO_of {key : Nat → Nat} {m c p : Nat} (hc : c < m) (e : rk key m c = p) : kO key m p = c := by
  unfold kO
  cases h : (List.range m).find? (fun c => rk key m c == p) with
  | none =>
    have h1 := List.find?_eq_none.mp h c (List.mem_range.mpr hc)
    simp at h1
    exact absurd e h1
  | some d =>
    have h1 := List.find?_some h
    have h2 := List.mem_range.mp (List.mem_of_find?_eq_some h)
    simp at h1
    exact rk_inj h2 hc (h1.trans e.symm)
theorem kO_ex {key : Nat → Nat} {m p : Nat} (hp : p < m) : ∃ c, c < m ∧ rk key m c = p := onto_of (f := rk key m) (fun i hi => rk_lt hi) (fun i j hi hj e => rk_inj hi hj e) hp
theorem kO_ok {key : Nat → Nat} {m : Nat} : OrdP (kO key m) m := by
  constructor
  · intro k hk
    obtain ⟨c, hc, e⟩ := kO_ex (key := key) hk
    rw [kO_of hc e]; exact hc
  · intro i j hi hj e
    obtain ⟨c, hc, e1⟩ := kO_ex (key := key) hi
    obtain ⟨d, hd, e2⟩ := kO_ex (key := key) hj
    rw [kO_of hc e1, kO_of hd e2] at e
    rw [← e1, ← e2, e]
/-- a row that has each column at its rank is the key's order -/
theorem kO_fill {key u : Nat → Nat} {m : Nat} (h : ∀ c, c < m → u (rk key m c) = c) : ∀ p, p < m → u p = kO key m p := by
  intro p hp
  obtain ⟨c, hc, e⟩ := kO_ex (key := key) hp
  rw [kO_of hc e, ← e]; exact h c hc
/-! rows and columns taken apart -/
def lnH (P t : Nat → Nat) (n j : Nat) : Nat := if j < n then P (t j) / 4 else P (t (j - n)) % 4
def lnF (P t : Nat → Nat) (j : Nat) : Nat := if j % 2 = 0 then P (t (j / 2)) / 4 else P (t (j / 2)) % 4
def apF (sq P t : Nat → Nat) (n : Nat) (by_ : Int) : Nat → Nat := fun i => if 0 < by_ then sq (4 * lnH P t n (2 * i) + lnH P t n (2 * i + 1)) else sq (4 * lnF P t i + lnF P t (n + i))
/-- the ways -/
def wyF (way : Int) (by_ : Int) (t k : Nat → Nat) (n m : Nat) : Nat → Nat :=
  if way = 0 then shF t k 1 by_ else if way = 1 then shF t k m by_ else if way = 2 then prF (sqF k m) (sqP k m) t by_ else if way = 3 then mvF by_ (clL (kO k m) m n m) t n
  else if way = 4 then mvF by_ (rlL (m + 1) n (m + 1)) t n else apF (sqF k m) (sqP k m) t n by_
/-! steps kept -/
def keepC (st : Nat → Nat) : Nat := if st 328 = 10 then 9 else st 328
def keepB (st : Nat → Nat) : Nat → Nat := if st 328 = 10 then va_up (pP st (fun j => st (378 + j)) 329 441) 328 9 else st
def keepF (st : Nat → Nat) : Nat → Nat := va_up (pP (keepB st) st (329 + 49 * keepC st) 49) 328 (keepC st + 1)
theorem keepB_lo {st : Nat → Nat} {j : Nat} (h : j < 328) : keepB st j = st j := by
  unfold keepB
  split
  · rw [va_up_ne _ _ (by omega), pP_out (by omega)]
  · rfl
theorem keepF_lo {st : Nat → Nat} {j : Nat} (h : j < 328) : keepF st j = st j := by
  unfold keepF
  rw [va_up_ne _ _ (by omega), pP_out (by omega), keepB_lo h]
theorem keepB_c {st : Nat → Nat} : keepB st 328 = keepC st := by
  unfold keepB keepC
  by_cases h : st 328 = 10
  · rw [if_pos h, if_pos h, va_up_self]
  · rw [if_neg h, if_neg h]
theorem keepC_le {st : Nat → Nat} (h : st 328 ≤ 10) : keepC st ≤ 9 := by unfold keepC; split <;> omega
theorem pP_b {f g : Nat → Nat} {a n c : Nat} (hf : ∀ j, f j < c) (hg : ∀ j, j < n → g j < c) : ∀ j, pP f g a n j < c := by
  intro j
  by_cases h : a ≤ j ∧ j < a + n
  · rw [pP_in h.1 h.2]; exact hg _ (by omega)
  · rw [pP_out (by omega)]; exact hf j
theorem up_b {f : Nat → Nat} {k v c : Nat} (hf : ∀ j, f j < c) (hv : v < c) : ∀ j, va_up f k v j < c := by
  intro j
  by_cases h : j = k
  · rw [h, va_up_self]; exact hv
  · rw [va_up_ne _ _ h]; exact hf j
theorem keepB_b {st : Nat → Nat} (hb : ∀ j, st j < 100) : ∀ j, keepB st j < 100 := by
  unfold keepB
  split
  · exact up_b (pP_b hb (fun j _ => hb _)) (by omega)
  · exact hb
theorem keepF_b {st : Nat → Nat} (hb : ∀ j, st j < 100) (h : st 328 ≤ 10) : ∀ j, keepF st j < 100 := by
  have := keepC_le h
  exact up_b (pP_b (keepB_b hb) (fun j _ => hb _)) (by omega)
def aLetter (what i : Int) (t k : Nat → Nat) (n m : Nat) : Int :=
  if ¬ (0 ≤ what ∧ what ≤ 2) then -2 else
    if i = -1 then ((if what = 0 then n else if what = 1 then m else 16 : Nat) : Int) else
      if 0 ≤ i ∧ i < ((if what = 0 then n else if what = 1 then m else 16 : Nat) : Int) then (((if what = 0 then t else if what = 1 then k else sqF k m) i.toNat : Nat) : Int) else -6
theorem shF_lt {t k : Nat → Nat} {w : Nat} {by_ : Int} (j : Nat) : shF t k w by_ j < 16 := by unfold shF; omega
theorem mvF_lt {t : Nat → Nat} {by_ : Int} {L : List Nat} {n j : Nat} (ht : ∀ j, j < n → t j < 16) (hL : ∀ x ∈ L, x < n) (hl : L.length = n) (hj : j < n) : mvF by_ L t n j < 16 := by
  unfold mvF
  split
  · exact ht _ (hL _ (getD_mem (by omega)))
  · exact sct_lt (fun _ => by omega) n ht j
theorem apF_lt {sq P t : Nat → Nat} {n j : Nat} {by_ : Int} (h : SqP sq P) (ht : ∀ j, j < n → t j < 16) (hj : j < n) : apF sq P t n by_ j < 16 := by
  have hd : ∀ l, l < n → P (t l) < 16 := fun l hl => (h.2 _ (ht l hl)).1
  unfold apF
  split
  · refine (h.1 _ ?_).1
    have h1 : lnH P t n (2 * j) < 4 := by
      unfold lnH
      split
      · have := hd (2 * j) (by omega); omega
      · omega
    have h2 : lnH P t n (2 * j + 1) < 4 := by
      unfold lnH
      split
      · have := hd (2 * j + 1) (by omega); omega
      · omega
    omega
  · refine (h.1 _ ?_).1
    have h1 : lnF P t j < 4 := by
      unfold lnF
      split
      · have := hd (j / 2) (by omega); omega
      · omega
    have h2 : lnF P t (n + j) < 4 := by
      unfold lnF
      split
      · have := hd ((n + j) / 2) (by omega); omega
      · omega
    omega
theorem wyF_lt {way by_ : Int} {t k : Nat → Nat} {n m j : Nat} (ht : ∀ j, j < n → t j < 16) (hk : ∀ j, j < m → k j < 16) (hm : 1 ≤ m) (hj : j < n) : wyF way by_ t k n m j < 16 := by
  unfold wyF
  split
  · exact shF_lt j
  split
  · exact shF_lt j
  split
  · exact prF_lt (sqF_ok hk) j
  split
  · exact mvF_lt ht (fun x hx => clL_lt hm kO_ok hx) (clL_len hm kO_ok) hj
  split
  · exact mvF_lt ht (fun x hx => (rlL_mem.mp hx).1) (rlL_len (by omega)) hj
  · exact apF_lt (sqF_ok hk) ht hj
