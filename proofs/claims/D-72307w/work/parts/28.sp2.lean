section SP2
variable {P : Heap → Prop} {e : Env} {s : State}
theorem sp_stepSeeking (hM : ∀ (h : Heap) (b : Nat) (g : Cell → Cell), P h → (∀ c, (g c).slots.size = c.slots.size) → P (h.modify b g)) (hU : ∀ (h : Heap) (c : Cell), P h → P (h.push c)) (rule : String) (a : Addr) (pc : Nat) (below : List Frame) (hs : spP P s) : spP P (stepSeeking e s rule a pc below).1 := by
  unfold stepSeeking searchFrame
  (first | ((with_reducible refine sp_vm hM hU hs ?_); intro _ _ _ hq; (repeat' split); all_goals (first | with_reducible exact sp_inv hM hU hq | with_reducible exact sp_ret hM hU hq | with_reducible exact sp_note _ hq | with_reducible exact hq | ((with_reducible refine sp_inv hM hU ?_); exact hq) | ((with_reducible refine sp_ret hM hU ?_); exact hq) | exact sp_note _ hq | exact hq)) | ((repeat' split); all_goals first | ((with_reducible refine sp_vm hM hU hs ?_); intro _ _ _ hq; (repeat' split); all_goals (first | with_reducible exact sp_inv hM hU hq | with_reducible exact sp_ret hM hU hq | with_reducible exact sp_note _ hq | with_reducible exact hq | ((with_reducible refine sp_inv hM hU ?_); exact hq) | ((with_reducible refine sp_ret hM hU ?_); exact hq) | exact sp_note _ hq | exact hq)) | (first | with_reducible exact sp_inv hM hU hs | with_reducible exact sp_ret hM hU hs | with_reducible exact sp_note _ hs | with_reducible exact hs | ((with_reducible refine sp_inv hM hU ?_); exact hs) | ((with_reducible refine sp_ret hM hU ?_); exact hs) | exact sp_note _ hs | exact hs)))
theorem sp_stepThrowing (hM : ∀ (h : Heap) (b : Nat) (g : Cell → Cell), P h → (∀ c, (g c).slots.size = c.slots.size) → P (h.modify b g)) (hU : ∀ (h : Heap) (c : Cell), P h → P (h.push c)) (a : Addr) (below : List Frame) (hs : spP P s) : spP P (stepThrowing e s a below).1 := by
  unfold stepThrowing stepSeeking searchFrame
  (first | ((with_reducible refine sp_vm hM hU hs ?_); intro _ _ _ hq; (repeat' split); all_goals (first | with_reducible exact sp_inv hM hU hq | with_reducible exact sp_ret hM hU hq | with_reducible exact sp_note _ hq | with_reducible exact hq | ((with_reducible refine sp_inv hM hU ?_); exact hq) | ((with_reducible refine sp_ret hM hU ?_); exact hq) | exact sp_note _ hq | exact hq)) | ((repeat' split); all_goals first | ((with_reducible refine sp_vm hM hU hs ?_); intro _ _ _ hq; (repeat' split); all_goals (first | with_reducible exact sp_inv hM hU hq | with_reducible exact sp_ret hM hU hq | with_reducible exact sp_note _ hq | with_reducible exact hq | ((with_reducible refine sp_inv hM hU ?_); exact hq) | ((with_reducible refine sp_ret hM hU ?_); exact hq) | exact sp_note _ hq | exact hq)) | (first | with_reducible exact sp_inv hM hU hs | with_reducible exact sp_ret hM hU hs | with_reducible exact sp_note _ hs | with_reducible exact hs | ((with_reducible refine sp_inv hM hU ?_); exact hs) | ((with_reducible refine sp_ret hM hU ?_); exact hs) | exact sp_note _ hs | exact hs)))
theorem sp_stepThrowNew (hM : ∀ (h : Heap) (b : Nat) (g : Cell → Cell), P h → (∀ c, (g c).slots.size = c.slots.size) → P (h.modify b g)) (hU : ∀ (h : Heap) (c : Cell), P h → P (h.push c)) (cls : String) (msg : Option String) (cause : Option Addr) (rest : List Frame) (hs : spP P s) : spP P (stepThrowNew e s cls msg cause rest).1 := by
  unfold stepThrowNew
  (first | ((with_reducible refine sp_vm hM hU hs ?_); intro _ _ _ hq; (repeat' split); all_goals (first | with_reducible exact sp_inv hM hU hq | with_reducible exact sp_ret hM hU hq | with_reducible exact sp_note _ hq | with_reducible exact hq | ((with_reducible refine sp_inv hM hU ?_); exact hq) | ((with_reducible refine sp_ret hM hU ?_); exact hq) | exact sp_note _ hq | exact hq)) | ((repeat' split); all_goals first | ((with_reducible refine sp_vm hM hU hs ?_); intro _ _ _ hq; (repeat' split); all_goals (first | with_reducible exact sp_inv hM hU hq | with_reducible exact sp_ret hM hU hq | with_reducible exact sp_note _ hq | with_reducible exact hq | ((with_reducible refine sp_inv hM hU ?_); exact hq) | ((with_reducible refine sp_ret hM hU ?_); exact hq) | exact sp_note _ hq | exact hq)) | (first | with_reducible exact sp_inv hM hU hs | with_reducible exact sp_ret hM hU hs | with_reducible exact sp_note _ hs | with_reducible exact hs | ((with_reducible refine sp_inv hM hU ?_); exact hs) | ((with_reducible refine sp_ret hM hU ?_); exact hs) | exact sp_note _ hs | exact hs)))
theorem sp_stepInitStart (hM : ∀ (h : Heap) (b : Nat) (g : Cell → Cell), P h → (∀ c, (g c).slots.size = c.slots.size) → P (h.modify b g)) (hU : ∀ (h : Heap) (c : Cell), P h → P (h.push c)) (c : ClassId) (rest : List Frame) (hs : spP P s) : spP P (stepInitStart e s c rest).1 := by
  unfold stepInitStart
  (first | ((with_reducible refine sp_vm hM hU hs ?_); intro _ _ _ hq; (repeat' split); all_goals (first | with_reducible exact sp_inv hM hU hq | with_reducible exact sp_ret hM hU hq | with_reducible exact sp_note _ hq | with_reducible exact hq | ((with_reducible refine sp_inv hM hU ?_); exact hq) | ((with_reducible refine sp_ret hM hU ?_); exact hq) | exact sp_note _ hq | exact hq)) | ((repeat' split); all_goals first | ((with_reducible refine sp_vm hM hU hs ?_); intro _ _ _ hq; (repeat' split); all_goals (first | with_reducible exact sp_inv hM hU hq | with_reducible exact sp_ret hM hU hq | with_reducible exact sp_note _ hq | with_reducible exact hq | ((with_reducible refine sp_inv hM hU ?_); exact hq) | ((with_reducible refine sp_ret hM hU ?_); exact hq) | exact sp_note _ hq | exact hq)) | (first | with_reducible exact sp_inv hM hU hs | with_reducible exact sp_ret hM hU hs | with_reducible exact sp_note _ hs | with_reducible exact hs | ((with_reducible refine sp_inv hM hU ?_); exact hs) | ((with_reducible refine sp_ret hM hU ?_); exact hs) | exact sp_note _ hs | exact hs)))
theorem sp_stepInitSelf (hM : ∀ (h : Heap) (b : Nat) (g : Cell → Cell), P h → (∀ c, (g c).slots.size = c.slots.size) → P (h.modify b g)) (hU : ∀ (h : Heap) (c : Cell), P h → P (h.push c)) (c : ClassId) (rest : List Frame) (hs : spP P s) : spP P (stepInitSelf e s c rest).1 := by
  unfold stepInitSelf
  dsimp only
  (first | ((with_reducible refine sp_vm hM hU hs ?_); intro _ _ _ hq; (repeat' split); all_goals (first | with_reducible exact sp_inv hM hU hq | with_reducible exact sp_ret hM hU hq | with_reducible exact sp_note _ hq | with_reducible exact hq | ((with_reducible refine sp_inv hM hU ?_); exact hq) | ((with_reducible refine sp_ret hM hU ?_); exact hq) | exact sp_note _ hq | exact hq)) | ((repeat' split); all_goals first | ((with_reducible refine sp_vm hM hU hs ?_); intro _ _ _ hq; (repeat' split); all_goals (first | with_reducible exact sp_inv hM hU hq | with_reducible exact sp_ret hM hU hq | with_reducible exact sp_note _ hq | with_reducible exact hq | ((with_reducible refine sp_inv hM hU ?_); exact hq) | ((with_reducible refine sp_ret hM hU ?_); exact hq) | exact sp_note _ hq | exact hq)) | (first | with_reducible exact sp_inv hM hU hs | with_reducible exact sp_ret hM hU hs | with_reducible exact sp_note _ hs | with_reducible exact hs | ((with_reducible refine sp_inv hM hU ?_); exact hs) | ((with_reducible refine sp_ret hM hU ?_); exact hs) | exact sp_note _ hs | exact hs)))
theorem sp_stepInvokeStatic (hM : ∀ (h : Heap) (b : Nat) (g : Cell → Cell), P h → (∀ c, (g c).slots.size = c.slots.size) → P (h.modify b g)) (hU : ∀ (h : Heap) (c : Cell), P h → P (h.push c)) (cls name desc : String) (args : Sem (Array Value)) (rest : List Frame) (hs : spP P s) : spP P (stepInvokeStatic e s cls name desc args rest).1 := by
  unfold stepInvokeStatic
  (first | ((with_reducible refine sp_vm hM hU hs ?_); intro _ _ _ hq; (repeat' split); all_goals (first | with_reducible exact sp_inv hM hU hq | with_reducible exact sp_ret hM hU hq | with_reducible exact sp_note _ hq | with_reducible exact hq | ((with_reducible refine sp_inv hM hU ?_); exact hq) | ((with_reducible refine sp_ret hM hU ?_); exact hq) | exact sp_note _ hq | exact hq)) | ((repeat' split); all_goals first | ((with_reducible refine sp_vm hM hU hs ?_); intro _ _ _ hq; (repeat' split); all_goals (first | with_reducible exact sp_inv hM hU hq | with_reducible exact sp_ret hM hU hq | with_reducible exact sp_note _ hq | with_reducible exact hq | ((with_reducible refine sp_inv hM hU ?_); exact hq) | ((with_reducible refine sp_ret hM hU ?_); exact hq) | exact sp_note _ hq | exact hq)) | (first | with_reducible exact sp_inv hM hU hs | with_reducible exact sp_ret hM hU hs | with_reducible exact sp_note _ hs | with_reducible exact hs | ((with_reducible refine sp_inv hM hU ?_); exact hs) | ((with_reducible refine sp_ret hM hU ?_); exact hs) | exact sp_note _ hs | exact hs)))
set_option maxHeartbeats 1000000 in
theorem sp_thread (hM : ∀ (h : Heap) (b : Nat) (g : Cell → Cell), P h → (∀ c, (g c).slots.size = c.slots.size) → P (h.modify b g)) (hU : ∀ (h : Heap) (c : Cell), P h → P (h.push c)) (tb : Tables) (hs : spP P s) : spP P (stepThread tb e s).1 := by
  have hs' : ∀ fs, spP P (s.setFrames fs) := fun fs => hs
  unfold stepThread
  split
  all_goals first
    | with_reducible exact sp_stepThrowing hM hU _ _ hs
    | with_reducible exact sp_stepSeeking hM hU _ _ _ _ hs
    | with_reducible exact sp_stepThrowNew hM hU _ _ _ _ hs
    | with_reducible exact sp_stepInitStart hM hU _ _ hs
    | with_reducible exact sp_stepInitSelf hM hU _ _ hs
    | with_reducible exact sp_stepInvokeStatic hM hU _ _ _ _ _ hs
    | with_reducible exact sp_proc hM hU _ (sp_go hM hU _ _ _ _ hs)
    | ((with_reducible refine sp_vm hM hU hs ?_); intro _ _ _ hq; (repeat' split); all_goals (first | with_reducible exact sp_inv hM hU hq | with_reducible exact sp_ret hM hU hq | with_reducible exact sp_note _ hq | with_reducible exact hq | ((with_reducible refine sp_inv hM hU ?_); exact hq) | ((with_reducible refine sp_ret hM hU ?_); exact hq) | exact sp_note _ hq | exact hq))
    | with_reducible exact sp_inv hM hU (hs' _)
    | with_reducible exact hs' _
    | ((repeat' split)
       all_goals first
         | with_reducible exact sp_instr hM hU _ (sp_go hM hU _ _ _ _ hs)
         | with_reducible exact sp_nat hM hU _ (sp_go hM hU _ _ _ _ hs)
         | with_reducible exact sp_nat hM hU _ (sp_go hM hU _ _ _ _ (hs' _))
         | ((with_reducible refine sp_vm hM hU hs ?_); intro _ _ _ hq; (repeat' split); all_goals (first | with_reducible exact sp_inv hM hU hq | with_reducible exact sp_ret hM hU hq | with_reducible exact sp_note _ hq | with_reducible exact hq | ((with_reducible refine sp_inv hM hU ?_); exact hq) | ((with_reducible refine sp_ret hM hU ?_); exact hq) | exact sp_note _ hq | exact hq))
         | with_reducible exact sp_note _ hs
         | with_reducible exact hs' _
         | exact sp_instr hM hU _ (sp_go hM hU _ _ _ _ hs)
         | exact sp_proc hM hU _ (sp_go hM hU _ _ _ _ hs)
         | exact sp_nat hM hU _ (sp_go hM hU _ _ _ _ hs)
         | exact sp_nat hM hU _ (sp_go hM hU _ _ _ _ (hs' _))
         | (dsimp only; exact sp_nat hM hU _ (sp_go hM hU _ _ _ _ (hs' _)))
         | exact sp_note _ hs
         | exact hs)
theorem sp_alone (hM : ∀ (h : Heap) (b : Nat) (g : Cell → Cell), P h → (∀ c, (g c).slots.size = c.slots.size) → P (h.modify b g)) (hU : ∀ (h : Heap) (c : Cell), P h → P (h.push c)) (tb : Tables) (n : Nat) : ∀ s : State, spP P s → spP P (stepsAlone tb e n s) := by
  induction n with
  | zero => intro s hs; exact hs
  | succ n ih =>
    intro s hs
    unfold stepsAlone
    split
    · exact ih _ (sp_thread hM hU tb hs)
    · exact hs
theorem sp_steps (hM : ∀ (h : Heap) (b : Nat) (g : Cell → Cell), P h → (∀ c, (g c).slots.size = c.slots.size) → P (h.modify b g)) (hU : ∀ (h : Heap) (c : Cell), P h → P (h.push c)) {tb : Tables} {below : List Frame} {s s' : State} (h : Steps tb e below s s') (hs : P s.heap) : P s'.heap := by
  obtain ⟨n, h1, -⟩ := h
  rw [← h1]; exact sp_alone hM hU tb n s hs
end SP2
/-- the cells at these addresses have three slots -/
def sz3 (S : List Nat) (h : Heap) : Prop := ∀ a ∈ S, ∃ c : Cell, h[a]? = some c ∧ c.slots.size = 3
theorem sz3_M (S : List Nat) (h : Heap) (b : Nat) (g : Cell → Cell) (hs : sz3 S h) (hg : ∀ c, (g c).slots.size = c.slots.size) : sz3 S (h.modify b g) := by
  intro a ha
  obtain ⟨c, h1, h2⟩ := hs a ha
  rw [Array.getElem?_modify]
  by_cases e : b = a
  · rw [if_pos e, h1]; exact ⟨g c, rfl, (hg c).trans h2⟩
  · rw [if_neg e]; exact ⟨c, h1, h2⟩
theorem sz3_U (S : List Nat) (h : Heap) (c : Cell) (hs : sz3 S h) : sz3 S (h.push c) := by
  intro a ha
  obtain ⟨d, h1, h2⟩ := hs a ha
  refine ⟨d, ?_, h2⟩
  have := (Array.getElem?_eq_some_iff.mp h1).1
  rw [Array.getElem?_push, if_neg (by omega)]; exact h1
theorem sz3_steps (S : List Nat) {e : Env} {tb : Tables} {below : List Frame} {s s' : State} (h : Steps tb e below s s') (hs : sz3 S s.heap) : sz3 S s'.heap := sp_steps (P := sz3 S) (sz3_M S) (sz3_U S) h hs
