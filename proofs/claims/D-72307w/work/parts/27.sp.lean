/-! WHAT EVERY STEP KEEPS: a heap predicate that is kept when a cell changes without changing its size, and when a cell is laid behind, is kept by every step -/
set_option maxRecDepth 100000
section SP
variable {P : Heap → Prop}
def spP (P : Heap → Prop) (s : State) : Prop := P s.heap
theorem sp_mod (hM : ∀ (h : Heap) (b : Nat) (g : Cell → Cell), P h → (∀ c, (g c).slots.size = c.slots.size) → P (h.modify b g)) {s : State} (h : spP P s) (b : Addr) (g : Cell → Cell) (hg : ∀ c, (g c).slots.size = c.slots.size) : spP P (s.modifyCell b g) := hM s.heap b g h hg
theorem sp_push (hU : ∀ (h : Heap) (c : Cell), P h → P (h.push c)) {s : State} (h : spP P s) (c : Cell) : spP P ({ s with heap := s.heap.push c, slotsUsed := s.slotsUsed + c.slots.size } : State) := hU s.heap c h
theorem sp_sync (hM : ∀ (h : Heap) (b : Nat) (g : Cell → Cell), P h → (∀ c, (g c).slots.size = c.slots.size) → P (h.modify b g)) {β : Type} (op : SyncOp β) {s : State} (h : spP P s) : spP P (op.run s).2 := by
  cases op <;> simp only [SyncOp.run] <;> (repeat' split)
  all_goals first
    | exact h
    | exact sp_mod hM h _ _ (fun _ => rfl)
variable {e : Env}
theorem sp_go (hM : ∀ (h : Heap) (b : Nat) (g : Cell → Cell), P h → (∀ c, (g c).slots.size = c.slots.size) → P (h.modify b g)) (hU : ∀ (h : Heap) (c : Cell), P h → P (h.push c)) {α : Type} (t : Sem α) : ∀ (d : Bool) (acts : List Action) (s : State), spP P s → spP P (t.go e d acts s).state := by
  induction t with
  | pure a => intro d acts s h; exact h
  | vm op k ih =>
    intro d acts s h
    rw [Sem.go_vm]
    cases hl : op.lands e s with
    | done t => exact ih _ _ _ _ (VmOp.lands_keeps (P := spP P) (fun a cc c slots ha _ _ _ => hU _ _ ha) hl h)
    | full => exact h
    | bug w => exact h
  | sync op k ih =>
    intro d acts s h
    rw [Sem.go_sync]
    split
    · exact h
    · exact ih _ _ _ _ (sp_sync hM op h)
  | ctl c => intro d acts s h; rw [Sem.go]; unfold Sem.go.endStep; split <;> exact h
  | choose c k ih => intro d acts s h; rw [Sem.go]; exact ih _ _ _ _ h
  | world op k ih =>
    intro d acts s h
    rw [Sem.go_world]
    repeat' split
    all_goals first | exact ih _ _ _ _ h | exact h
  | push _ k ih | setLocal _ _ k ih | setMonitors _ _ k ih | setHash _ _ k ih | setVmData _ _ k ih | write _ _ _ k ih | enter _ k ih | mark _ k ih =>
    intro d acts s h
    rw [Sem.go]
    repeat' split
    all_goals first
      | exact h
      | exact ih _ _ _ h
      | (refine ih _ _ _ (sp_mod hM h _ _ ?_); intro c; first | rfl | (split <;> rfl) | simp)
      | (unfold Sem.go.endStep; split <;> exact h)
  | pop k ih | getLocal _ k ih | frames k ih | thread k ih | alloc _ _ _ k ih | cell _ k ih | read _ _ k ih | cas _ _ _ _ k ih | leave _ k ih | look _ k ih =>
    intro d acts s h
    rw [Sem.go]
    repeat' split
    all_goals first
      | exact h
      | exact ih _ _ _ _ h
      | exact ih _ _ _ _ (sp_push hU h _)
      | (refine ih _ _ _ _ (sp_mod hM h _ _ ?_); intro c; first | rfl | (split <;> rfl) | simp)
variable {s s₁ : State} {acts : List Action}
theorem sp_of (hM : ∀ (h : Heap) (b : Nat) (g : Cell → Cell), P h → (∀ c, (g c).slots.size = c.slots.size) → P (h.modify b g)) (hU : ∀ (h : Heap) (c : Cell), P h → P (h.push c)) {α : Type} {t : Sem α} {d : Bool} {r : Res α} (h : t.go e d acts s = r) (hs : spP P s) : spP P r.state := h ▸ sp_go hM hU t d acts s hs
theorem sp_note (c : Control) (h : spP P s) : spP P (note c s) := by
  cases c <;> exact h
theorem sp_vm (hM : ∀ (h : Heap) (b : Nat) (g : Cell → Cell), P h → (∀ c, (g c).slots.size = c.slots.size) → P (h.modify b g)) (hU : ∀ (h : Heap) (c : Cell), P h → P (h.push c)) {α : Type} {t : Sem α} {k : α → State → List Action → Out} (hs : spP P s) (hk : ∀ a s' acts', spP P s' → spP P (k a s' acts').1) : spP P (vmDo e s acts t k).1 := by
  unfold vmDo
  split <;> rename_i heq <;> have h := sp_of hM hU heq hs
  · exact hk _ _ _ h
  · exact sp_note _ h
theorem sp_inv (hM : ∀ (h : Heap) (b : Nat) (g : Cell → Cell), P h → (∀ c, (g c).slots.size = c.slots.size) → P (h.modify b g)) (hU : ∀ (h : Heap) (c : Cell), P h → P (h.push c)) {m : MethodId} {args : Array Value} (h₁ : spP P s₁) : spP P (doInvoke e s₁ acts m args).1 := by
  unfold doInvoke
  split <;> rename_i heq <;> have h := sp_of hM hU heq h₁
  · exact h
  · exact h
  · exact sp_note _ h
theorem sp_ret (hM : ∀ (h : Heap) (b : Nat) (g : Cell → Cell), P h → (∀ c, (g c).slots.size = c.slots.size) → P (h.modify b g)) (hU : ∀ (h : Heap) (c : Cell), P h → P (h.push c)) {v : Option Value} (h₁ : spP P s₁) : spP P (doReturn e s₁ acts v).1 := by
  unfold doReturn
  split
  · exact h₁
  · refine sp_vm hM hU h₁ ?_
    intro _ s' _ h
    repeat' split
    all_goals exact h
theorem sp_instr (hM : ∀ (h : Heap) (b : Nat) (g : Cell → Cell), P h → (∀ c, (g c).slots.size = c.slots.size) → P (h.modify b g)) (hU : ∀ (h : Heap) (c : Cell), P h → P (h.push c)) {len : Nat} (r : Res Unit) (h : spP P r.state) : spP P (afterInstr e len r).1 := by
  unfold afterInstr
  repeat' split
  all_goals first | with_reducible exact sp_inv hM hU h | with_reducible exact sp_ret hM hU h | with_reducible exact sp_note _ h | exact sp_inv hM hU h | exact sp_ret hM hU h | exact sp_note _ h | exact h
theorem sp_nat (hM : ∀ (h : Heap) (b : Nat) (g : Cell → Cell), P h → (∀ c, (g c).slots.size = c.slots.size) → P (h.modify b g)) (hU : ∀ (h : Heap) (c : Cell), P h → P (h.push c)) {f : NFrame} {rest : List Frame} (r : Res (Option Value)) (h : spP P r.state) : spP P (afterNative e f rest r).1 := by
  unfold afterNative
  repeat' split
  all_goals first | with_reducible exact sp_inv hM hU h | with_reducible exact sp_ret hM hU h | with_reducible exact sp_note _ h | exact sp_inv hM hU h | exact sp_ret hM hU h | exact sp_note _ h | exact h
theorem sp_proc (hM : ∀ (h : Heap) (b : Nat) (g : Cell → Cell), P h → (∀ c, (g c).slots.size = c.slots.size) → P (h.modify b g)) (hU : ∀ (h : Heap) (c : Cell), P h → P (h.push c)) {f : PFrame} {rest : List Frame} (r : Res Unit) (h : spP P r.state) : spP P (afterProc e f rest r).1 := by
  unfold afterProc
  repeat' split
  all_goals first | with_reducible exact sp_inv hM hU h | with_reducible exact sp_ret hM hU h | with_reducible exact sp_note _ h | exact sp_inv hM hU h | exact sp_ret hM hU h | exact sp_note _ h | exact h
end SP
