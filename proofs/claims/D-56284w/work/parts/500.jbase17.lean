/-! J, 17: schedules -/
theorem alW.mem {E : jE} {a : Nat} {mc : Int} {l : List Nat} {w : va_W} (h : alW E a mc l w) : ∃ q, alCell a mc q l.length ∈ w := by
  obtain ⟨q, h⟩ := h
  obtain ⟨r, rfl, -⟩ := h.head
  exact ⟨q, List.mem_cons_self⟩
theorem itW.mem {it k : Nat} {mc : Int} {a : Nat} {w : va_W} (h : itW it k mc a w) : ∃ lr, itCell it k lr mc a ∈ w := by
  obtain ⟨lr, rfl⟩ := h
  exact ⟨lr, List.mem_cons_self⟩
/-- a schedule's object, its list, its operations -/
def schZ (E : jE) (z : jZ) (a : Nat) (s : List Op) : Prop := ∃ (lst : Nat) (mc : Int) (li : List Nat), z (a, .inr (2, [.ref lst])) ∧ alZ E z lst mc li ∧ opsZ z li s ∧ li.Nodup
theorem schZ.up {E : jE} {z z2 : jZ} {a : Nat} {s : List Op} (h : schZ E z a s) (hl : zLe z z2) : schZ E z2 a s := by
  obtain ⟨lst, mc, li, h1, h2, h3, h4⟩ := h
  exact ⟨lst, mc, li, hl _ h1, h2.up hl, h3.up hl, h4⟩
theorem schZ.len {E : jE} {z : jZ} {a : Nat} {s : List Op} (h : schZ E z a s) : s.length ≤ 33 := by
  obtain ⟨lst, mc, li, h1, h2, h3, h4⟩ := h
  rw [← h3.len]
  exact h2.len
theorem take_S {α : Type} {l : List α} {k : Nat} {b : α} (h : l[k]? = some b) : l.take (k + 1) = l.take k ++ [b] := by
  rw [List.take_add_one, h]
  rfl
theorem opsZ.take {z : jZ} {l : List Nat} {s : List Op} (h : opsZ z l s) (k : Nat) : opsZ z (l.take k) (s.take k) := by
  induction l generalizing s k with
  | nil => cases s with
    | nil => simpa using h
    | cons o s => exact h.elim
  | cons a l ih => cases s with
    | nil => exact h.elim
    | cons o s => cases k with
      | zero => trivial
      | succ k => exact ⟨h.1, h.2.1, ih h.2.2 k⟩
theorem opsZ.ok {z : jZ} {l : List Nat} {s : List Op} (h : opsZ z l s) : ∀ o ∈ s, opOK o := by
  intro o ho
  obtain ⟨i, hi⟩ := List.getElem?_of_mem ho
  obtain ⟨a, -, -, h3⟩ := h.at (i := i) (List.getElem?_eq_some_iff.mp hi).1
  rwa [opAt_of hi] at h3
