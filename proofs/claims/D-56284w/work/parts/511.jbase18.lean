/-! J, 18: a block is apart from what is frozen; parts of schedules -/
theorem f_ap {E : jE} {K : jK} {z0 z : jZ} {W : List va_W} {cells slots pc : Nat} {vs : List (Option Value)} {st : List Value} {w : va_W} (i : Nat) (hi : W[i]? = some w) (k : (∀ x ∈ w, ∀ y, z y → y.1 ≠ x.1) → jW K (fO K E z0 z W) cells slots pc vs st) : jW K (fO K E z0 z W) cells slots pc vs st :=
  j_Pe (fun H hH => j_P (fun X hX => by rw [hX]; exact hH) (k (fun x hx => ((hH.1.1 i w hi).1 x hx).2.2)))
theorem opsZ.mem {z : jZ} {l : List Nat} {s : List Op} (h : opsZ z l s) : ∀ a ∈ l, ∃ e, z (a, e) := by
  intro a ha
  obtain ⟨i, hi⟩ := List.getElem?_of_mem ha
  have hl := (List.getElem?_eq_some_iff.mp hi).1
  obtain ⟨b, h1, h2, -⟩ := h.at (i := i) (by rw [← h.len]; exact hl)
  cases hi.symm.trans h1
  exact ⟨_, h2⟩
theorem opsZ.set {z : jZ} {l : List Nat} {s : List Op} (h : opsZ z l s) {i a : Nat} {o : Op} (ha : z (a, .inr (5, opFs o))) (ho : opOK o) : opsZ z (l.set i a) (s.set i o) := by
  induction l generalizing s i with
  | nil => cases s with
    | nil => trivial
    | cons o s => exact h.elim
  | cons b l ih => cases s with
    | nil => exact h.elim
    | cons p s => cases i with
      | zero => exact ⟨ha, ho, h.2.2⟩
      | succ i => exact ⟨h.1, h.2.1, ih h.2.2⟩
theorem opsZ.erase {z : jZ} {l : List Nat} {s : List Op} (h : opsZ z l s) (i : Nat) : opsZ z (l.eraseIdx i) (s.eraseIdx i) := by
  induction l generalizing s i with
  | nil => cases s with
    | nil => trivial
    | cons o s => exact h.elim
  | cons b l ih => cases s with
    | nil => exact h.elim
    | cons p s => cases i with
      | zero => exact h.2.2
      | succ i => exact ⟨h.1, h.2.1, ih h.2.2 i⟩
theorem nd_snoc {l : List Nat} {a : Nat} (h : l.Nodup) (ha : a ∉ l) : (l ++ [a]).Nodup := by
  rw [List.nodup_append]
  exact ⟨h, by simp, fun x hx y hy => by
    rw [List.mem_singleton.mp hy]
    exact fun e => ha (e ▸ hx)⟩
theorem nd_first {l : List Nat} {i a : Nat} (h : l.Nodup) (hi : l[i]? = some a) : ∀ j, j < i → l[j]? ≠ some a := fun j hj e => by
  have := (List.getElem?_inj (List.getElem?_eq_some_iff.mp e).1 h).mp (e.trans hi.symm)
  omega
theorem nd_swap {l : List Nat} {i a b : Nat} (h : l.Nodup) (ha : l[i]? = some a) (hb : l[i + 1]? = some b) : ((l.set i b).set (i + 1) a).Nodup := by
  have hp : ((l.set i b).set (i + 1) a).Perm l := by
    have hl := (List.getElem?_eq_some_iff.mp hb).1
    have e1 : l = l.take i ++ a :: b :: l.drop (i + 2) := by
      conv => lhs; rw [← List.take_append_drop i l]
      congr 1
      rw [List.drop_eq_getElem_cons (by omega), List.drop_eq_getElem_cons (by omega)]
      rw [(List.getElem?_eq_some_iff.mp ha).2, (List.getElem?_eq_some_iff.mp hb).2]
    have hlt : (l.take i).length = i := by rw [List.length_take]; omega
    have e2 : (l.set i b).set (i + 1) a = l.take i ++ b :: a :: l.drop (i + 2) := by
      conv => lhs; rw [e1]
      rw [List.set_append_right _ _ (by omega), List.set_append_right _ _ (by omega), hlt, Nat.sub_self, show i + 1 - i = 1 by omega]
      rfl
    rw [e2]
    conv => rhs; rw [e1]
    exact (List.Perm.swap a b _).append_left _
  exact hp.nodup_iff.mpr h
