/-! J, 20: graphs -/
/-- a graph's object and its nodes -/
def gnZ (E : jE) (z : jZ) (g ba : Nat) (ns : List Nat) : Prop := ∃ (nl : Nat) (mc : Int), z (g, .inr (6, [.ref nl, .ref ba])) ∧ alZ E z nl mc (kIs E ns) ∧ (∀ t ∈ ns, t < 128) ∧ ns.length ≤ 5 ∧ ns.Nodup
theorem gnZ.up {E : jE} {z z2 : jZ} {g ba : Nat} {ns : List Nat} (h : gnZ E z g ba ns) (hl : zLe z z2) : gnZ E z2 g ba ns := by
  obtain ⟨nl, mc, h1, h2, h3⟩ := h
  exact ⟨nl, mc, hl _ h1, h2.up hl, h3⟩
/-- who comes before whom, by places -/
abbrev bfC (E : jE) (ba : Nat) (b : Nat → Nat) : jX := (ba, .inl (E.2.2 0, 5, .inl (fun j => jI ((fun j => ((b j : Nat) : Int)) j))))
def grZ (E : jE) (z : jZ) (g : Nat) (ns : List Nat) (b : Nat → Nat) : Prop := ∃ ba, gnZ E z g ba ns ∧ z (bfC E ba b) ∧ ∀ j, b j < 32
theorem grZ.up {E : jE} {z z2 : jZ} {g : Nat} {ns : List Nat} {b : Nat → Nat} (h : grZ E z g ns b) (hl : zLe z z2) : grZ E z2 g ns b := by
  obtain ⟨ba, h1, h2, h3⟩ := h
  exact ⟨ba, h1.up hl, hl _ h2, h3⟩
theorem kIs_len {E : jE} {l : List Nat} : (kIs E l).length = l.length := List.length_map _
theorem ix_le {l : List Nat} {t i : Nat} (hi : i < l.length) (h : l.getD i 0 = t) : l.idxOf t ≤ i := by
  induction l generalizing i with
  | nil => exact absurd hi (Nat.not_lt_zero _)
  | cons a l ih =>
    rw [List.idxOf_cons]
    by_cases e : a = t
    · subst e
      simp
    · have : (a == t) = false := by simpa using e
      rw [this]
      cases i with
      | zero => exact absurd h e
      | succ i =>
        have := ih (i := i) (by simpa using hi) (by simpa using h)
        show l.idxOf t + 1 ≤ i + 1
        omega
theorem ix_S {l : List Nat} {t i : Nat} (hi : i < l.length) (h0 : i ≤ l.idxOf t) (h : l.getD i 0 ≠ t) : i + 1 ≤ l.idxOf t := by
  rcases Nat.lt_or_ge i (l.idxOf t) with q | q
  · exact q
  · have e : i = l.idxOf t := by omega
    exfalso
    apply h
    have hl : l.idxOf t < l.length := by omega
    rw [List.getD_eq_getElem?_getD, e, List.getElem?_eq_getElem hl]
    exact List.getElem_idxOf hl
/-- a node's place, or -1 -/
def ixG (ns : List Nat) (t : Nat) : Int := if ns.idxOf t < ns.length then ((ns.idxOf t : Nat) : Int) else -1
theorem ixG_r (ns : List Nat) (t : Nat) : -1 ≤ ixG ns t ∧ ixG ns t < ns.length := by unfold ixG; split <;> omega
theorem ixG_in {ns : List Nat} {t : Nat} (h : t ∈ ns) : ixG ns t = ((ns.idxOf t : Nat) : Int) ∧ ns.idxOf t < ns.length := by
  have := List.idxOf_lt_length_of_mem h
  exact ⟨if_pos this, this⟩
