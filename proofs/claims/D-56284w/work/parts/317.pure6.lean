/-! P, 6: sources, dirt, and what hangs on them -/
theorem j_loc {K : jK} {P : Heap → Prop} {cells slots pc : Nat} {vs : List (Option Value)} {st : List Value} {i : Nat} {z z2 : Int} (h : vs[i]? = some (some (.int (jI z)))) (e : z = z2) (k : jW K P cells slots pc (vs.set i (some (.int (jI z2)))) st) : jW K P cells slots pc vs st := by
  subst e
  have e2 : vs.set i (some (.int (jI z))) = vs := by
    apply List.ext_getElem?
    intro j
    rw [List.getElem?_set]
    split
    · rename_i q; subst q
      split
      · exact h.symm
      · rename_i q; rw [List.getElem?_eq_none (by omega)]
    · rfl
  rw [e2] at k; exact k
/-- an operation of t of kind c among the first e -/
def hasBf (l : List Op) (t c e : Nat) : Bool := (List.range e).any fun j => decide (oT (opAt l j) = t) && decide (oK (opAt l j) = c)
theorem hasBf_t {l : List Op} {t c e j : Nat} (h : j < e) (ht : oT (opAt l j) = t) (hc : oK (opAt l j) = c) : hasBf l t c e = true := any_range_t h (by simp [ht, hc])
theorem hasBf_f {l : List Op} {t c e : Nat} (h : ∀ j, j < e → ¬ (oT (opAt l j) = t ∧ oK (opAt l j) = c)) : hasBf l t c e = false := any_range fun j hj => by
  have := h j hj
  rw [← Bool.decide_and]
  exact decide_eq_false this
/-- the write that the access at k reads, among the first n: its place, or -1 -/
def srcTo (l : List Op) (k : Nat) : Nat → Int
  | 0 => -1
  | n + 1 => if (oK (opAt l n) = 1 ∧ oI (opAt l n) = oI (opAt l k)) ∧ hasBf l (oT (opAt l n)) 3 k = false then ((n : Nat) : Int) else srcTo l k n
def src (l : List Op) (k : Nat) : Int := srcTo l k k
def srcN (l : List Op) (k : Nat) : Nat := (src l k).toNat
theorem srcTo_s (l : List Op) (k n : Nat) : srcTo l k (n + 1) = if (oK (opAt l n) = 1 ∧ oI (opAt l n) = oI (opAt l k)) ∧ hasBf l (oT (opAt l n)) 3 k = false then ((n : Nat) : Int) else srcTo l k n := rfl
theorem srcTo_r (l : List Op) (k : Nat) : ∀ n, -1 ≤ srcTo l k n ∧ srcTo l k n < ((n : Nat) : Int) := by
  intro n
  induction n with
  | zero => exact ⟨Int.le_refl _, show (-1 : Int) < 0 by omega⟩
  | succ n ih => rw [srcTo_s]; split <;> omega
theorem src_r (l : List Op) (k : Nat) : -1 ≤ src l k ∧ src l k < ((k : Nat) : Int) := srcTo_r l k k
theorem srcN_e {l : List Op} {k : Nat} (h : 0 ≤ src l k) : src l k = ((srcN l k : Nat) : Int) ∧ srcN l k < k := by have := src_r l k; unfold srcN; omega
def sp_sourceOf (g : SS) (s p : Int) : SR := if !isOpB g.1.1 s p then (1, 0, g) else if oK (opAt (g.1.1 s.toNat) p.toNat) ≠ 0 then (2, 0, g) else if src (g.1.1 s.toNat) p.toNat < 0 then (3, 0, g) else (0, src (g.1.1 s.toNat) p.toNat, g)
/-- a read of another's write -/
def frgB (l : List Op) (k : Nat) : Bool := decide (oK (opAt l k) = 0) && (decide (0 ≤ src l k) && !decide (oT (opAt l (srcN l k)) = oT (opAt l k)))
theorem frgB_src {l : List Op} {k : Nat} (h : frgB l k = true) : src l k = ((srcN l k : Nat) : Int) ∧ srcN l k < k := by
  unfold frgB at h
  simp only [Bool.and_eq_true, decide_eq_true_eq] at h
  exact srcN_e h.2.1
def drtB (l : List Op) (k : Nat) : Bool := frgB l k && !hasBf l (oT (opAt l (srcN l k))) 2 k
def dirtN (l : List Op) : Nat → Nat
  | 0 => 0
  | k + 1 => dirtN l k + (if drtB l k then 1 else 0)
theorem dirtN_s (l : List Op) (k : Nat) : dirtN l (k + 1) = dirtN l k + (if drtB l k then 1 else 0) := rfl
theorem dirtN_le (l : List Op) : ∀ k, dirtN l k ≤ k := by
  intro k
  induction k with
  | zero => exact Nat.le_refl _
  | succ k ih => rw [dirtN_s]; split <;> omega
def dirtT (l : List Op) : Nat := dirtN l l.length
def sp_dirtyReads (g : SS) (s : Int) : SR := if !isSl s then (1, 0, g) else (0, ((dirtT (g.1.1 s.toNat) : Nat) : Int), g)
def sp_avoidsCascades (g : SS) (s : Int) : SR := if !isSl s then (1, 0, g) else (0, jB (decide (dirtT (g.1.1 s.toNat) = 0)), g)
/-- k commits, j of the same reads a write whose transaction has not committed by then -/
def recP (l : List Op) (k j : Nat) : Bool := decide (oK (opAt l k) = 2) && (decide (oT (opAt l j) = oT (opAt l k)) && (frgB l j && !hasBf l (oT (opAt l (srcN l j))) 2 k))
def recB (l : List Op) : Bool := !(List.range l.length).any fun k => (List.range k).any fun j => recP l k j
def sp_isRecoverable (g : SS) (s : Int) : SR := if !isSl s then (1, 0, g) else (0, jB (recB (g.1.1 s.toNat)), g)
def endP (l : List Op) (t a i : Nat) : Bool := decide (a < i) && (decide (oT (opAt l i) = t) && decide (2 ≤ oK (opAt l i)))
def endB (l : List Op) (t a b : Nat) : Bool := (List.range b).any fun i => endP l t a i
def strP (l : List Op) (k j : Nat) : Bool := decide (k < j) && (decide (oK (opAt l k) = 1) && (opConf (opAt l k) (opAt l j) && !endB l (oT (opAt l k)) k j))
def strB (l : List Op) : Bool := !(List.range l.length).any fun k => (List.range l.length).any fun j => strP l k j
def sp_isStrict (g : SS) (s : Int) : SR := if !isSl s then (1, 0, g) else (0, jB (strB (g.1.1 s.toNat)), g)
theorem any2_f {n : Nat} {m : Nat → Nat} {p : Nat → Nat → Bool} (h : ∀ k, k < n → ∀ j, j < m k → p k j = false) : (!(List.range n).any fun k => (List.range (m k)).any fun j => p k j) = true := by
  rw [any_range (fun k hk => any_range (h k hk))]; rfl
theorem any2_t {n k j : Nat} {m : Nat → Nat} {p : Nat → Nat → Bool} (hk : k < n) (hj : j < m k) (h : p k j = true) : (!(List.range n).any fun k => (List.range (m k)).any fun j => p k j) = false := by
  rw [any_range_t hk (any_range_t hj h)]; rfl
theorem all_s {n : Nat} {p : Nat → Prop} (h : ∀ j, j < n → p j) (hn : p n) : ∀ j, j < n + 1 → p j := fun j hj => by
  by_cases e : j < n
  · exact h j e
  · have e : j = n := by omega
    rw [e]; exact hn
