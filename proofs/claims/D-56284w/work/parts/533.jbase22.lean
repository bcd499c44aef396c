/-! J, 22: lookupswitch; numbers' objects -/
theorem j_lookup {E : jE} {K : jK} {cc : ByteArray} {own : String} {rm : Room} {P : Heap → Prop} {cells slots pc : Nat} {vs : List (Option Value)} {st : List Value} (hk : jOK E K cc own rm) {z : Int} (hz : jr z) {dflt : Int} {ps : Array (Int × Int)} {len : Nat} {off : Int} {tgt : Nat} (d : decode cc pc = .ok (.lookupswitch dflt ps, len)) (hp : (ps.toList.zip (ps.toList.drop 1)).all (fun (a, next) => a.1 < next.1) = true) (ho : Op.lookupswitch.offset ps.toList dflt z = off) (ht : (pc : Int) + off = (tgt : Int)) (k : jW K P cells slots tgt vs st) : jW K P cells slots pc vs (.int (jI z) :: st) := by
  obtain ⟨p, l, e, R, s, m, args, below, meth, c, A, Q⟩ := K
  intro H locs ls hP hS hl hz2
  exact lv_lookup hk.1 hk.2.1 d hp (by rw [jI_toInt hz]; exact ho) ht (k H locs ls hP hS hl hz2)
/-- numbers' objects, one behind another -/
def intsZ (z : jZ) : List Nat → List Nat → Prop
  | [], [] => True
  | a :: l, n :: s => z (a, .inr (17, [.int (jI ((n : Nat) : Int))])) ∧ n < 1000 ∧ intsZ z l s
  | _, _ => False
theorem intsZ.up {z z2 : jZ} {l s : List Nat} (h : intsZ z l s) (hl : zLe z z2) : intsZ z2 l s := by
  induction l generalizing s with
  | nil => cases s with
    | nil => trivial
    | cons o s => exact h
  | cons a l ih => cases s with
    | nil => exact h
    | cons o s => exact ⟨hl _ h.1, h.2.1, ih h.2.2⟩
theorem intsZ.len {z : jZ} {l s : List Nat} (h : intsZ z l s) : l.length = s.length := by
  induction l generalizing s with
  | nil => cases s with
    | nil => rfl
    | cons o s => exact h.elim
  | cons a l ih => cases s with
    | nil => exact h.elim
    | cons o s => simp [ih h.2.2]
theorem intsZ.at {z : jZ} {l s : List Nat} (h : intsZ z l s) {i : Nat} (hi : i < s.length) : ∃ a, l[i]? = some a ∧ z (a, .inr (17, [.int (jI ((s.getD i 0 : Nat) : Int))])) ∧ s.getD i 0 < 1000 := by
  induction l generalizing s i with
  | nil => cases s with
    | nil => exact absurd hi (Nat.not_lt_zero _)
    | cons o s => exact h.elim
  | cons a l ih => cases s with
    | nil => exact h.elim
    | cons o s =>
      cases i with
      | zero => exact ⟨a, rfl, h.1, h.2.1⟩
      | succ i =>
        obtain ⟨b, h1, h2⟩ := ih h.2.2 (i := i) (by simpa using hi)
        exact ⟨b, by simpa using h1, by simpa using h2⟩
theorem intsZ.snoc {z : jZ} {l s : List Nat} (h : intsZ z l s) {a n : Nat} (ha : z (a, .inr (17, [.int (jI ((n : Nat) : Int))]))) (hn : n < 1000) : intsZ z (l ++ [a]) (s ++ [n]) := by
  induction l generalizing s with
  | nil => cases s with
    | nil => exact ⟨ha, hn, trivial⟩
    | cons o s => exact h.elim
  | cons b l ih => cases s with
    | nil => exact h.elim
    | cons p s => exact ⟨h.1, h.2.1, ih h.2.2⟩
theorem intsZ.el {z : jZ} {l s : List Nat} (h : intsZ z l s) : elZ z l := by
  induction l generalizing s with
  | nil => exact elZ.nil
  | cons a l ih => cases s with
    | nil => exact h.elim
    | cons o s =>
      intro y hy
      rcases List.mem_cons.mp hy with e | hy
      · rw [e]
        exact okO.int h.1
      · exact ih h.2.2 y hy
