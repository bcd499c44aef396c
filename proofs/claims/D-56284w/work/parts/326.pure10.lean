/-! P, 10: all orders of the transactions, and the sequences they give -/
def bF (m : Nat) : Nat → Nat → List Nat
  | 0, _ => []
  | f + 1, t => if m.testBit t then t :: bF m f (t + 1) else bF m f (t + 1)
def bL (m : Nat) : List Nat := bF m 5 1
theorem bF_s (m f t : Nat) : bF m (f + 1) t = if m.testBit t then t :: bF m f (t + 1) else bF m f (t + 1) := rfl
theorem bF_mem {m u : Nat} : ∀ {f t}, u ∈ bF m f t ↔ (t ≤ u ∧ u < t + f) ∧ m.testBit u = true := by
  intro f
  induction f with
  | zero => intro t; simp [bF]; omega
  | succ f ih =>
    intro t
    rw [bF_s]
    by_cases e : m.testBit t = true
    · rw [if_pos e, List.mem_cons, ih]
      constructor
      · rintro (h | h)
        · subst h; exact ⟨by omega, e⟩
        · exact ⟨by omega, h.2⟩
      · intro h
        by_cases q : u = t
        · exact Or.inl q
        · exact Or.inr ⟨by omega, h.2⟩
    · rw [if_neg e, ih]
      constructor
      · intro h; exact ⟨by omega, h.2⟩
      · intro h
        refine ⟨?_, h.2⟩
        by_cases q : u = t
        · subst q; exact absurd h.2 e
        · omega
theorem bF_nd {m : Nat} : ∀ {f t}, (bF m f t).Nodup := by
  intro f
  induction f with
  | zero => intro t; exact List.nodup_nil
  | succ f ih =>
    intro t
    rw [bF_s]
    split
    · exact List.nodup_cons.mpr ⟨fun h => by have := bF_mem.mp h; omega, ih⟩
    · exact ih
theorem bF_len (m : Nat) : ∀ f t, (bF m f t).length ≤ f := by
  intro f
  induction f with
  | zero => intro t; exact Nat.le_refl _
  | succ f ih =>
    intro t
    rw [bF_s]
    have := ih (t + 1)
    split
    · rw [List.length_cons]; omega
    · omega
theorem bL_bits : ∀ m, m < 64 → m % 2 = 0 → bitsN m = (bL m).length := by decide +kernel
theorem bL_pick : ∀ m, m < 64 → ∀ s, s < 5 → s < (bL m).length → bL (jandn m (1 * 2 ^ (bL m).getD s 0)) = (bL m).eraseIdx s := by decide +kernel
/-- the order of a number -/
def uR : Nat → List Nat → Nat → List Nat
  | 0, _, _ => []
  | f + 1, r, x => r.getD (x % (f + 1)) 0 :: uR f (r.eraseIdx (x % (f + 1))) (x / (f + 1))
theorem uR_s (f : Nat) (r : List Nat) (x : Nat) : uR (f + 1) r x = r.getD (x % (f + 1)) 0 :: uR f (r.eraseIdx (x % (f + 1))) (x / (f + 1)) := rfl
theorem erase_perm {α : Type} : ∀ {l : List α} {i : Nat} (h : i < l.length), (l[i] :: l.eraseIdx i).Perm l := by
  intro l
  induction l with
  | nil => intro i h; exact absurd h (Nat.not_lt_zero _)
  | cons x l ih =>
    intro i h
    cases i with
    | zero => exact List.Perm.refl _
    | succ i =>
      have h2 : i < l.length := by rw [List.length_cons] at h; omega
      exact (List.Perm.swap _ _ _).trans (List.Perm.cons x (ih h2))
theorem uR_perm : ∀ {f : Nat} {r : List Nat} {x : Nat}, r.length = f → (uR f r x).Perm r := by
  intro f
  induction f with
  | zero => intro r x h; rw [List.eq_nil_of_length_eq_zero h]; exact List.Perm.refl _
  | succ f ih =>
    intro r x h
    rw [uR_s]
    have hx : x % (f + 1) < r.length := by rw [h]; exact Nat.mod_lt _ (Nat.succ_pos _)
    have := ih (r := r.eraseIdx (x % (f + 1))) (x := x / (f + 1)) (by rw [List.length_eraseIdx_of_lt hx]; omega)
    refine (List.Perm.cons _ this).trans ?_
    rw [List.getD_eq_getElem?_getD, List.getElem?_eq_getElem hx]
    exact erase_perm hx
theorem uR_len {f : Nat} {r : List Nat} {x : Nat} (h : r.length = f) : (uR f r x).length = f := (uR_perm h).length_eq.trans h
/-- the sequence of places that an order gives -/
def sqP (L : List Op) (t i : Nat) : Bool := decide (oT (opAt L i) = t)
def sqL (L : List Op) (P : List Nat) : List Nat := P.flatMap fun t => (List.range L.length).filter (sqP L t)
theorem sqP_len {L : List Op} {t : Nat} : ∀ {k}, k ≤ L.length → ((List.range k).filter (sqP L t)).length = ((L.take k).filter fun x => oT x == t).length := by
  intro k
  induction k with
  | zero => intro _; rfl
  | succ k ih =>
    intro h
    rw [List.range_succ, List.filter_append, List.length_append, ih (by omega), flt_s _ (by omega), List.length_append]
    congr 1
    by_cases e : oT (opAt L k) = t <;> simp [sqP, List.filter_cons, e]
theorem sqL_len (L : List Op) (P : List Nat) : (sqL L P).length = (arrL L P).length := by
  unfold sqL arrL
  induction P with
  | nil => rfl
  | cons t P ih => rw [List.flatMap_cons, List.flatMap_cons, List.length_append, List.length_append, ih, sqP_len (Nat.le_refl _), List.take_length]
theorem arrL_all {P : List Nat} (hP : P.Nodup) : ∀ {L : List Op}, (∀ o ∈ L, oT o ∈ P) → (arrL L P).length = L.length := by
  intro L
  induction L with
  | nil => intro _; exact Nat.le_zero.mp (arrL_len (l := []) hP)
  | cons x L ih =>
    intro h
    rw [arrL_cons, ih (fun o ho => h o (List.mem_cons_of_mem _ ho))]
    have h1 := List.nodup_iff_count.mp hP (oT x)
    have h2 := List.count_pos_iff.mpr (h x List.mem_cons_self)
    rw [List.length_cons]; omega
theorem sqL_mem {L : List Op} {P : List Nat} {i : Nat} : i ∈ sqL L P ↔ i < L.length ∧ oT (opAt L i) ∈ P := by
  unfold sqL
  rw [List.mem_flatMap]
  constructor
  · rintro ⟨t, ht, h⟩
    rw [List.mem_filter] at h
    have := of_decide_eq_true h.2
    exact ⟨List.mem_range.mp h.1, this ▸ ht⟩
  · rintro ⟨h1, h2⟩
    exact ⟨_, h2, List.mem_filter.mpr ⟨List.mem_range.mpr h1, decide_eq_true rfl⟩⟩
theorem sqL_nd {L : List Op} {P : List Nat} (hP : P.Nodup) : (sqL L P).Nodup := by
  unfold sqL List.Nodup
  rw [List.pairwise_flatMap]
  refine ⟨fun t _ => List.Pairwise.filter _ List.nodup_range, hP.imp fun {a b} hab x hx y hy e => ?_⟩
  subst e
  have h1 := of_decide_eq_true (List.mem_filter.mp hx).2
  have h2 := of_decide_eq_true (List.mem_filter.mp hy).2
  exact hab (h1.symm.trans h2)
theorem sqL_push (L : List Op) (o : List Nat) (t : Nat) : sqL L (o ++ [t]) = sqL L o ++ (List.range L.length).filter (sqP L t) := by unfold sqL; rw [List.flatMap_append]; simp
theorem sq_lt {L : List Op} {o : List Nat} {r k : Nat} (hl : L.length ≤ 20) (ho : o.Nodup) (hr : r < o.length) (hk : k < L.length) (he : oT (opAt L k) = o.getD r 0) : (sqL L (o.take r) ++ (List.range k).filter (sqP L (o.getD r 0))).length < 20 := by
  have := arr_lt hl ho hr hk he
  rw [List.length_append] at this ⊢
  rw [sqL_len, sqP_len (by omega)]; exact this
theorem sq_s {L : List Op} {t k : Nat} : (List.range (k + 1)).filter (sqP L t) = (List.range k).filter (sqP L t) ++ (if sqP L t k then [k] else []) := by
  rw [List.range_succ, List.filter_append]; simp [List.filter_cons]
def sqAt (L : List Op) (P : List Nat) (k : Nat) : Nat := (sqL L P).getD k 0
def sqPl (L : List Op) (P : List Nat) (k : Nat) : Nat := (sqL L P).idxOf k
theorem sq_all {L : List Op} {P : List Nat} (hP : P.Nodup) (hc : ∀ o ∈ L, oT o ∈ P) : (sqL L P).length = L.length := (sqL_len L P).trans (arrL_all hP hc)
theorem sqAt_e {L : List Op} {P : List Nat} {k : Nat} (h : k < (sqL L P).length) : sqAt L P k = (sqL L P)[k] := by unfold sqAt; rw [List.getD_eq_getElem?_getD, List.getElem?_eq_getElem h]; rfl
theorem sqAt_lt {L : List Op} {P : List Nat} {k : Nat} (h : k < (sqL L P).length) : sqAt L P k < L.length := by
  rw [sqAt_e h]; exact (sqL_mem.mp (List.getElem_mem h)).1
theorem sqAt_inj {L : List Op} {P : List Nat} {j k : Nat} (hP : P.Nodup) (hj : j < (sqL L P).length) (hk : k < (sqL L P).length) (e : sqAt L P j = sqAt L P k) : j = k := by
  rw [sqAt_e hj, sqAt_e hk] at e
  exact (List.getElem_inj (sqL_nd hP)).mp e
theorem sqPl_lt {L : List Op} {P : List Nat} {k : Nat} (hP : P.Nodup) (hc : ∀ o ∈ L, oT o ∈ P) (hk : k < L.length) : sqPl L P k < L.length ∧ sqAt L P (sqPl L P k) = k := by
  have hm : k ∈ sqL L P := sqL_mem.mpr ⟨hk, hc _ (opAt_mem hk)⟩
  have h1 : sqPl L P k < (sqL L P).length := List.idxOf_lt_length_of_mem hm
  refine ⟨by rw [← sq_all hP hc]; exact h1, ?_⟩
  rw [sqAt_e h1]
  exact List.getElem_idxOf h1
def fcN : Nat → Nat
  | 0 => 1
  | n + 1 => (n + 1) * fcN n
theorem fcN_le : ∀ n, n ≤ 5 → fcN n ≤ 120 := by decide
def vwX (L : List Op) (x : Nat) : Bool := vwB L (sqAt L (uR (bL (pmask L)).length (bL (pmask L)) x)) (sqPl L (uR (bL (pmask L)).length (bL (pmask L)) x))
/-- some order of the transactions gives the same view -/
def viewB (L : List Op) : Bool := (List.range (fcN (bL (pmask L)).length)).any (vwX L)
def sp_isViewSerializable (g : SS) (s : Int) : SR := if !isSl s then (1, 0, g) else (0, jB (viewB (gRest g s)), g)
theorem uR_nd {m x : Nat} : (uR (bL m).length (bL m) x).Nodup := (uR_perm rfl).nodup_iff.mpr bF_nd
theorem uR_all {L : List Op} {x : Nat} (h : slOK L) : ∀ o ∈ L, oT o ∈ uR (bL (pmask L)).length (bL (pmask L)) x := fun o ho => by
  refine (uR_perm rfl).mem_iff.mpr (bF_mem.mpr ⟨?_, ?_⟩)
  · have := h.2 o ho; have h1 := this.2.1; have h2 := this.2.2.1; omega
  · rw [pmask_test]; exact List.any_eq_true.mpr ⟨o, ho, beq_self_eq_true _⟩
theorem uR_5 {m x j : Nat} : (uR (bL m).length (bL m) x).getD j 0 ≤ 5 := by
  rw [List.getD_eq_getElem?_getD]
  by_cases h : j < (uR (bL m).length (bL m) x).length
  · rw [List.getElem?_eq_getElem h]
    have := bF_mem.mp ((uR_perm rfl).mem_iff.mp (List.getElem_mem h))
    show (uR (bL m).length (bL m) x)[j] ≤ 5
    omega
  · rw [List.getElem?_eq_none (by omega)]; exact Nat.zero_le _
theorem fc_end {j n : Nat} (h : 1 ≤ j ∧ (j ≤ n ∨ j = 1)) (h2 : n < j + 1) : fcN j = fcN n := by
  rcases Nat.eq_zero_or_pos n with e | e
  · have e2 : j = 1 := by omega
    rw [e2, e]; rfl
  · have e2 : j = n := by omega
    rw [e2]
