/-! P, 3: what the calls answer and make of the state: (thrown, answer, state) -/
abbrev SR : Type := Nat × Int × SS
def isSl (s : Int) : Bool := decide (0 ≤ s ∧ s ≤ 3)
def isTr (t : Int) : Bool := decide (1 ≤ t ∧ t ≤ 5)
def isIt (c : Int) : Bool := decide (97 ≤ c ∧ c ≤ 100)
def isFullB (l : List Op) (t : Nat) : Bool := decide (l.length = 20) || opHas l t 2 3
/-- the reference answers so -/
def mP (x : SR) (r : Int) (A : Nat → Nat → Int) (F : Nat → Int) : Prop := x.2.1 = r ∧ F 4 = ((x.1 : Nat) : Int) ∧ mR A F x.2.2
def sp_add (g : SS) (s : Nat) (o : Op) : SR := if isFullB (g.1.1 s) (oT o) then (3, 0, g) else (0, (((g.1.1 s).length + 1 : Nat) : Int), gpush g (sset g.1.1 s (g.1.1 s ++ [o]), g.1.2))
def sp_addAccess (g : SS) (s a t c : Int) : SR := if !isSl s then (1, 0, g) else if !((decide (a = 114) || decide (a = 119)) && (isTr t && isIt c)) then (2, 0, g) else sp_add g s.toNat ((if a = 114 then 0 else 1), t.toNat, (c - 97).toNat)
def sp_addEnd (g : SS) (s t : Int) (c : Bool) : SR := if !isSl s then (1, 0, g) else if !isTr t then (2, 0, g) else sp_add g s.toNat ((if c then 2 else 3), t.toNat, 0)
def sp_removeAt (g : SS) (s p : Int) : SR := if isOpB g.1.1 s p then (0, (((g.1.1 s.toNat).length - 1 : Nat) : Int), gpush g (sset g.1.1 s.toNat ((g.1.1 s.toNat).eraseIdx p.toNat), g.1.2)) else (1, 0, g)
def sp_exchange (g : SS) (s p : Int) : SR := if !(isOpB g.1.1 s p && isOpB g.1.1 s (p + 1)) then (1, 0, g) else if oT (opAt (g.1.1 s.toNat) p.toNat) = oT (opAt (g.1.1 s.toNat) (p.toNat + 1)) then (2, 0, g) else (0, ((oT (opAt (g.1.1 s.toNat) (p.toNat + 1)) : Nat) : Int), gpush g (sset g.1.1 s.toNat (opSwap (g.1.1 s.toNat) p.toNat), g.1.2))
def sp_copy (g : SS) (t s : Int) : SR := if isSl t && isSl s then (0, (((g.1.1 s.toNat).length : Nat) : Int), gpush g (sset g.1.1 t.toNat (g.1.1 s.toNat), g.1.2)) else (1, 0, g)
def sp_clear (g : SS) (s : Int) : SR := if isSl s then (0, (((g.1.1 s.toNat).length : Nat) : Int), gpush g (sset g.1.1 s.toNat [], g.1.2)) else (1, 0, g)
def sp_setValue (g : SS) (c v : Int) : SR := if isIt c && decide (0 ≤ v ∧ v ≤ 999) then (0, ((g.1.2 (c - 97).toNat : Nat) : Int), gpush g (g.1.1, fun j => if j = (c - 97).toNat then v.toNat else g.1.2 j)) else (1, 0, g)
/-! the text that is read -/
def chI (l : List Nat) (i : Nat) : Int := if i < l.length then ((l.getD i 0 : Nat) : Int) else -1
def kdL (c : Int) : Int := if c = 114 then 0 else if c = 119 then 1 else if c = 99 then 2 else if c = 120 then 3 else -1
/-- one operation from a place on: it, or none; the place behind, or of the fault -/
def pOp (l : List Nat) (i : Nat) : Option Op × Nat :=
  if kdL (chI l i) < 0 then (none, i)
  else if !isTr (chI l (i + 1) - 48) then (none, i + 1)
  else if kdL (chI l i) < 2 then (if !isIt (chI l (i + 2)) then (none, i + 2) else (some ((kdL (chI l i)).toNat, (chI l (i + 1) - 48).toNat, (chI l (i + 2) - 97).toNat), i + 3))
  else (some ((kdL (chI l i)).toNat, (chI l (i + 1) - 48).toNat, 0), i + 2)
def pRest : Nat → List Nat → Nat → List Op → Bool × List Op × Nat
  | 0, _, j, acc => (false, acc, j)
  | f + 1, l, j, acc => if chI l j = 32 then (match (pOp l (j + 1)).1 with | none => (false, acc, (pOp l (j + 1)).2) | some o => pRest f l (pOp l (j + 1)).2 (acc ++ [o])) else (decide (j = l.length), acc, j)
def pAll (l : List Nat) : Bool × List Op × Nat := match (pOp l 0).1 with | none => (false, [], (pOp l 0).2) | some o => pRest (l.length + 1) l (pOp l 0).2 [o]
theorem chI_lt {l : List Nat} {i : Nat} (h : chI l i ≠ -1) : i < l.length := by
  unfold chI at h
  split at h
  · assumption
  · exact absurd rfl h
theorem chI_ge {l : List Nat} {i : Nat} (h : chI l i ≠ -1) : 0 ≤ chI l i := by
  have := chI_lt h
  unfold chI
  rw [if_pos this]; omega
theorem kdL_r (c : Int) : -1 ≤ kdL c ∧ kdL c ≤ 3 := by unfold kdL; repeat' split <;> omega
theorem kdL_m1 : kdL (-1) = -1 := by decide
/-- an operation that is read fits, and takes two places or three -/
theorem pOp_some {l : List Nat} {i : Nat} {o : Op} (h : (pOp l i).1 = some o) : opOK o ∧ i + 2 ≤ (pOp l i).2 ∧ (pOp l i).2 ≤ i + 3 ∧ (pOp l i).2 ≤ l.length := by
  unfold pOp at h ⊢
  have hr := kdL_r (chI l i)
  split at h
  · cases h
  · rename_i h1
    rw [if_neg h1]
    split at h
    · cases h
    · rename_i h2
      rw [if_neg h2]
      simp only [isTr, Bool.not_eq_true, Bool.not_eq_false', decide_eq_true_eq] at h2
      have hl1 : i + 1 < l.length := chI_lt (by omega)
      split at h
      · rename_i h3
        rw [if_pos h3]
        split at h
        · cases h
        · rename_i h4
          rw [if_neg h4]
          simp only [isIt, Bool.not_eq_true, Bool.not_eq_false', decide_eq_true_eq] at h4
          have hl2 : i + 2 < l.length := chI_lt (by omega)
          cases h
          refine ⟨?_, by dsimp only; omega, by dsimp only; omega, by dsimp only; omega⟩
          simp only [opOK, oK, oT, oI]; omega
      · rename_i h3
        rw [if_neg h3]
        cases h
        refine ⟨?_, by dsimp only; omega, by dsimp only; omega, by dsimp only; omega⟩
        simp only [opOK, oK, oT, oI]; exact ⟨by omega, by omega, by omega, by omega, fun _ => trivial⟩
theorem pOp_none {l : List Nat} {i : Nat} (h : (pOp l i).1 = none) : i ≤ (pOp l i).2 ∧ (pOp l i).2 ≤ max i l.length := by
  unfold pOp at h ⊢
  have hr := kdL_r (chI l i)
  split
  · dsimp only; omega
  · rename_i h1
    have hl : i < l.length := chI_lt (fun e => h1 (by rw [e]; decide))
    split
    · dsimp only; omega
    · rename_i h2
      simp only [isTr, Bool.not_eq_true, Bool.not_eq_false', decide_eq_true_eq] at h2
      have hl1 : i + 1 < l.length := chI_lt (by omega)
      split
      · split
        · dsimp only; omega
        · rename_i h3 h4
          rw [if_neg h1, if_neg (by simpa [isTr] using h2), if_pos h3, if_neg h4] at h
          cases h
      · rename_i h3
        rw [if_neg h1, if_neg (by simpa [isTr] using h2), if_neg h3] at h
        cases h
/-- what was read -/
def rdIs (A : Nat → Nat → Int) (F : Nat → Int) (l : List Op) : Prop := F 12 = ((l.length : Nat) : Int) ∧ ∀ i, i < l.length → A 11 i = ((opV (opAt l i) : Nat) : Int) ∧ opOK (opAt l i)
theorem rdIs.push {A : Nat → Nat → Int} {F : Nat → Int} {l : List Op} {o : Op} (h : rdIs A F l) (ho : opOK o) : rdIs (mup A 11 l.length ((opV o : Nat) : Int)) (iup F 12 (((l.length : Nat) : Int) + 1)) (l ++ [o]) := by
  refine ⟨by rw [iup_s, List.length_append]; rfl, fun i hi => ?_⟩
  rw [mup_s]
  by_cases e : i < l.length
  · rw [opAt_append_lt e, iup_n (by omega)]; exact h.2 i e
  · have e : i = l.length := by rw [List.length_append] at hi; simp at hi; omega
    subst e
    rw [opAt_append_eq, iup_s]; exact ⟨rfl, ho⟩
theorem rdIs.keep {A B : Nat → Nat → Int} {F G : Nat → Int} {l : List Op} (h : rdIs A F l) (hA : B 11 = A 11) (hF : G 12 = F 12) : rdIs B G l := by unfold rdIs; rw [hA, hF]; exact h
/-- an operation behind an end of its transaction -/
def schBad (l : List Op) : Bool := (List.range l.length).any fun j => (l.take j).any fun o => oT o == oT (opAt l j) && decide (2 ≤ oK o)
def noSch (l : List Op) : Bool := schBad l || decide (20 < l.length)
def sp_write (g : SS) (s : Int) : SR := if !isSl s then (1, 0, g) else
  if !(pAll g.2.2.2.1).1 then (2, 0, gIn (gEr g (((pAll g.2.2.2.1).2.2 : Nat) : Int)) []) else
  if noSch (pAll g.2.2.2.1).2.1 then (3, 0, gIn g []) else (0, (((pAll g.2.2.2.1).2.1.length : Nat) : Int), gpush (gIn g []) (sset g.1.1 s.toNat (pAll g.2.2.2.1).2.1, g.1.2))
def sp_append (g : SS) (c : Int) : SR := if !decide (32 ≤ c ∧ c ≤ 126) then (1, 0, g) else if g.2.2.2.1.length = 60 then (2, 0, g) else (0, ((g.2.2.2.1.length + 1 : Nat) : Int), gIn g (g.2.2.2.1 ++ [c.toNat]))
def sp_clearBuffer (g : SS) : SR := (0, ((g.2.2.2.1.length : Nat) : Int), gIn g [])
theorem and_pow_ne {e t : Nat} : e &&& 1 * 2 ^ t ≠ 0 ↔ e.testBit t = true := by
  rw [Nat.one_mul]
  constructor
  · intro h
    apply Classical.byContradiction
    intro q
    apply h
    apply Nat.eq_of_testBit_eq
    intro i
    rw [Nat.testBit_and, Nat.testBit_two_pow, Nat.zero_testBit]
    by_cases ht : t = i
    · subst ht; simpa using q
    · simp [ht]
  · intro h q
    have := congrArg (fun x => Nat.testBit x t) q
    simp [Nat.testBit_and, Nat.testBit_two_pow, h] at this
theorem pRest_s {f j : Nat} {l : List Nat} {acc : List Op} : pRest (f + 1) l j acc = if chI l j = 32 then (match (pOp l (j + 1)).1 with | none => (false, acc, (pOp l (j + 1)).2) | some o => pRest f l (pOp l (j + 1)).2 (acc ++ [o])) else (decide (j = l.length), acc, j) := rfl
theorem pRest_some {f j : Nat} {l : List Nat} {acc : List Op} {o : Op} (h : chI l j = 32) (ho : (pOp l (j + 1)).1 = some o) : pRest (f + 1) l j acc = pRest f l (pOp l (j + 1)).2 (acc ++ [o]) := by rw [pRest_s, if_pos h, ho]
theorem pRest_none {f j : Nat} {l : List Nat} {acc : List Op} (h : chI l j = 32) (ho : (pOp l (j + 1)).1 = none) : pRest (f + 1) l j acc = (false, acc, (pOp l (j + 1)).2) := by rw [pRest_s, if_pos h, ho]
theorem pRest_end {f j : Nat} {l : List Nat} {acc : List Op} (h : ¬ chI l j = 32) : pRest (f + 1) l j acc = (decide (j = l.length), acc, j) := by rw [pRest_s, if_neg h]
theorem pAll_some {l : List Nat} {o : Op} (h : (pOp l 0).1 = some o) : pAll l = pRest (l.length + 1) l (pOp l 0).2 [o] := by unfold pAll; rw [h]
theorem pAll_none {l : List Nat} (h : (pOp l 0).1 = none) : pAll l = (false, [], (pOp l 0).2) := by unfold pAll; rw [h]
theorem isSome_ex {α : Type} {x : Option α} (h : x.isSome = true) : ∃ o, x = some o := Option.isSome_iff_exists.mp h
theorem isSome_no {α : Type} {x : Option α} (h : x.isSome = false) : x = none := by cases x; rfl; cases h
/-- the place behind what was read lies in the text, or just behind a blank's -/
theorem any_range {n : Nat} {p : Nat → Bool} (h : ∀ j, j < n → p j = false) : (List.range n).any p = false := by
  apply Bool.eq_false_iff.mpr
  intro q
  obtain ⟨j, hj, e⟩ := List.any_eq_true.mp q
  rw [h j (List.mem_range.mp hj)] at e
  cases e
theorem any_range_t {n j : Nat} {p : Nat → Bool} (hj : j < n) (h : p j = true) : (List.range n).any p = true := List.any_eq_true.mpr ⟨j, List.mem_range.mpr hj, h⟩
/-- the ended transactions of the first k operations -/
def endM (l : List Op) (k : Nat) (e : Nat) : Prop := ∀ b, e.testBit b = (l.take k).any fun o => oT o == b && decide (2 ≤ oK o)
theorem endM.s {l : List Op} {k e : Nat} (h : endM l k e) (hk : k < l.length) (hc : 2 ≤ oK (opAt l k)) : endM l (k + 1) (e ||| 1 * 2 ^ oT (opAt l k)) := by
  intro b
  rw [any_s _ hk, Nat.testBit_or, h b, Nat.one_mul, Nat.testBit_two_pow]
  congr 1
  simp [hc]; rfl
theorem endM.n {l : List Op} {k e : Nat} (h : endM l k e) (hk : k < l.length) (hc : oK (opAt l k) < 2) : endM l (k + 1) (e ||| 0) := by
  intro b
  rw [any_s _ hk, Nat.testBit_or, h b, Nat.zero_testBit]
  have : decide (2 ≤ oK (opAt l k)) = false := by simp; omega
  rw [this]; simp
