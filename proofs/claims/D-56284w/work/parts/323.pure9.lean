/-! P, 9: the same operation in another schedule; equivalence; views -/
def twF : Nat → List Op → Op → Nat → Nat → Int
  | 0, _, _, _, _ => -1
  | f + 1, M, o, p, c => if oT (opAt M p) ≠ oT o then twF f M o (p + 1) c else if c = 0 then (if opV (opAt M p) = opV o then ((p : Nat) : Int) else -1) else twF f M o (p + 1) (c - 1)
def twP (L : List Op) (k i : Nat) : Bool := decide (oT (opAt L i) = oT (opAt L k))
/-- the place in M of L's operation k: the one of its transaction that has as many ahead, if it is alike -/
def twI (L M : List Op) (k : Nat) : Int := twF M.length M (opAt L k) 0 (cN (twP L k) k)
theorem twF_s (f : Nat) (M : List Op) (o : Op) (p c : Nat) : twF (f + 1) M o p c = if oT (opAt M p) ≠ oT o then twF f M o (p + 1) c else if c = 0 then (if opV (opAt M p) = opV o then ((p : Nat) : Int) else -1) else twF f M o (p + 1) (c - 1) := rfl
theorem cN_s (p : Nat → Bool) (n : Nat) : cN p (n + 1) = cN p n + (if p n then 1 else 0) := rfl
theorem twF_r (M : List Op) (o : Op) : ∀ f p c, -1 ≤ twF f M o p c ∧ twF f M o p c < ((p + f : Nat) : Int) := by
  intro f
  induction f with
  | zero => intro p c; exact ⟨Int.le_refl _, show (-1 : Int) < _ by omega⟩
  | succ f ih =>
    intro p c
    rw [twF_s]
    have h1 := ih (p + 1) c
    have h2 := ih (p + 1) (c - 1)
    split
    · omega
    · split
      · split <;> omega
      · omega
theorem twI_r (L M : List Op) (k : Nat) : -1 ≤ twI L M k ∧ twI L M k < ((M.length : Nat) : Int) := by
  have := twF_r M (opAt L k) M.length 0 (cN (twP L k) k)
  unfold twI; omega
def eqQ (L M : List Op) (i j : Nat) : Bool := decide (i < j) && (opConf (opAt L i) (opAt L j) && decide (twI L M j < twI L M i))
def eqP (L M : List Op) (i : Nat) : Bool := decide (twI L M i < 0) || (List.range L.length).any fun j => eqQ L M i j
def eqvB (L M : List Op) : Bool := decide (L.length = M.length) && !((List.range L.length).any fun i => eqP L M i)
def sp_areEquivalent (g : SS) (a b : Int) : SR := if !(isSl a && isSl b) then (1, 0, g) else (0, jB (eqvB (g.1.1 a.toNat) (g.1.1 b.toNat)), g)
/-- the latest write of an item among the first n of a sequence -/
def lwTo (L : List Op) (q : Nat → Nat) (x : Nat) : Nat → Int
  | 0 => -1
  | n + 1 => if oK (opAt L (q n)) = 1 ∧ oI (opAt L (q n)) = x then ((q n : Nat) : Int) else lwTo L q x n
theorem lwTo_s (L : List Op) (q : Nat → Nat) (x n : Nat) : lwTo L q x (n + 1) = if oK (opAt L (q n)) = 1 ∧ oI (opAt L (q n)) = x then ((q n : Nat) : Int) else lwTo L q x n := rfl
theorem lwTo_r {L : List Op} {q : Nat → Nat} {x : Nat} : ∀ {n}, (∀ j, j < n → q j < L.length) → -1 ≤ lwTo L q x n ∧ lwTo L q x n < ((L.length : Nat) : Int) := by
  intro n
  induction n with
  | zero => intro _; exact ⟨Int.le_refl _, show (-1 : Int) < _ by omega⟩
  | succ n ih =>
    intro h
    have := ih (fun j hj => h j (by omega))
    have := h n (by omega)
    rw [lwTo_s]
    split <;> omega
def vwP (L : List Op) (q pl : Nat → Nat) (k : Nat) : Bool := decide (oK (opAt L k) = 0) && !decide (lwTo L q (oI (opAt L k)) (pl k) = lwTo L (fun j => j) (oI (opAt L k)) k)
def vwQ (L : List Op) (q : Nat → Nat) (x : Nat) : Bool := !decide (lwTo L q x L.length = lwTo L (fun j => j) x L.length)
def vwB (L : List Op) (q pl : Nat → Nat) : Bool := !((List.range L.length).any fun k => vwP L q pl k) && !((List.range 4).any fun x => vwQ L q x)
/-- the sequence q is laid, and each operation's place in it -/
def sqIs (A : Nat → Nat → Int) (L : List Op) (q pl : Nat → Nat) : Prop := (∀ k, k < L.length → A 29 k = ((q k : Nat) : Int) ∧ q k < L.length) ∧ ∀ k, k < L.length → A 30 k = ((pl k : Nat) : Int) ∧ pl k < L.length
