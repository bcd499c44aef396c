/-! P, 11: execution on values -/
theorem j_tableEq {E : jE} {K : jK} {cc : ByteArray} {own : String} {rm : Room} {P : Heap → Prop} {cells slots pc : Nat} {vs : List (Option Value)} {st : List Value} (hk : jOK E K cc own rm) {n c : Nat} (hn : n = c) {dflt lo hi : Int} {offs : Array Int} {len : Nat} {off : Int} {tgt : Nat} (d : decode cc pc = .ok (.tableswitch dflt lo hi offs, len)) (hc : lo ≤ (c : Int) ∧ (c : Int) ≤ hi ∧ c < 1000) (ho : offs[((c : Int) - lo).toNat]? = some off) (ht : (pc : Int) + off = (tgt : Int)) (k : jW K P cells slots tgt vs st) : jW K P cells slots pc vs (.int (jI (n : Int)) :: st) := by
  subst hn
  have e : (jI ((n : Nat) : Int)).toInt = ((n : Nat) : Int) := jI_toInt (by omega)
  obtain ⟨p, l, e, R, s, m, args, below, meth, c, A, Q⟩ := K
  intro H locs ls hP hS hl hz
  exact lv_tableIn hk.1 hk.2.1 d (by omega) (by omega) (by rw [jI_toInt (by omega)]; exact ho) ht (k H locs ls hP hS hl hz)
abbrev ExS : Type := (Nat → Nat) × (Nat → Nat) × (Nat → Nat)
abbrev ExS.c (e : ExS) : Nat → Nat := Prod.fst e
abbrev ExS.g (e : ExS) : Nat → Nat := Prod.fst (Prod.snd e)
abbrev ExS.p (e : ExS) : Nat → Nat := Prod.snd (Prod.snd e)
/-- an abort puts back what the writes of t among the first n replaced, the latest first -/
def undTo (L : List Op) (t : Nat) (rp : Nat → Nat) : Nat → (Nat → Nat) → (Nat → Nat)
  | 0, c => c
  | n + 1, c => undTo L t rp n (if oT (opAt L n) = t ∧ oK (opAt L n) = 1 then nup c (oI (opAt L n)) (rp n) else c)
theorem undTo_s (L : List Op) (t : Nat) (rp : Nat → Nat) (n : Nat) (c : Nat → Nat) : undTo L t rp (n + 1) c = undTo L t rp n (if oT (opAt L n) = t ∧ oK (opAt L n) = 1 then nup c (oI (opAt L n)) (rp n) else c) := rfl
def exStep (L : List Op) (k : Nat) (e : ExS) : ExS :=
  if oK (opAt L k) = 0 then (e.c, nup e.g (oT (opAt L k)) ((e.g (oT (opAt L k)) + e.c (oI (opAt L k))) % 1000), e.p)
  else if oK (opAt L k) = 1 then (nup e.c (oI (opAt L k)) (e.g (oT (opAt L k))), e.g, nup e.p k (e.c (oI (opAt L k))))
  else if oK (opAt L k) = 3 then (undTo L (oT (opAt L k)) e.p k e.c, e.g, e.p)
  else e
def exTo (V : Nat → Nat) (L : List Op) : Nat → ExS
  | 0 => (V, fun t => t, fun _ => 0)
  | k + 1 => exStep L k (exTo V L k)
def exS (V : Nat → Nat) (L : List Op) : ExS := exTo V L L.length
def arIs (a : Nat → Int) (n : Nat) (f : Nat → Nat) : Prop := ∀ i, i < n → a i = ((f i : Nat) : Int) ∧ f i < 1000
theorem arIs.up {a : Nat → Int} {n i v : Nat} {f : Nat → Nat} (h : arIs a n f) (hv : v < 1000) : arIs (iup a i ((v : Nat) : Int)) n (nup f i v) := fun j hj => by
  by_cases e : j = i
  · subst e; rw [iup_s, nup_s]; exact ⟨rfl, hv⟩
  · rw [iup_n e, nup_n e]; exact h j hj
/-- what the first k writes replaced -/
def rpIs (a : Nat → Int) (L : List Op) (k : Nat) (f : Nat → Nat) : Prop := ∀ j, j < k → oK (opAt L j) = 1 → a j = ((f j : Nat) : Int) ∧ f j < 1000
theorem rpIs.no {a : Nat → Int} {L : List Op} {k : Nat} {f : Nat → Nat} (h : rpIs a L k f) (hk : oK (opAt L k) ≠ 1) : rpIs a L (k + 1) f := fun j hj h1 => by
  by_cases e : j = k
  · subst e; exact absurd h1 hk
  · exact h j (by omega) h1
theorem rpIs.up {a : Nat → Int} {L : List Op} {k v : Nat} {f : Nat → Nat} (h : rpIs a L k f) (hv : v < 1000) : rpIs (iup a k ((v : Nat) : Int)) L (k + 1) (nup f k v) := fun j hj h1 => by
  by_cases e : j = k
  · subst e; rw [iup_s, nup_s]; exact ⟨rfl, hv⟩
  · rw [iup_n e, nup_n e]; exact h j (by omega) h1
def sp_value (g : SS) (s c : Int) (b : Bool) : SR := if !isSl s then (1, 0, g) else if !isIt c then (2, 0, g) else (0, (((exS g.1.2 (layL (g.1.1 s.toNat) b)).c (c - 97).toNat : Nat) : Int), g)
def sp_registerOf (g : SS) (s t : Int) : SR := if !isSl s then (1, 0, g) else if !isTr t then (2, 0, g) else if !opHas (g.1.1 s.toNat) t.toNat 0 3 then (3, 0, g) else (0, (((exS g.1.2 (g.1.1 s.toNat)).g t.toNat : Nat) : Int), g)
theorem exTo_s (V : Nat → Nat) (L : List Op) (k : Nat) : exTo V L (k + 1) = exStep L k (exTo V L k) := rfl
