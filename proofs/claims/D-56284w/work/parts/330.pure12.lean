/-! P, 12: doubles and floats; the two shares -/
section DBL
variable {E : jE} {K : jK} {cc : ByteArray} {own : String} {rm : Room} {P : Heap → Prop} {cells slots pc : Nat} {vs : List (Option Value)} {st : List Value} {mc ms : Nat} {Post : Option Value → Heap → Prop}
theorem j_i2d (hk : jOK E K cc own rm) {z : Int} (d : decode cc pc = .ok (.i2d, 1)) (k : jW K P cells slots (pc + 1) vs (.double (FP.i2d (jI z)) :: st)) : jW K P cells slots pc vs (.int (jI z) :: st) := by
  obtain ⟨p, l, e, R, s, m, args, below, meth, c, A, Q⟩ := K
  intro H locs ls hP hS hl hz
  exact lv_i2d hk.1 hk.2.1 d (k H locs ls hP hS hl hz)
theorem j_i2f (hk : jOK E K cc own rm) {z : Int} (d : decode cc pc = .ok (.i2f, 1)) (k : jW K P cells slots (pc + 1) vs (.float (FP.i2f (jI z)) :: st)) : jW K P cells slots pc vs (.int (jI z) :: st) := by
  obtain ⟨p, l, e, R, s, m, args, below, meth, c, A, Q⟩ := K
  intro H locs ls hP hS hl hz
  exact lv_i2f hk.1 hk.2.1 d (k H locs ls hP hS hl hz)
theorem j_ddiv (hk : jOK E K cc own rm) {x y : UInt64} (hn : vf_n64 (FP.ddiv x y)) (d : decode cc pc = .ok (.ddiv, 1)) (k : jW K P cells slots (pc + 1) vs (.double (FP.ddiv x y) :: st)) : jW K P cells slots pc vs (.double y :: .double x :: st) := by
  obtain ⟨p, l, e, R, s, m, args, below, meth, c, A, Q⟩ := K
  intro H locs ls hP hS hl hz
  exact lv_ddiv hk.1 hk.2.1 d hn (k H locs ls hP hS hl hz)
theorem j_fdiv (hk : jOK E K cc own rm) {x y : UInt32} (hn : vf_n32 (FP.fdiv x y)) (d : decode cc pc = .ok (.fdiv, 1)) (k : jW K P cells slots (pc + 1) vs (.float (FP.fdiv x y) :: st)) : jW K P cells slots pc vs (.float y :: .float x :: st) := by
  obtain ⟨p, l, e, R, s, m, args, below, meth, c, A, Q⟩ := K
  intro H locs ls hP hS hl hz
  exact lv_fdiv hk.1 hk.2.1 d hn (k H locs ls hP hS hl hz)
theorem j_dconst0 (hk : jOK E K cc own rm) (d : decode cc pc = .ok (.dconst 0, 1)) (k : jW K P cells slots (pc + 1) vs (.double FP.dconst0 :: st)) : jW K P cells slots pc vs st := by
  obtain ⟨p, l, e, R, s, m, args, below, meth, c, A, Q⟩ := K
  intro H locs ls hP hS hl hz
  exact lv_dconst0 hk.1 hk.2.1 d (k H locs ls hP hS hl hz)
theorem j_fconst0 (hk : jOK E K cc own rm) (d : decode cc pc = .ok (.fconst 0, 1)) (k : jW K P cells slots (pc + 1) vs (.float FP.fconst0 :: st)) : jW K P cells slots pc vs st := by
  obtain ⟨p, l, e, R, s, m, args, below, meth, c, A, Q⟩ := K
  intro H locs ls hP hS hl hz
  exact lv_fconst0 hk.1 hk.2.1 d (k H locs ls hP hS hl hz)
theorem j_dret (hk : jOK E K cc own rm) (he : jEnd K (some .double) mc ms Post) {x : UInt64} (d : decode cc pc = .ok (.dreturn, 1)) (hc : cells ≤ mc) (hs : slots ≤ ms) (hq : ∀ H, P H → Post (some (.double x)) H) : jW K P cells slots pc vs [.double x] := by
  obtain ⟨p, l, e, R, s, m, args, below, meth, c, A, Q⟩ := K
  intro H locs ls hP hS hl hz
  obtain ⟨h1, rfl⟩ := he
  refine W.widen hc hs ?_
  exact W.dret hk.1 hk.2.1 h1 (fun t ht hW => ⟨⟨_, rfl, by rw [ht]; exact hq H hP⟩, hS.F ht⟩) hS.2.2 d hk.2.2.2.2.2.2.2.1
theorem j_fret (hk : jOK E K cc own rm) (he : jEnd K (some .float) mc ms Post) {x : UInt32} (d : decode cc pc = .ok (.freturn, 1)) (hc : cells ≤ mc) (hs : slots ≤ ms) (hq : ∀ H, P H → Post (some (.float x)) H) : jW K P cells slots pc vs [.float x] := by
  obtain ⟨p, l, e, R, s, m, args, below, meth, c, A, Q⟩ := K
  intro H locs ls hP hS hl hz
  obtain ⟨h1, rfl⟩ := he
  refine W.widen hc hs ?_
  exact W.fret hk.1 hk.2.1 h1 (fun t ht hW => ⟨⟨_, rfl, by rw [ht]; exact hq H hP⟩, hS.F ht⟩) hS.2.2 d hk.2.2.2.2.2.2.2.1
end DBL
def mQd (E : jE) (m : Nat) (ad : Nat → Nat) (post : UInt64 → (Nat → Nat → Int) → (Nat → Int) → Prop) : Option Value → Heap → Prop := fun v H => ∃ (r : UInt64) (A2 : Nat → Nat → Int) (F2 : Nat → Int), v = some (.double r) ∧ mAs E m ad A2 F2 H ∧ post r A2 F2
def mQf (E : jE) (m : Nat) (ad : Nat → Nat) (post : UInt32 → (Nat → Nat → Int) → (Nat → Int) → Prop) : Option Value → Heap → Prop := fun v H => ∃ (r : UInt32) (A2 : Nat → Nat → Int) (F2 : Nat → Int), v = some (.float r) ∧ mAs E m ad A2 F2 H ∧ post r A2 F2
theorem j_mdret {E : jE} {K : jK} {cc : ByteArray} {own : String} {rm : Room} {cells slots pc mc ms : Nat} {vs : List (Option Value)} {m : Nat} {ad : Nat → Nat} {A : Nat → Nat → Int} {F : Nat → Int} (hk : jOK E K cc own rm) {post : UInt64 → (Nat → Nat → Int) → (Nat → Int) → Prop} (he : jEnd K (some .double) mc ms (mQd E m ad post)) {x : UInt64} (d : decode cc pc = .ok (.dreturn, 1)) (hc : cells ≤ mc) (hs : slots ≤ ms) (hq : post x A F) : jW K (mAs E m ad A F) cells slots pc vs [.double x] :=
  j_dret hk he d hc hs (fun H h => ⟨x, A, F, rfl, h, hq⟩)
theorem j_mfret {E : jE} {K : jK} {cc : ByteArray} {own : String} {rm : Room} {cells slots pc mc ms : Nat} {vs : List (Option Value)} {m : Nat} {ad : Nat → Nat} {A : Nat → Nat → Int} {F : Nat → Int} (hk : jOK E K cc own rm) {post : UInt32 → (Nat → Nat → Int) → (Nat → Int) → Prop} (he : jEnd K (some .float) mc ms (mQf E m ad post)) {x : UInt32} (d : decode cc pc = .ok (.freturn, 1)) (hc : cells ≤ mc) (hs : slots ≤ ms) (hq : post x A F) : jW K (mAs E m ad A F) cells slots pc vs [.float x] :=
  j_fret hk he d hc hs (fun H h => ⟨x, A, F, rfl, h, hq⟩)
def mPd (x : Nat × UInt64 × SS) (r : UInt64) (A : Nat → Nat → Int) (F : Nat → Int) : Prop := x.2.1 = r ∧ F 4 = ((x.1 : Nat) : Int) ∧ mR A F x.2.2
def mPf (x : Nat × UInt32 × SS) (r : UInt32) (A : Nat → Nat → Int) (F : Nat → Int) : Prop := x.2.1 = r ∧ F 4 = ((x.1 : Nat) : Int) ∧ mR A F x.2.2
def dvD (a b : Nat) : UInt64 := FP.ddiv (FP.i2d (jI (a : Int))) (FP.i2d (jI (b : Int)))
def dvF (a b : Nat) : UInt32 := FP.fdiv (FP.i2f (jI (a : Int))) (FP.i2f (jI (b : Int)))
theorem dvD_n : ∀ a, a < 21 → ∀ b, b < 6 → b ≠ 0 → dvD a b &&& 0x7fffffffffffffff ≤ 0x7ff0000000000000 := by decide +kernel
theorem dvF_n : ∀ a, a < 21 → ∀ b, b < 21 → b ≠ 0 → dvF a b &&& 0x7fffffff ≤ 0x7f800000 := by decide +kernel
def sp_meanLength (g : SS) (s : Int) : Nat × UInt64 × SS := if !isSl s then (1, FP.dconst0, g) else if (g.1.1 s.toNat).length = 0 then (2, FP.dconst0, g) else (0, dvD (g.1.1 s.toNat).length (bitsN (pmask (g.1.1 s.toNat))), g)
def rdC (l : List Op) (j : Nat) : Bool := decide (oK (opAt l j) = 0)
def acC (l : List Op) (j : Nat) : Bool := decide (oK (opAt l j) < 2)
def sp_readShare (g : SS) (s : Int) : Nat × UInt32 × SS := if !isSl s then (1, FP.fconst0, g) else if cN (acC (g.1.1 s.toNat)) (g.1.1 s.toNat).length = 0 then (2, FP.fconst0, g) else (0, dvF (cN (rdC (g.1.1 s.toNat)) (g.1.1 s.toNat).length) (cN (acC (g.1.1 s.toNat)) (g.1.1 s.toNat).length), g)
theorem bits_pos {l : List Op} (h : slOK l) (h0 : l.length ≠ 0) : bitsN (pmask l) ≠ 0 := by
  rw [bL_bits _ (pmask_lt h.2) (pmask_even h.2)]
  intro e
  have h1 := h.at (i := 0) (by omega)
  have hm : oT (opAt l 0) ∈ bL (pmask l) := bF_mem.mpr ⟨by have := h1.2.1; have := h1.2.2.1; omega, by rw [pmask_test]; exact List.any_eq_true.mpr ⟨_, opAt_mem (by omega), beq_self_eq_true _⟩⟩
  rw [List.eq_nil_of_length_eq_zero e] at hm
  cases hm
