/-! J, 2: one judgement for a walk; rows of the pure instructions (printed by gen/mkjbase2.py) -/
abbrev jK : Type := Program × Launch × Env × Room × State × MethodId × Array Value × List Frame × Method × Code × (Nat → Prop) × (State → Prop)
/-- the start state, the classes' numbers and slots, the arrays' classes -/
abbrev jE : Type := State × va_G × (Nat → ClassId)
def jv : Nat → List (Option Value) → List (Nat × Value)
  | _, [] => []
  | i, none :: r => jv (i + 1) r
  | i, some v :: r => (i, v) :: jv (i + 1) r
def jW : jK → (Heap → Prop) → Nat → Nat → Nat → List (Option Value) → List Value → Prop
  | (p, l, e, R, s, m, args, below, meth, c, A, Q), P, cells, slots, pc, vs, st => ∀ (H : Heap) (locs : List Loc) (ls : Array Slot), P H → va_S A s.heap H locs → lv_has ls c.maxLocals (jv 0 vs) → vs.length = c.maxLocals → W p l e R s m args below meth c H locs cells slots Q (F0 m pc ls st)
/-- a state of the run: its tables are the start's, warmer; the start's cells stand as they were -/
def jG (S0 U : State) : Prop := S0.WarmedH U.vm ∧ S0.heap.size ≤ U.heap.size ∧ ∀ q : Nat, q < S0.heap.size → U.heap[q]? = S0.heap[q]?
def jOK (E : jE) : jK → ByteArray → String → Room → Prop
  | (p, l, e, R, s, m, args, below, meth, c, A, Q), cc, own, rm => p.tables.exec = Jvm.exec ∧ c.code = cc ∧ s.vm.findClass own = some m.cls ∧ (∀ w ∈ lw_all, w.before args s = true) ∧ (∀ q : Nat, s.heap.size ≤ q → A q) ∧ jG E.1 s ∧ (∀ q : Nat, q < E.1.heap.size → ¬ A q) ∧ meth.locks = false ∧ R = rm ∧ l.stackTraces = false
theorem jv_mem {vs : List (Option Value)} {i j : Nat} {v : Value} (h : vs[j]? = some (some v)) : (i + j, v) ∈ jv i vs := by
  induction vs generalizing i j with
  | nil => simp at h
  | cons x r ih =>
    cases j with
    | zero =>
      simp at h
      subst h
      exact List.mem_cons_self
    | succ j =>
      have h' : r[j]? = some (some v) := by simpa using h
      have := ih (i := i + 1) h'
      rw [show i + 1 + j = i + (j + 1) by omega] at this
      cases x with
      | none => exact this
      | some x => exact List.mem_cons_of_mem _ this
theorem jv_of {vs : List (Option Value)} {i : Nat} {q : Nat × Value} (h : q ∈ jv i vs) : ∃ j, q.1 = i + j ∧ vs[j]? = some (some q.2) := by
  induction vs generalizing i with
  | nil => cases h
  | cons x r ih =>
    cases x with
    | none =>
      obtain ⟨j, h1, h2⟩ := ih h
      exact ⟨j + 1, by omega, by simpa using h2⟩
    | some x =>
      rcases List.mem_cons.mp h with h | h
      · subst h
        exact ⟨0, rfl, rfl⟩
      · obtain ⟨j, h1, h2⟩ := ih h
        exact ⟨j + 1, by omega, by simpa using h2⟩
theorem jv_at {vs : List (Option Value)} {ls : Array Slot} {n j : Nat} {v : Value} (hl : lv_has ls n (jv 0 vs)) (h : vs[j]? = some (some v)) : ls[j]? = some (.val v) := by
  have := hl.2.2 _ (jv_mem (i := 0) h)
  simpa using this
/-- the place ahead holds no first half of a long -/
def jc1 (vs : List (Option Value)) (i : Nat) : Bool := match i with
  | 0 => true
  | i + 1 => match vs[i]? with
    | some (some v) => v.category == 1
    | _ => true
theorem jv_put {vs : List (Option Value)} {ls : Array Slot} {n i : Nat} {v : Value} (hc : jc1 vs i = true) (hi : i < vs.length) (h : lv_has ls n ((i, v) :: (jv 0 vs).filter (fun q => !(q.1 == i) && !(q.1 + 1 == i && q.2.category == 2)))) : lv_has ls n (jv 0 (vs.set i (some v))) := by
  refine ⟨h.1, h.2.1, fun q hq => ?_⟩
  obtain ⟨j, h1, h2⟩ := jv_of hq
  have h1 : q.1 = j := by omega
  by_cases hj : j = i
  · subst hj
    rw [List.getElem?_set_self hi] at h2
    have : q = (j, v) := Prod.ext h1 (by simpa using h2.symm)
    rw [this]
    exact h.2.2 _ List.mem_cons_self
  · rw [List.getElem?_set_ne (Ne.symm hj)] at h2
    have hm : q ∈ jv 0 vs := by
      have := jv_mem (i := 0) h2
      rw [Nat.zero_add] at this
      rwa [show q = (j, q.2) from Prod.ext h1 rfl]
    refine h.2.2 _ (List.mem_cons_of_mem _ (List.mem_filter.mpr ⟨hm, ?_⟩))
    have e1 : (q.1 == i) = false := by rw [h1]; simpa using hj
    rw [e1]
    by_cases hk : j + 1 = i
    · subst hk
      unfold jc1 at hc
      simp only [h2] at hc
      have : q.2.category = 1 := by simpa using hc
      rw [this]; simp
    · have e2 : (q.1 + 1 == i) = false := by rw [h1]; simpa using hk
      rw [e2]; rfl
theorem jv_put2 {vs : List (Option Value)} {ls : Array Slot} {n i : Nat} {v : Value} (hc : jc1 vs i = true) (hi : i + 1 < vs.length) (h : lv_has ls n ((i, v) :: (jv 0 vs).filter (fun q => !(q.1 == i) && (!(q.1 == i + 1) && !(q.1 + 1 == i && q.2.category == 2))))) : lv_has ls n (jv 0 ((vs.set i (some v)).set (i + 1) none)) := by
  refine ⟨h.1, h.2.1, fun q hq => ?_⟩
  obtain ⟨j, h1, h2⟩ := jv_of hq
  have h1 : q.1 = j := by omega
  by_cases hj1 : j = i + 1
  · subst hj1
    rw [List.getElem?_set_self (by rw [List.length_set]; exact hi)] at h2
    simp at h2
  rw [List.getElem?_set_ne (Ne.symm hj1)] at h2
  by_cases hj : j = i
  · subst hj
    rw [List.getElem?_set_self (by omega)] at h2
    have : q = (j, v) := Prod.ext h1 (by simpa using h2.symm)
    rw [this]
    exact h.2.2 _ List.mem_cons_self
  · rw [List.getElem?_set_ne (Ne.symm hj)] at h2
    have hm : q ∈ jv 0 vs := by
      have := jv_mem (i := 0) h2
      rw [Nat.zero_add] at this
      rwa [show q = (j, q.2) from Prod.ext h1 rfl]
    refine h.2.2 _ (List.mem_cons_of_mem _ (List.mem_filter.mpr ⟨hm, ?_⟩))
    have e1 : (q.1 == i) = false := by rw [h1]; simpa using hj
    have e3 : (q.1 == i + 1) = false := by rw [h1]; simpa using hj1
    rw [e1, e3]
    by_cases hk : j + 1 = i
    · subst hk
      unfold jc1 at hc
      simp only [h2] at hc
      have : q.2.category = 1 := by simpa using hc
      rw [this]; simp
    · have e2 : (q.1 + 1 == i) = false := by rw [h1]; simpa using hk
      rw [e2]; rfl

def jok1 : Option Value → Bool
  | some v => v.category == 1
  | none => true
theorem jc1_p1 {a0 x : Option Value} {r : List (Option Value)} (h : jok1 a0 = true) : jc1 (a0 :: x :: r) 1 = true := by
  cases a0 with
  | none => rfl
  | some v => exact h
theorem jc1_p2 {a0 a1 x : Option Value} {r : List (Option Value)} (h : jok1 a1 = true) : jc1 (a0 :: a1 :: x :: r) 2 = true := by
  cases a1 with
  | none => rfl
  | some v => exact h
theorem jc1_p3 {a0 a1 a2 x : Option Value} {r : List (Option Value)} (h : jok1 a2 = true) : jc1 (a0 :: a1 :: a2 :: x :: r) 3 = true := by
  cases a2 with
  | none => rfl
  | some v => exact h
theorem jc1_p4 {a0 a1 a2 a3 x : Option Value} {r : List (Option Value)} (h : jok1 a3 = true) : jc1 (a0 :: a1 :: a2 :: a3 :: x :: r) 4 = true := by
  cases a3 with
  | none => rfl
  | some v => exact h
theorem jc1_p5 {a0 a1 a2 a3 a4 x : Option Value} {r : List (Option Value)} (h : jok1 a4 = true) : jc1 (a0 :: a1 :: a2 :: a3 :: a4 :: x :: r) 5 = true := by
  cases a4 with
  | none => rfl
  | some v => exact h
theorem jc1_p6 {a0 a1 a2 a3 a4 a5 x : Option Value} {r : List (Option Value)} (h : jok1 a5 = true) : jc1 (a0 :: a1 :: a2 :: a3 :: a4 :: a5 :: x :: r) 6 = true := by
  cases a5 with
  | none => rfl
  | some v => exact h
theorem jc1_p7 {a0 a1 a2 a3 a4 a5 a6 x : Option Value} {r : List (Option Value)} (h : jok1 a6 = true) : jc1 (a0 :: a1 :: a2 :: a3 :: a4 :: a5 :: a6 :: x :: r) 7 = true := by
  cases a6 with
  | none => rfl
  | some v => exact h
theorem jc1_p8 {a0 a1 a2 a3 a4 a5 a6 a7 x : Option Value} {r : List (Option Value)} (h : jok1 a7 = true) : jc1 (a0 :: a1 :: a2 :: a3 :: a4 :: a5 :: a6 :: a7 :: x :: r) 8 = true := by
  cases a7 with
  | none => rfl
  | some v => exact h
theorem jc1_p9 {a0 a1 a2 a3 a4 a5 a6 a7 a8 x : Option Value} {r : List (Option Value)} (h : jok1 a8 = true) : jc1 (a0 :: a1 :: a2 :: a3 :: a4 :: a5 :: a6 :: a7 :: a8 :: x :: r) 9 = true := by
  cases a8 with
  | none => rfl
  | some v => exact h
theorem jc1_p10 {a0 a1 a2 a3 a4 a5 a6 a7 a8 a9 x : Option Value} {r : List (Option Value)} (h : jok1 a9 = true) : jc1 (a0 :: a1 :: a2 :: a3 :: a4 :: a5 :: a6 :: a7 :: a8 :: a9 :: x :: r) 10 = true := by
  cases a9 with
  | none => rfl
  | some v => exact h
theorem jc1_p11 {a0 a1 a2 a3 a4 a5 a6 a7 a8 a9 a10 x : Option Value} {r : List (Option Value)} (h : jok1 a10 = true) : jc1 (a0 :: a1 :: a2 :: a3 :: a4 :: a5 :: a6 :: a7 :: a8 :: a9 :: a10 :: x :: r) 11 = true := by
  cases a10 with
  | none => rfl
  | some v => exact h
theorem jc1_p12 {a0 a1 a2 a3 a4 a5 a6 a7 a8 a9 a10 a11 x : Option Value} {r : List (Option Value)} (h : jok1 a11 = true) : jc1 (a0 :: a1 :: a2 :: a3 :: a4 :: a5 :: a6 :: a7 :: a8 :: a9 :: a10 :: a11 :: x :: r) 12 = true := by
  cases a11 with
  | none => rfl
  | some v => exact h
theorem jc1_p13 {a0 a1 a2 a3 a4 a5 a6 a7 a8 a9 a10 a11 a12 x : Option Value} {r : List (Option Value)} (h : jok1 a12 = true) : jc1 (a0 :: a1 :: a2 :: a3 :: a4 :: a5 :: a6 :: a7 :: a8 :: a9 :: a10 :: a11 :: a12 :: x :: r) 13 = true := by
  cases a12 with
  | none => rfl
  | some v => exact h
theorem jc1_p14 {a0 a1 a2 a3 a4 a5 a6 a7 a8 a9 a10 a11 a12 a13 x : Option Value} {r : List (Option Value)} (h : jok1 a13 = true) : jc1 (a0 :: a1 :: a2 :: a3 :: a4 :: a5 :: a6 :: a7 :: a8 :: a9 :: a10 :: a11 :: a12 :: a13 :: x :: r) 14 = true := by
  cases a13 with
  | none => rfl
  | some v => exact h
theorem jc1_p15 {a0 a1 a2 a3 a4 a5 a6 a7 a8 a9 a10 a11 a12 a13 a14 x : Option Value} {r : List (Option Value)} (h : jok1 a14 = true) : jc1 (a0 :: a1 :: a2 :: a3 :: a4 :: a5 :: a6 :: a7 :: a8 :: a9 :: a10 :: a11 :: a12 :: a13 :: a14 :: x :: r) 15 = true := by
  cases a14 with
  | none => rfl
  | some v => exact h
section JROWS
variable {E : jE} {K : jK} {cc : ByteArray} {own : String} {rm : Room} {P : Heap → Prop} {cells slots pc : Nat} {vs : List (Option Value)} {st : List Value}
theorem j_iconst (hk : jOK E K cc own rm) {n : Int} (d : decode cc pc = .ok (.iconst n, 1)) (k : jW K P cells slots (pc + 1) vs (.int (jI n) :: st)) : jW K P cells slots pc vs st := by
  obtain ⟨p, l, e, R, s, m, args, below, meth, c, A, Q⟩ := K
  intro H locs ls hP hS hl hz
  exact lv_iconst hk.1 hk.2.1 d rfl (k H locs ls hP hS hl hz)
theorem j_bipush (hk : jOK E K cc own rm) {n : Int} (hv : (Int8.ofInt n).toInt32 = jI n) (d : decode cc pc = .ok (.bipush n, 2)) (k : jW K P cells slots (pc + 2) vs (.int (jI n) :: st)) : jW K P cells slots pc vs st := by
  obtain ⟨p, l, e, R, s, m, args, below, meth, c, A, Q⟩ := K
  intro H locs ls hP hS hl hz
  exact lv_bipush hk.1 hk.2.1 d hv (k H locs ls hP hS hl hz)
theorem j_sipush (hk : jOK E K cc own rm) {n : Int} (hv : (Int16.ofInt n).toInt32 = jI n) (d : decode cc pc = .ok (.sipush n, 3)) (k : jW K P cells slots (pc + 3) vs (.int (jI n) :: st)) : jW K P cells slots pc vs st := by
  obtain ⟨p, l, e, R, s, m, args, below, meth, c, A, Q⟩ := K
  intro H locs ls hP hS hl hz
  exact lv_sipush hk.1 hk.2.1 d hv (k H locs ls hP hS hl hz)
theorem j_null (hk : jOK E K cc own rm) (d : decode cc pc = .ok (.aconst_null, 1)) (k : jW K P cells slots (pc + 1) vs (.null :: st)) : jW K P cells slots pc vs st := by
  obtain ⟨p, l, e, R, s, m, args, below, meth, c, A, Q⟩ := K
  intro H locs ls hP hS hl hz
  exact lv_null hk.1 hk.2.1 d (k H locs ls hP hS hl hz)
theorem j_ild4 (hk : jOK E K cc own rm) {k0 : Fin 4} {i : Nat} {z : Int} (d : decode cc pc = .ok (.iload_n k0, 1)) (hi : (k0 : Nat) = i) (hv : vs[i]? = some (some (.int (jI z)))) (k : jW K P cells slots (pc + 1) vs (.int (jI z) :: st)) : jW K P cells slots pc vs st := by
  obtain ⟨p, l, e, R, s, m, args, below, meth, c, A, Q⟩ := K
  intro H locs ls hP hS hl hz
  exact lv_iload_n hk.1 hk.2.1 d hi (jv_at hl hv) (k H locs ls hP hS hl hz)
theorem j_ild (hk : jOK E K cc own rm) {i : Nat} {z : Int} (d : decode cc pc = .ok (.iload i, 2)) (hv : vs[i]? = some (some (.int (jI z)))) (k : jW K P cells slots (pc + 2) vs (.int (jI z) :: st)) : jW K P cells slots pc vs st := by
  obtain ⟨p, l, e, R, s, m, args, below, meth, c, A, Q⟩ := K
  intro H locs ls hP hS hl hz
  exact lv_iload hk.1 hk.2.1 d (jv_at hl hv) (k H locs ls hP hS hl hz)
theorem j_ald4 (hk : jOK E K cc own rm) {k0 : Fin 4} {i : Nat} {a : Nat} (d : decode cc pc = .ok (.aload_n k0, 1)) (hi : (k0 : Nat) = i) (hv : vs[i]? = some (some (.ref a))) (k : jW K P cells slots (pc + 1) vs (.ref a :: st)) : jW K P cells slots pc vs st := by
  obtain ⟨p, l, e, R, s, m, args, below, meth, c, A, Q⟩ := K
  intro H locs ls hP hS hl hz
  exact lv_aload_n hk.1 hk.2.1 d hi (jv_at hl hv) (k H locs ls hP hS hl hz)
theorem j_ald (hk : jOK E K cc own rm) {i : Nat} {a : Nat} (d : decode cc pc = .ok (.aload i, 2)) (hv : vs[i]? = some (some (.ref a))) (k : jW K P cells slots (pc + 2) vs (.ref a :: st)) : jW K P cells slots pc vs st := by
  obtain ⟨p, l, e, R, s, m, args, below, meth, c, A, Q⟩ := K
  intro H locs ls hP hS hl hz
  exact lv_aload hk.1 hk.2.1 d (jv_at hl hv) (k H locs ls hP hS hl hz)
theorem j_ald4N (hk : jOK E K cc own rm) {k0 : Fin 4} {i : Nat} (d : decode cc pc = .ok (.aload_n k0, 1)) (hi : (k0 : Nat) = i) (hv : vs[i]? = some (some .null)) (k : jW K P cells slots (pc + 1) vs (.null :: st)) : jW K P cells slots pc vs st := by
  obtain ⟨p, l, e, R, s, m, args, below, meth, c, A, Q⟩ := K
  intro H locs ls hP hS hl hz
  exact lv_aload_nN hk.1 hk.2.1 d hi (jv_at hl hv) (k H locs ls hP hS hl hz)
theorem j_aldN (hk : jOK E K cc own rm) {i : Nat} (d : decode cc pc = .ok (.aload i, 2)) (hv : vs[i]? = some (some .null)) (k : jW K P cells slots (pc + 2) vs (.null :: st)) : jW K P cells slots pc vs st := by
  obtain ⟨p, l, e, R, s, m, args, below, meth, c, A, Q⟩ := K
  intro H locs ls hP hS hl hz
  exact lv_aloadN hk.1 hk.2.1 d (jv_at hl hv) (k H locs ls hP hS hl hz)
theorem j_istg4 (hk : jOK E K cc own rm) {z : Int} {i : Nat} {vs2 : List (Option Value)} {k0 : Fin 4} (hi4 : (k0 : Nat) = i) (d : decode cc pc = .ok (.istore_n k0, 1)) (hi : i < vs.length) (hc : jc1 vs i = true) (e2 : vs.set i (some (.int (jI z))) = vs2) (k : jW K P cells slots (pc + 1) vs2 st) : jW K P cells slots pc vs (.int (jI z) :: st) := by
  obtain ⟨p, l, e, R, s, m, args, below, meth, c, A, Q⟩ := K
  intro H locs ls hP hS hl hz
  refine lv_istore_n hk.1 hk.2.1 d hi4 hl (by omega) rfl (fun ls2 h2 => ?_)
  subst e2
  exact k H locs ls2 hP hS (jv_put hc hi h2) (by rw [List.length_set]; exact hz)
theorem j_istg (hk : jOK E K cc own rm) {z : Int} {i : Nat} {vs2 : List (Option Value)} (d : decode cc pc = .ok (.istore i, 2)) (hi : i < vs.length) (hc : jc1 vs i = true) (e2 : vs.set i (some (.int (jI z))) = vs2) (k : jW K P cells slots (pc + 2) vs2 st) : jW K P cells slots pc vs (.int (jI z) :: st) := by
  obtain ⟨p, l, e, R, s, m, args, below, meth, c, A, Q⟩ := K
  intro H locs ls hP hS hl hz
  refine lv_istore hk.1 hk.2.1 d hl (by omega) rfl (fun ls2 h2 => ?_)
  subst e2
  exact k H locs ls2 hP hS (jv_put hc hi h2) (by rw [List.length_set]; exact hz)
theorem j_astg4 (hk : jOK E K cc own rm) {a : Nat} {i : Nat} {vs2 : List (Option Value)} {k0 : Fin 4} (hi4 : (k0 : Nat) = i) (d : decode cc pc = .ok (.astore_n k0, 1)) (hi : i < vs.length) (hc : jc1 vs i = true) (e2 : vs.set i (some (.ref a)) = vs2) (k : jW K P cells slots (pc + 1) vs2 st) : jW K P cells slots pc vs (.ref a :: st) := by
  obtain ⟨p, l, e, R, s, m, args, below, meth, c, A, Q⟩ := K
  intro H locs ls hP hS hl hz
  refine lv_astore_n hk.1 hk.2.1 d hi4 hl (by omega) rfl (fun ls2 h2 => ?_)
  subst e2
  exact k H locs ls2 hP hS (jv_put hc hi h2) (by rw [List.length_set]; exact hz)
theorem j_astg (hk : jOK E K cc own rm) {a : Nat} {i : Nat} {vs2 : List (Option Value)} (d : decode cc pc = .ok (.astore i, 2)) (hi : i < vs.length) (hc : jc1 vs i = true) (e2 : vs.set i (some (.ref a)) = vs2) (k : jW K P cells slots (pc + 2) vs2 st) : jW K P cells slots pc vs (.ref a :: st) := by
  obtain ⟨p, l, e, R, s, m, args, below, meth, c, A, Q⟩ := K
  intro H locs ls hP hS hl hz
  refine lv_astore hk.1 hk.2.1 d hl (by omega) rfl (fun ls2 h2 => ?_)
  subst e2
  exact k H locs ls2 hP hS (jv_put hc hi h2) (by rw [List.length_set]; exact hz)
theorem j_astNg4 (hk : jOK E K cc own rm) {i : Nat} {vs2 : List (Option Value)} {k0 : Fin 4} (hi4 : (k0 : Nat) = i) (d : decode cc pc = .ok (.astore_n k0, 1)) (hi : i < vs.length) (hc : jc1 vs i = true) (e2 : vs.set i (some (.null)) = vs2) (k : jW K P cells slots (pc + 1) vs2 st) : jW K P cells slots pc vs (.null :: st) := by
  obtain ⟨p, l, e, R, s, m, args, below, meth, c, A, Q⟩ := K
  intro H locs ls hP hS hl hz
  refine lv_astore_nN hk.1 hk.2.1 d hi4 hl (by omega) rfl (fun ls2 h2 => ?_)
  subst e2
  exact k H locs ls2 hP hS (jv_put hc hi h2) (by rw [List.length_set]; exact hz)
theorem j_astNg (hk : jOK E K cc own rm) {i : Nat} {vs2 : List (Option Value)} (d : decode cc pc = .ok (.astore i, 2)) (hi : i < vs.length) (hc : jc1 vs i = true) (e2 : vs.set i (some (.null)) = vs2) (k : jW K P cells slots (pc + 2) vs2 st) : jW K P cells slots pc vs (.null :: st) := by
  obtain ⟨p, l, e, R, s, m, args, below, meth, c, A, Q⟩ := K
  intro H locs ls hP hS hl hz
  refine lv_astoreN hk.1 hk.2.1 d hl (by omega) rfl (fun ls2 h2 => ?_)
  subst e2
  exact k H locs ls2 hP hS (jv_put hc hi h2) (by rw [List.length_set]; exact hz)
theorem j_iinc (hk : jOK E K cc own rm) {i : Nat} {n z : Int} {vs2 : List (Option Value)} (d : decode cc pc = .ok (.iinc i n, 3)) (hv : vs[i]? = some (some (.int (jI z)))) (hc : jc1 vs i = true) (e2 : vs.set i (some (.int (jI (z + n)))) = vs2) (k : jW K P cells slots (pc + 3) vs2 st) : jW K P cells slots pc vs st := by
  obtain ⟨p, l, e, R, s, m, args, below, meth, c, A, Q⟩ := K
  intro H locs ls hP hS hl hz
  have hi : i < vs.length := (List.getElem?_eq_some_iff.mp hv).1
  obtain ⟨q, hq⟩ := List.getElem?_of_mem (jv_mem (i := 0) hv)
  rw [Nat.zero_add] at hq
  refine lv_iinc (v := jI (z + n)) hk.1 hk.2.1 d hl hq (jI_add z n) (by omega) rfl (fun ls2 h2 => ?_)
  subst e2
  exact k H locs ls2 hP hS (jv_put hc hi h2) (by rw [List.length_set]; exact hz)
theorem j_ist0 (hk : jOK E K cc own rm) {x : Option Value} {r : List (Option Value)} {z : Int} (d : decode cc pc = .ok (.istore_n 0, 1)) (k : jW K P cells slots (pc + 1) (some (.int (jI z)) :: r) st) : jW K P cells slots pc (x :: r) (.int (jI z) :: st) := j_istg4 hk (i := 0) rfl d (by simp) (by rfl) rfl k
theorem j_ast0 (hk : jOK E K cc own rm) {x : Option Value} {r : List (Option Value)} {a : Nat} (d : decode cc pc = .ok (.astore_n 0, 1)) (k : jW K P cells slots (pc + 1) (some (.ref a) :: r) st) : jW K P cells slots pc (x :: r) (.ref a :: st) := j_astg4 hk (i := 0) rfl d (by simp) (by rfl) rfl k
theorem j_astN0 (hk : jOK E K cc own rm) {x : Option Value} {r : List (Option Value)} (d : decode cc pc = .ok (.astore_n 0, 1)) (k : jW K P cells slots (pc + 1) (some (.null) :: r) st) : jW K P cells slots pc (x :: r) (.null :: st) := j_astNg4 hk (i := 0) rfl d (by simp) (by rfl) rfl k
theorem j_iinc0 (hk : jOK E K cc own rm) {r : List (Option Value)} {z n : Int} (d : decode cc pc = .ok (.iinc 0 n, 3)) (k : jW K P cells slots (pc + 3) (some (.int (jI (z + n))) :: r) st) : jW K P cells slots pc (some (.int (jI z)) :: r) st := j_iinc hk (i := 0) d rfl rfl rfl k
theorem j_ist1 (hk : jOK E K cc own rm) {a0 x : Option Value} {r : List (Option Value)} {z : Int} (d : decode cc pc = .ok (.istore_n 1, 1)) (hc : jok1 a0 = true) (k : jW K P cells slots (pc + 1) (a0 :: some (.int (jI z)) :: r) st) : jW K P cells slots pc (a0 :: x :: r) (.int (jI z) :: st) := j_istg4 hk (i := 1) rfl d (by simp) (jc1_p1 hc) rfl k
theorem j_ast1 (hk : jOK E K cc own rm) {a0 x : Option Value} {r : List (Option Value)} {a : Nat} (d : decode cc pc = .ok (.astore_n 1, 1)) (hc : jok1 a0 = true) (k : jW K P cells slots (pc + 1) (a0 :: some (.ref a) :: r) st) : jW K P cells slots pc (a0 :: x :: r) (.ref a :: st) := j_astg4 hk (i := 1) rfl d (by simp) (jc1_p1 hc) rfl k
theorem j_astN1 (hk : jOK E K cc own rm) {a0 x : Option Value} {r : List (Option Value)} (d : decode cc pc = .ok (.astore_n 1, 1)) (hc : jok1 a0 = true) (k : jW K P cells slots (pc + 1) (a0 :: some (.null) :: r) st) : jW K P cells slots pc (a0 :: x :: r) (.null :: st) := j_astNg4 hk (i := 1) rfl d (by simp) (jc1_p1 hc) rfl k
theorem j_iinc1 (hk : jOK E K cc own rm) {a0 : Option Value} {r : List (Option Value)} {z n : Int} (d : decode cc pc = .ok (.iinc 1 n, 3)) (hc : jok1 a0 = true) (k : jW K P cells slots (pc + 3) (a0 :: some (.int (jI (z + n))) :: r) st) : jW K P cells slots pc (a0 :: some (.int (jI z)) :: r) st := j_iinc hk (i := 1) d rfl (jc1_p1 hc) rfl k
theorem j_ist2 (hk : jOK E K cc own rm) {a0 a1 x : Option Value} {r : List (Option Value)} {z : Int} (d : decode cc pc = .ok (.istore_n 2, 1)) (hc : jok1 a1 = true) (k : jW K P cells slots (pc + 1) (a0 :: a1 :: some (.int (jI z)) :: r) st) : jW K P cells slots pc (a0 :: a1 :: x :: r) (.int (jI z) :: st) := j_istg4 hk (i := 2) rfl d (by simp) (jc1_p2 hc) rfl k
theorem j_ast2 (hk : jOK E K cc own rm) {a0 a1 x : Option Value} {r : List (Option Value)} {a : Nat} (d : decode cc pc = .ok (.astore_n 2, 1)) (hc : jok1 a1 = true) (k : jW K P cells slots (pc + 1) (a0 :: a1 :: some (.ref a) :: r) st) : jW K P cells slots pc (a0 :: a1 :: x :: r) (.ref a :: st) := j_astg4 hk (i := 2) rfl d (by simp) (jc1_p2 hc) rfl k
theorem j_astN2 (hk : jOK E K cc own rm) {a0 a1 x : Option Value} {r : List (Option Value)} (d : decode cc pc = .ok (.astore_n 2, 1)) (hc : jok1 a1 = true) (k : jW K P cells slots (pc + 1) (a0 :: a1 :: some (.null) :: r) st) : jW K P cells slots pc (a0 :: a1 :: x :: r) (.null :: st) := j_astNg4 hk (i := 2) rfl d (by simp) (jc1_p2 hc) rfl k
theorem j_iinc2 (hk : jOK E K cc own rm) {a0 a1 : Option Value} {r : List (Option Value)} {z n : Int} (d : decode cc pc = .ok (.iinc 2 n, 3)) (hc : jok1 a1 = true) (k : jW K P cells slots (pc + 3) (a0 :: a1 :: some (.int (jI (z + n))) :: r) st) : jW K P cells slots pc (a0 :: a1 :: some (.int (jI z)) :: r) st := j_iinc hk (i := 2) d rfl (jc1_p2 hc) rfl k
theorem j_ist3 (hk : jOK E K cc own rm) {a0 a1 a2 x : Option Value} {r : List (Option Value)} {z : Int} (d : decode cc pc = .ok (.istore_n 3, 1)) (hc : jok1 a2 = true) (k : jW K P cells slots (pc + 1) (a0 :: a1 :: a2 :: some (.int (jI z)) :: r) st) : jW K P cells slots pc (a0 :: a1 :: a2 :: x :: r) (.int (jI z) :: st) := j_istg4 hk (i := 3) rfl d (by simp) (jc1_p3 hc) rfl k
theorem j_ast3 (hk : jOK E K cc own rm) {a0 a1 a2 x : Option Value} {r : List (Option Value)} {a : Nat} (d : decode cc pc = .ok (.astore_n 3, 1)) (hc : jok1 a2 = true) (k : jW K P cells slots (pc + 1) (a0 :: a1 :: a2 :: some (.ref a) :: r) st) : jW K P cells slots pc (a0 :: a1 :: a2 :: x :: r) (.ref a :: st) := j_astg4 hk (i := 3) rfl d (by simp) (jc1_p3 hc) rfl k
theorem j_astN3 (hk : jOK E K cc own rm) {a0 a1 a2 x : Option Value} {r : List (Option Value)} (d : decode cc pc = .ok (.astore_n 3, 1)) (hc : jok1 a2 = true) (k : jW K P cells slots (pc + 1) (a0 :: a1 :: a2 :: some (.null) :: r) st) : jW K P cells slots pc (a0 :: a1 :: a2 :: x :: r) (.null :: st) := j_astNg4 hk (i := 3) rfl d (by simp) (jc1_p3 hc) rfl k
theorem j_iinc3 (hk : jOK E K cc own rm) {a0 a1 a2 : Option Value} {r : List (Option Value)} {z n : Int} (d : decode cc pc = .ok (.iinc 3 n, 3)) (hc : jok1 a2 = true) (k : jW K P cells slots (pc + 3) (a0 :: a1 :: a2 :: some (.int (jI (z + n))) :: r) st) : jW K P cells slots pc (a0 :: a1 :: a2 :: some (.int (jI z)) :: r) st := j_iinc hk (i := 3) d rfl (jc1_p3 hc) rfl k
theorem j_ist4 (hk : jOK E K cc own rm) {a0 a1 a2 a3 x : Option Value} {r : List (Option Value)} {z : Int} (d : decode cc pc = .ok (.istore 4, 2)) (hc : jok1 a3 = true) (k : jW K P cells slots (pc + 2) (a0 :: a1 :: a2 :: a3 :: some (.int (jI z)) :: r) st) : jW K P cells slots pc (a0 :: a1 :: a2 :: a3 :: x :: r) (.int (jI z) :: st) := j_istg hk (i := 4) d (by simp) (jc1_p4 hc) rfl k
theorem j_ast4 (hk : jOK E K cc own rm) {a0 a1 a2 a3 x : Option Value} {r : List (Option Value)} {a : Nat} (d : decode cc pc = .ok (.astore 4, 2)) (hc : jok1 a3 = true) (k : jW K P cells slots (pc + 2) (a0 :: a1 :: a2 :: a3 :: some (.ref a) :: r) st) : jW K P cells slots pc (a0 :: a1 :: a2 :: a3 :: x :: r) (.ref a :: st) := j_astg hk (i := 4) d (by simp) (jc1_p4 hc) rfl k
theorem j_astN4 (hk : jOK E K cc own rm) {a0 a1 a2 a3 x : Option Value} {r : List (Option Value)} (d : decode cc pc = .ok (.astore 4, 2)) (hc : jok1 a3 = true) (k : jW K P cells slots (pc + 2) (a0 :: a1 :: a2 :: a3 :: some (.null) :: r) st) : jW K P cells slots pc (a0 :: a1 :: a2 :: a3 :: x :: r) (.null :: st) := j_astNg hk (i := 4) d (by simp) (jc1_p4 hc) rfl k
theorem j_iinc4 (hk : jOK E K cc own rm) {a0 a1 a2 a3 : Option Value} {r : List (Option Value)} {z n : Int} (d : decode cc pc = .ok (.iinc 4 n, 3)) (hc : jok1 a3 = true) (k : jW K P cells slots (pc + 3) (a0 :: a1 :: a2 :: a3 :: some (.int (jI (z + n))) :: r) st) : jW K P cells slots pc (a0 :: a1 :: a2 :: a3 :: some (.int (jI z)) :: r) st := j_iinc hk (i := 4) d rfl (jc1_p4 hc) rfl k
theorem j_ist5 (hk : jOK E K cc own rm) {a0 a1 a2 a3 a4 x : Option Value} {r : List (Option Value)} {z : Int} (d : decode cc pc = .ok (.istore 5, 2)) (hc : jok1 a4 = true) (k : jW K P cells slots (pc + 2) (a0 :: a1 :: a2 :: a3 :: a4 :: some (.int (jI z)) :: r) st) : jW K P cells slots pc (a0 :: a1 :: a2 :: a3 :: a4 :: x :: r) (.int (jI z) :: st) := j_istg hk (i := 5) d (by simp) (jc1_p5 hc) rfl k
theorem j_ast5 (hk : jOK E K cc own rm) {a0 a1 a2 a3 a4 x : Option Value} {r : List (Option Value)} {a : Nat} (d : decode cc pc = .ok (.astore 5, 2)) (hc : jok1 a4 = true) (k : jW K P cells slots (pc + 2) (a0 :: a1 :: a2 :: a3 :: a4 :: some (.ref a) :: r) st) : jW K P cells slots pc (a0 :: a1 :: a2 :: a3 :: a4 :: x :: r) (.ref a :: st) := j_astg hk (i := 5) d (by simp) (jc1_p5 hc) rfl k
theorem j_astN5 (hk : jOK E K cc own rm) {a0 a1 a2 a3 a4 x : Option Value} {r : List (Option Value)} (d : decode cc pc = .ok (.astore 5, 2)) (hc : jok1 a4 = true) (k : jW K P cells slots (pc + 2) (a0 :: a1 :: a2 :: a3 :: a4 :: some (.null) :: r) st) : jW K P cells slots pc (a0 :: a1 :: a2 :: a3 :: a4 :: x :: r) (.null :: st) := j_astNg hk (i := 5) d (by simp) (jc1_p5 hc) rfl k
theorem j_iinc5 (hk : jOK E K cc own rm) {a0 a1 a2 a3 a4 : Option Value} {r : List (Option Value)} {z n : Int} (d : decode cc pc = .ok (.iinc 5 n, 3)) (hc : jok1 a4 = true) (k : jW K P cells slots (pc + 3) (a0 :: a1 :: a2 :: a3 :: a4 :: some (.int (jI (z + n))) :: r) st) : jW K P cells slots pc (a0 :: a1 :: a2 :: a3 :: a4 :: some (.int (jI z)) :: r) st := j_iinc hk (i := 5) d rfl (jc1_p5 hc) rfl k
theorem j_ist6 (hk : jOK E K cc own rm) {a0 a1 a2 a3 a4 a5 x : Option Value} {r : List (Option Value)} {z : Int} (d : decode cc pc = .ok (.istore 6, 2)) (hc : jok1 a5 = true) (k : jW K P cells slots (pc + 2) (a0 :: a1 :: a2 :: a3 :: a4 :: a5 :: some (.int (jI z)) :: r) st) : jW K P cells slots pc (a0 :: a1 :: a2 :: a3 :: a4 :: a5 :: x :: r) (.int (jI z) :: st) := j_istg hk (i := 6) d (by simp) (jc1_p6 hc) rfl k
theorem j_ast6 (hk : jOK E K cc own rm) {a0 a1 a2 a3 a4 a5 x : Option Value} {r : List (Option Value)} {a : Nat} (d : decode cc pc = .ok (.astore 6, 2)) (hc : jok1 a5 = true) (k : jW K P cells slots (pc + 2) (a0 :: a1 :: a2 :: a3 :: a4 :: a5 :: some (.ref a) :: r) st) : jW K P cells slots pc (a0 :: a1 :: a2 :: a3 :: a4 :: a5 :: x :: r) (.ref a :: st) := j_astg hk (i := 6) d (by simp) (jc1_p6 hc) rfl k
theorem j_astN6 (hk : jOK E K cc own rm) {a0 a1 a2 a3 a4 a5 x : Option Value} {r : List (Option Value)} (d : decode cc pc = .ok (.astore 6, 2)) (hc : jok1 a5 = true) (k : jW K P cells slots (pc + 2) (a0 :: a1 :: a2 :: a3 :: a4 :: a5 :: some (.null) :: r) st) : jW K P cells slots pc (a0 :: a1 :: a2 :: a3 :: a4 :: a5 :: x :: r) (.null :: st) := j_astNg hk (i := 6) d (by simp) (jc1_p6 hc) rfl k
theorem j_iinc6 (hk : jOK E K cc own rm) {a0 a1 a2 a3 a4 a5 : Option Value} {r : List (Option Value)} {z n : Int} (d : decode cc pc = .ok (.iinc 6 n, 3)) (hc : jok1 a5 = true) (k : jW K P cells slots (pc + 3) (a0 :: a1 :: a2 :: a3 :: a4 :: a5 :: some (.int (jI (z + n))) :: r) st) : jW K P cells slots pc (a0 :: a1 :: a2 :: a3 :: a4 :: a5 :: some (.int (jI z)) :: r) st := j_iinc hk (i := 6) d rfl (jc1_p6 hc) rfl k
theorem j_ist7 (hk : jOK E K cc own rm) {a0 a1 a2 a3 a4 a5 a6 x : Option Value} {r : List (Option Value)} {z : Int} (d : decode cc pc = .ok (.istore 7, 2)) (hc : jok1 a6 = true) (k : jW K P cells slots (pc + 2) (a0 :: a1 :: a2 :: a3 :: a4 :: a5 :: a6 :: some (.int (jI z)) :: r) st) : jW K P cells slots pc (a0 :: a1 :: a2 :: a3 :: a4 :: a5 :: a6 :: x :: r) (.int (jI z) :: st) := j_istg hk (i := 7) d (by simp) (jc1_p7 hc) rfl k
theorem j_ast7 (hk : jOK E K cc own rm) {a0 a1 a2 a3 a4 a5 a6 x : Option Value} {r : List (Option Value)} {a : Nat} (d : decode cc pc = .ok (.astore 7, 2)) (hc : jok1 a6 = true) (k : jW K P cells slots (pc + 2) (a0 :: a1 :: a2 :: a3 :: a4 :: a5 :: a6 :: some (.ref a) :: r) st) : jW K P cells slots pc (a0 :: a1 :: a2 :: a3 :: a4 :: a5 :: a6 :: x :: r) (.ref a :: st) := j_astg hk (i := 7) d (by simp) (jc1_p7 hc) rfl k
theorem j_astN7 (hk : jOK E K cc own rm) {a0 a1 a2 a3 a4 a5 a6 x : Option Value} {r : List (Option Value)} (d : decode cc pc = .ok (.astore 7, 2)) (hc : jok1 a6 = true) (k : jW K P cells slots (pc + 2) (a0 :: a1 :: a2 :: a3 :: a4 :: a5 :: a6 :: some (.null) :: r) st) : jW K P cells slots pc (a0 :: a1 :: a2 :: a3 :: a4 :: a5 :: a6 :: x :: r) (.null :: st) := j_astNg hk (i := 7) d (by simp) (jc1_p7 hc) rfl k
theorem j_iinc7 (hk : jOK E K cc own rm) {a0 a1 a2 a3 a4 a5 a6 : Option Value} {r : List (Option Value)} {z n : Int} (d : decode cc pc = .ok (.iinc 7 n, 3)) (hc : jok1 a6 = true) (k : jW K P cells slots (pc + 3) (a0 :: a1 :: a2 :: a3 :: a4 :: a5 :: a6 :: some (.int (jI (z + n))) :: r) st) : jW K P cells slots pc (a0 :: a1 :: a2 :: a3 :: a4 :: a5 :: a6 :: some (.int (jI z)) :: r) st := j_iinc hk (i := 7) d rfl (jc1_p7 hc) rfl k
theorem j_ist8 (hk : jOK E K cc own rm) {a0 a1 a2 a3 a4 a5 a6 a7 x : Option Value} {r : List (Option Value)} {z : Int} (d : decode cc pc = .ok (.istore 8, 2)) (hc : jok1 a7 = true) (k : jW K P cells slots (pc + 2) (a0 :: a1 :: a2 :: a3 :: a4 :: a5 :: a6 :: a7 :: some (.int (jI z)) :: r) st) : jW K P cells slots pc (a0 :: a1 :: a2 :: a3 :: a4 :: a5 :: a6 :: a7 :: x :: r) (.int (jI z) :: st) := j_istg hk (i := 8) d (by simp) (jc1_p8 hc) rfl k
theorem j_ast8 (hk : jOK E K cc own rm) {a0 a1 a2 a3 a4 a5 a6 a7 x : Option Value} {r : List (Option Value)} {a : Nat} (d : decode cc pc = .ok (.astore 8, 2)) (hc : jok1 a7 = true) (k : jW K P cells slots (pc + 2) (a0 :: a1 :: a2 :: a3 :: a4 :: a5 :: a6 :: a7 :: some (.ref a) :: r) st) : jW K P cells slots pc (a0 :: a1 :: a2 :: a3 :: a4 :: a5 :: a6 :: a7 :: x :: r) (.ref a :: st) := j_astg hk (i := 8) d (by simp) (jc1_p8 hc) rfl k
theorem j_astN8 (hk : jOK E K cc own rm) {a0 a1 a2 a3 a4 a5 a6 a7 x : Option Value} {r : List (Option Value)} (d : decode cc pc = .ok (.astore 8, 2)) (hc : jok1 a7 = true) (k : jW K P cells slots (pc + 2) (a0 :: a1 :: a2 :: a3 :: a4 :: a5 :: a6 :: a7 :: some (.null) :: r) st) : jW K P cells slots pc (a0 :: a1 :: a2 :: a3 :: a4 :: a5 :: a6 :: a7 :: x :: r) (.null :: st) := j_astNg hk (i := 8) d (by simp) (jc1_p8 hc) rfl k
theorem j_iinc8 (hk : jOK E K cc own rm) {a0 a1 a2 a3 a4 a5 a6 a7 : Option Value} {r : List (Option Value)} {z n : Int} (d : decode cc pc = .ok (.iinc 8 n, 3)) (hc : jok1 a7 = true) (k : jW K P cells slots (pc + 3) (a0 :: a1 :: a2 :: a3 :: a4 :: a5 :: a6 :: a7 :: some (.int (jI (z + n))) :: r) st) : jW K P cells slots pc (a0 :: a1 :: a2 :: a3 :: a4 :: a5 :: a6 :: a7 :: some (.int (jI z)) :: r) st := j_iinc hk (i := 8) d rfl (jc1_p8 hc) rfl k
theorem j_ist9 (hk : jOK E K cc own rm) {a0 a1 a2 a3 a4 a5 a6 a7 a8 x : Option Value} {r : List (Option Value)} {z : Int} (d : decode cc pc = .ok (.istore 9, 2)) (hc : jok1 a8 = true) (k : jW K P cells slots (pc + 2) (a0 :: a1 :: a2 :: a3 :: a4 :: a5 :: a6 :: a7 :: a8 :: some (.int (jI z)) :: r) st) : jW K P cells slots pc (a0 :: a1 :: a2 :: a3 :: a4 :: a5 :: a6 :: a7 :: a8 :: x :: r) (.int (jI z) :: st) := j_istg hk (i := 9) d (by simp) (jc1_p9 hc) rfl k
theorem j_ast9 (hk : jOK E K cc own rm) {a0 a1 a2 a3 a4 a5 a6 a7 a8 x : Option Value} {r : List (Option Value)} {a : Nat} (d : decode cc pc = .ok (.astore 9, 2)) (hc : jok1 a8 = true) (k : jW K P cells slots (pc + 2) (a0 :: a1 :: a2 :: a3 :: a4 :: a5 :: a6 :: a7 :: a8 :: some (.ref a) :: r) st) : jW K P cells slots pc (a0 :: a1 :: a2 :: a3 :: a4 :: a5 :: a6 :: a7 :: a8 :: x :: r) (.ref a :: st) := j_astg hk (i := 9) d (by simp) (jc1_p9 hc) rfl k
theorem j_astN9 (hk : jOK E K cc own rm) {a0 a1 a2 a3 a4 a5 a6 a7 a8 x : Option Value} {r : List (Option Value)} (d : decode cc pc = .ok (.astore 9, 2)) (hc : jok1 a8 = true) (k : jW K P cells slots (pc + 2) (a0 :: a1 :: a2 :: a3 :: a4 :: a5 :: a6 :: a7 :: a8 :: some (.null) :: r) st) : jW K P cells slots pc (a0 :: a1 :: a2 :: a3 :: a4 :: a5 :: a6 :: a7 :: a8 :: x :: r) (.null :: st) := j_astNg hk (i := 9) d (by simp) (jc1_p9 hc) rfl k
theorem j_iinc9 (hk : jOK E K cc own rm) {a0 a1 a2 a3 a4 a5 a6 a7 a8 : Option Value} {r : List (Option Value)} {z n : Int} (d : decode cc pc = .ok (.iinc 9 n, 3)) (hc : jok1 a8 = true) (k : jW K P cells slots (pc + 3) (a0 :: a1 :: a2 :: a3 :: a4 :: a5 :: a6 :: a7 :: a8 :: some (.int (jI (z + n))) :: r) st) : jW K P cells slots pc (a0 :: a1 :: a2 :: a3 :: a4 :: a5 :: a6 :: a7 :: a8 :: some (.int (jI z)) :: r) st := j_iinc hk (i := 9) d rfl (jc1_p9 hc) rfl k
theorem j_ist10 (hk : jOK E K cc own rm) {a0 a1 a2 a3 a4 a5 a6 a7 a8 a9 x : Option Value} {r : List (Option Value)} {z : Int} (d : decode cc pc = .ok (.istore 10, 2)) (hc : jok1 a9 = true) (k : jW K P cells slots (pc + 2) (a0 :: a1 :: a2 :: a3 :: a4 :: a5 :: a6 :: a7 :: a8 :: a9 :: some (.int (jI z)) :: r) st) : jW K P cells slots pc (a0 :: a1 :: a2 :: a3 :: a4 :: a5 :: a6 :: a7 :: a8 :: a9 :: x :: r) (.int (jI z) :: st) := j_istg hk (i := 10) d (by simp) (jc1_p10 hc) rfl k
theorem j_ast10 (hk : jOK E K cc own rm) {a0 a1 a2 a3 a4 a5 a6 a7 a8 a9 x : Option Value} {r : List (Option Value)} {a : Nat} (d : decode cc pc = .ok (.astore 10, 2)) (hc : jok1 a9 = true) (k : jW K P cells slots (pc + 2) (a0 :: a1 :: a2 :: a3 :: a4 :: a5 :: a6 :: a7 :: a8 :: a9 :: some (.ref a) :: r) st) : jW K P cells slots pc (a0 :: a1 :: a2 :: a3 :: a4 :: a5 :: a6 :: a7 :: a8 :: a9 :: x :: r) (.ref a :: st) := j_astg hk (i := 10) d (by simp) (jc1_p10 hc) rfl k
theorem j_astN10 (hk : jOK E K cc own rm) {a0 a1 a2 a3 a4 a5 a6 a7 a8 a9 x : Option Value} {r : List (Option Value)} (d : decode cc pc = .ok (.astore 10, 2)) (hc : jok1 a9 = true) (k : jW K P cells slots (pc + 2) (a0 :: a1 :: a2 :: a3 :: a4 :: a5 :: a6 :: a7 :: a8 :: a9 :: some (.null) :: r) st) : jW K P cells slots pc (a0 :: a1 :: a2 :: a3 :: a4 :: a5 :: a6 :: a7 :: a8 :: a9 :: x :: r) (.null :: st) := j_astNg hk (i := 10) d (by simp) (jc1_p10 hc) rfl k
theorem j_iinc10 (hk : jOK E K cc own rm) {a0 a1 a2 a3 a4 a5 a6 a7 a8 a9 : Option Value} {r : List (Option Value)} {z n : Int} (d : decode cc pc = .ok (.iinc 10 n, 3)) (hc : jok1 a9 = true) (k : jW K P cells slots (pc + 3) (a0 :: a1 :: a2 :: a3 :: a4 :: a5 :: a6 :: a7 :: a8 :: a9 :: some (.int (jI (z + n))) :: r) st) : jW K P cells slots pc (a0 :: a1 :: a2 :: a3 :: a4 :: a5 :: a6 :: a7 :: a8 :: a9 :: some (.int (jI z)) :: r) st := j_iinc hk (i := 10) d rfl (jc1_p10 hc) rfl k
theorem j_ist11 (hk : jOK E K cc own rm) {a0 a1 a2 a3 a4 a5 a6 a7 a8 a9 a10 x : Option Value} {r : List (Option Value)} {z : Int} (d : decode cc pc = .ok (.istore 11, 2)) (hc : jok1 a10 = true) (k : jW K P cells slots (pc + 2) (a0 :: a1 :: a2 :: a3 :: a4 :: a5 :: a6 :: a7 :: a8 :: a9 :: a10 :: some (.int (jI z)) :: r) st) : jW K P cells slots pc (a0 :: a1 :: a2 :: a3 :: a4 :: a5 :: a6 :: a7 :: a8 :: a9 :: a10 :: x :: r) (.int (jI z) :: st) := j_istg hk (i := 11) d (by simp) (jc1_p11 hc) rfl k
theorem j_ast11 (hk : jOK E K cc own rm) {a0 a1 a2 a3 a4 a5 a6 a7 a8 a9 a10 x : Option Value} {r : List (Option Value)} {a : Nat} (d : decode cc pc = .ok (.astore 11, 2)) (hc : jok1 a10 = true) (k : jW K P cells slots (pc + 2) (a0 :: a1 :: a2 :: a3 :: a4 :: a5 :: a6 :: a7 :: a8 :: a9 :: a10 :: some (.ref a) :: r) st) : jW K P cells slots pc (a0 :: a1 :: a2 :: a3 :: a4 :: a5 :: a6 :: a7 :: a8 :: a9 :: a10 :: x :: r) (.ref a :: st) := j_astg hk (i := 11) d (by simp) (jc1_p11 hc) rfl k
theorem j_astN11 (hk : jOK E K cc own rm) {a0 a1 a2 a3 a4 a5 a6 a7 a8 a9 a10 x : Option Value} {r : List (Option Value)} (d : decode cc pc = .ok (.astore 11, 2)) (hc : jok1 a10 = true) (k : jW K P cells slots (pc + 2) (a0 :: a1 :: a2 :: a3 :: a4 :: a5 :: a6 :: a7 :: a8 :: a9 :: a10 :: some (.null) :: r) st) : jW K P cells slots pc (a0 :: a1 :: a2 :: a3 :: a4 :: a5 :: a6 :: a7 :: a8 :: a9 :: a10 :: x :: r) (.null :: st) := j_astNg hk (i := 11) d (by simp) (jc1_p11 hc) rfl k
theorem j_iinc11 (hk : jOK E K cc own rm) {a0 a1 a2 a3 a4 a5 a6 a7 a8 a9 a10 : Option Value} {r : List (Option Value)} {z n : Int} (d : decode cc pc = .ok (.iinc 11 n, 3)) (hc : jok1 a10 = true) (k : jW K P cells slots (pc + 3) (a0 :: a1 :: a2 :: a3 :: a4 :: a5 :: a6 :: a7 :: a8 :: a9 :: a10 :: some (.int (jI (z + n))) :: r) st) : jW K P cells slots pc (a0 :: a1 :: a2 :: a3 :: a4 :: a5 :: a6 :: a7 :: a8 :: a9 :: a10 :: some (.int (jI z)) :: r) st := j_iinc hk (i := 11) d rfl (jc1_p11 hc) rfl k
theorem j_ist12 (hk : jOK E K cc own rm) {a0 a1 a2 a3 a4 a5 a6 a7 a8 a9 a10 a11 x : Option Value} {r : List (Option Value)} {z : Int} (d : decode cc pc = .ok (.istore 12, 2)) (hc : jok1 a11 = true) (k : jW K P cells slots (pc + 2) (a0 :: a1 :: a2 :: a3 :: a4 :: a5 :: a6 :: a7 :: a8 :: a9 :: a10 :: a11 :: some (.int (jI z)) :: r) st) : jW K P cells slots pc (a0 :: a1 :: a2 :: a3 :: a4 :: a5 :: a6 :: a7 :: a8 :: a9 :: a10 :: a11 :: x :: r) (.int (jI z) :: st) := j_istg hk (i := 12) d (by simp) (jc1_p12 hc) rfl k
theorem j_ast12 (hk : jOK E K cc own rm) {a0 a1 a2 a3 a4 a5 a6 a7 a8 a9 a10 a11 x : Option Value} {r : List (Option Value)} {a : Nat} (d : decode cc pc = .ok (.astore 12, 2)) (hc : jok1 a11 = true) (k : jW K P cells slots (pc + 2) (a0 :: a1 :: a2 :: a3 :: a4 :: a5 :: a6 :: a7 :: a8 :: a9 :: a10 :: a11 :: some (.ref a) :: r) st) : jW K P cells slots pc (a0 :: a1 :: a2 :: a3 :: a4 :: a5 :: a6 :: a7 :: a8 :: a9 :: a10 :: a11 :: x :: r) (.ref a :: st) := j_astg hk (i := 12) d (by simp) (jc1_p12 hc) rfl k
theorem j_astN12 (hk : jOK E K cc own rm) {a0 a1 a2 a3 a4 a5 a6 a7 a8 a9 a10 a11 x : Option Value} {r : List (Option Value)} (d : decode cc pc = .ok (.astore 12, 2)) (hc : jok1 a11 = true) (k : jW K P cells slots (pc + 2) (a0 :: a1 :: a2 :: a3 :: a4 :: a5 :: a6 :: a7 :: a8 :: a9 :: a10 :: a11 :: some (.null) :: r) st) : jW K P cells slots pc (a0 :: a1 :: a2 :: a3 :: a4 :: a5 :: a6 :: a7 :: a8 :: a9 :: a10 :: a11 :: x :: r) (.null :: st) := j_astNg hk (i := 12) d (by simp) (jc1_p12 hc) rfl k
theorem j_iinc12 (hk : jOK E K cc own rm) {a0 a1 a2 a3 a4 a5 a6 a7 a8 a9 a10 a11 : Option Value} {r : List (Option Value)} {z n : Int} (d : decode cc pc = .ok (.iinc 12 n, 3)) (hc : jok1 a11 = true) (k : jW K P cells slots (pc + 3) (a0 :: a1 :: a2 :: a3 :: a4 :: a5 :: a6 :: a7 :: a8 :: a9 :: a10 :: a11 :: some (.int (jI (z + n))) :: r) st) : jW K P cells slots pc (a0 :: a1 :: a2 :: a3 :: a4 :: a5 :: a6 :: a7 :: a8 :: a9 :: a10 :: a11 :: some (.int (jI z)) :: r) st := j_iinc hk (i := 12) d rfl (jc1_p12 hc) rfl k
theorem j_ist13 (hk : jOK E K cc own rm) {a0 a1 a2 a3 a4 a5 a6 a7 a8 a9 a10 a11 a12 x : Option Value} {r : List (Option Value)} {z : Int} (d : decode cc pc = .ok (.istore 13, 2)) (hc : jok1 a12 = true) (k : jW K P cells slots (pc + 2) (a0 :: a1 :: a2 :: a3 :: a4 :: a5 :: a6 :: a7 :: a8 :: a9 :: a10 :: a11 :: a12 :: some (.int (jI z)) :: r) st) : jW K P cells slots pc (a0 :: a1 :: a2 :: a3 :: a4 :: a5 :: a6 :: a7 :: a8 :: a9 :: a10 :: a11 :: a12 :: x :: r) (.int (jI z) :: st) := j_istg hk (i := 13) d (by simp) (jc1_p13 hc) rfl k
theorem j_ast13 (hk : jOK E K cc own rm) {a0 a1 a2 a3 a4 a5 a6 a7 a8 a9 a10 a11 a12 x : Option Value} {r : List (Option Value)} {a : Nat} (d : decode cc pc = .ok (.astore 13, 2)) (hc : jok1 a12 = true) (k : jW K P cells slots (pc + 2) (a0 :: a1 :: a2 :: a3 :: a4 :: a5 :: a6 :: a7 :: a8 :: a9 :: a10 :: a11 :: a12 :: some (.ref a) :: r) st) : jW K P cells slots pc (a0 :: a1 :: a2 :: a3 :: a4 :: a5 :: a6 :: a7 :: a8 :: a9 :: a10 :: a11 :: a12 :: x :: r) (.ref a :: st) := j_astg hk (i := 13) d (by simp) (jc1_p13 hc) rfl k
theorem j_astN13 (hk : jOK E K cc own rm) {a0 a1 a2 a3 a4 a5 a6 a7 a8 a9 a10 a11 a12 x : Option Value} {r : List (Option Value)} (d : decode cc pc = .ok (.astore 13, 2)) (hc : jok1 a12 = true) (k : jW K P cells slots (pc + 2) (a0 :: a1 :: a2 :: a3 :: a4 :: a5 :: a6 :: a7 :: a8 :: a9 :: a10 :: a11 :: a12 :: some (.null) :: r) st) : jW K P cells slots pc (a0 :: a1 :: a2 :: a3 :: a4 :: a5 :: a6 :: a7 :: a8 :: a9 :: a10 :: a11 :: a12 :: x :: r) (.null :: st) := j_astNg hk (i := 13) d (by simp) (jc1_p13 hc) rfl k
theorem j_iinc13 (hk : jOK E K cc own rm) {a0 a1 a2 a3 a4 a5 a6 a7 a8 a9 a10 a11 a12 : Option Value} {r : List (Option Value)} {z n : Int} (d : decode cc pc = .ok (.iinc 13 n, 3)) (hc : jok1 a12 = true) (k : jW K P cells slots (pc + 3) (a0 :: a1 :: a2 :: a3 :: a4 :: a5 :: a6 :: a7 :: a8 :: a9 :: a10 :: a11 :: a12 :: some (.int (jI (z + n))) :: r) st) : jW K P cells slots pc (a0 :: a1 :: a2 :: a3 :: a4 :: a5 :: a6 :: a7 :: a8 :: a9 :: a10 :: a11 :: a12 :: some (.int (jI z)) :: r) st := j_iinc hk (i := 13) d rfl (jc1_p13 hc) rfl k
theorem j_ist14 (hk : jOK E K cc own rm) {a0 a1 a2 a3 a4 a5 a6 a7 a8 a9 a10 a11 a12 a13 x : Option Value} {r : List (Option Value)} {z : Int} (d : decode cc pc = .ok (.istore 14, 2)) (hc : jok1 a13 = true) (k : jW K P cells slots (pc + 2) (a0 :: a1 :: a2 :: a3 :: a4 :: a5 :: a6 :: a7 :: a8 :: a9 :: a10 :: a11 :: a12 :: a13 :: some (.int (jI z)) :: r) st) : jW K P cells slots pc (a0 :: a1 :: a2 :: a3 :: a4 :: a5 :: a6 :: a7 :: a8 :: a9 :: a10 :: a11 :: a12 :: a13 :: x :: r) (.int (jI z) :: st) := j_istg hk (i := 14) d (by simp) (jc1_p14 hc) rfl k
theorem j_ast14 (hk : jOK E K cc own rm) {a0 a1 a2 a3 a4 a5 a6 a7 a8 a9 a10 a11 a12 a13 x : Option Value} {r : List (Option Value)} {a : Nat} (d : decode cc pc = .ok (.astore 14, 2)) (hc : jok1 a13 = true) (k : jW K P cells slots (pc + 2) (a0 :: a1 :: a2 :: a3 :: a4 :: a5 :: a6 :: a7 :: a8 :: a9 :: a10 :: a11 :: a12 :: a13 :: some (.ref a) :: r) st) : jW K P cells slots pc (a0 :: a1 :: a2 :: a3 :: a4 :: a5 :: a6 :: a7 :: a8 :: a9 :: a10 :: a11 :: a12 :: a13 :: x :: r) (.ref a :: st) := j_astg hk (i := 14) d (by simp) (jc1_p14 hc) rfl k
theorem j_astN14 (hk : jOK E K cc own rm) {a0 a1 a2 a3 a4 a5 a6 a7 a8 a9 a10 a11 a12 a13 x : Option Value} {r : List (Option Value)} (d : decode cc pc = .ok (.astore 14, 2)) (hc : jok1 a13 = true) (k : jW K P cells slots (pc + 2) (a0 :: a1 :: a2 :: a3 :: a4 :: a5 :: a6 :: a7 :: a8 :: a9 :: a10 :: a11 :: a12 :: a13 :: some (.null) :: r) st) : jW K P cells slots pc (a0 :: a1 :: a2 :: a3 :: a4 :: a5 :: a6 :: a7 :: a8 :: a9 :: a10 :: a11 :: a12 :: a13 :: x :: r) (.null :: st) := j_astNg hk (i := 14) d (by simp) (jc1_p14 hc) rfl k
theorem j_iinc14 (hk : jOK E K cc own rm) {a0 a1 a2 a3 a4 a5 a6 a7 a8 a9 a10 a11 a12 a13 : Option Value} {r : List (Option Value)} {z n : Int} (d : decode cc pc = .ok (.iinc 14 n, 3)) (hc : jok1 a13 = true) (k : jW K P cells slots (pc + 3) (a0 :: a1 :: a2 :: a3 :: a4 :: a5 :: a6 :: a7 :: a8 :: a9 :: a10 :: a11 :: a12 :: a13 :: some (.int (jI (z + n))) :: r) st) : jW K P cells slots pc (a0 :: a1 :: a2 :: a3 :: a4 :: a5 :: a6 :: a7 :: a8 :: a9 :: a10 :: a11 :: a12 :: a13 :: some (.int (jI z)) :: r) st := j_iinc hk (i := 14) d rfl (jc1_p14 hc) rfl k
theorem j_ist15 (hk : jOK E K cc own rm) {a0 a1 a2 a3 a4 a5 a6 a7 a8 a9 a10 a11 a12 a13 a14 x : Option Value} {r : List (Option Value)} {z : Int} (d : decode cc pc = .ok (.istore 15, 2)) (hc : jok1 a14 = true) (k : jW K P cells slots (pc + 2) (a0 :: a1 :: a2 :: a3 :: a4 :: a5 :: a6 :: a7 :: a8 :: a9 :: a10 :: a11 :: a12 :: a13 :: a14 :: some (.int (jI z)) :: r) st) : jW K P cells slots pc (a0 :: a1 :: a2 :: a3 :: a4 :: a5 :: a6 :: a7 :: a8 :: a9 :: a10 :: a11 :: a12 :: a13 :: a14 :: x :: r) (.int (jI z) :: st) := j_istg hk (i := 15) d (by simp) (jc1_p15 hc) rfl k
theorem j_ast15 (hk : jOK E K cc own rm) {a0 a1 a2 a3 a4 a5 a6 a7 a8 a9 a10 a11 a12 a13 a14 x : Option Value} {r : List (Option Value)} {a : Nat} (d : decode cc pc = .ok (.astore 15, 2)) (hc : jok1 a14 = true) (k : jW K P cells slots (pc + 2) (a0 :: a1 :: a2 :: a3 :: a4 :: a5 :: a6 :: a7 :: a8 :: a9 :: a10 :: a11 :: a12 :: a13 :: a14 :: some (.ref a) :: r) st) : jW K P cells slots pc (a0 :: a1 :: a2 :: a3 :: a4 :: a5 :: a6 :: a7 :: a8 :: a9 :: a10 :: a11 :: a12 :: a13 :: a14 :: x :: r) (.ref a :: st) := j_astg hk (i := 15) d (by simp) (jc1_p15 hc) rfl k
theorem j_astN15 (hk : jOK E K cc own rm) {a0 a1 a2 a3 a4 a5 a6 a7 a8 a9 a10 a11 a12 a13 a14 x : Option Value} {r : List (Option Value)} (d : decode cc pc = .ok (.astore 15, 2)) (hc : jok1 a14 = true) (k : jW K P cells slots (pc + 2) (a0 :: a1 :: a2 :: a3 :: a4 :: a5 :: a6 :: a7 :: a8 :: a9 :: a10 :: a11 :: a12 :: a13 :: a14 :: some (.null) :: r) st) : jW K P cells slots pc (a0 :: a1 :: a2 :: a3 :: a4 :: a5 :: a6 :: a7 :: a8 :: a9 :: a10 :: a11 :: a12 :: a13 :: a14 :: x :: r) (.null :: st) := j_astNg hk (i := 15) d (by simp) (jc1_p15 hc) rfl k
theorem j_iinc15 (hk : jOK E K cc own rm) {a0 a1 a2 a3 a4 a5 a6 a7 a8 a9 a10 a11 a12 a13 a14 : Option Value} {r : List (Option Value)} {z n : Int} (d : decode cc pc = .ok (.iinc 15 n, 3)) (hc : jok1 a14 = true) (k : jW K P cells slots (pc + 3) (a0 :: a1 :: a2 :: a3 :: a4 :: a5 :: a6 :: a7 :: a8 :: a9 :: a10 :: a11 :: a12 :: a13 :: a14 :: some (.int (jI (z + n))) :: r) st) : jW K P cells slots pc (a0 :: a1 :: a2 :: a3 :: a4 :: a5 :: a6 :: a7 :: a8 :: a9 :: a10 :: a11 :: a12 :: a13 :: a14 :: some (.int (jI z)) :: r) st := j_iinc hk (i := 15) d rfl (jc1_p15 hc) rfl k
theorem j_iadd (hk : jOK E K cc own rm) {a b : Int} (d : decode cc pc = .ok (.iadd, 1)) (k : jW K P cells slots (pc + 1) vs (.int (jI (a + b)) :: st)) : jW K P cells slots pc vs (.int (jI b) :: .int (jI a) :: st) := by
  obtain ⟨p, l, e, R, s, m, args, below, meth, c, A, Q⟩ := K
  intro H locs ls hP hS hl hz
  refine lv_iadd hk.1 hk.2.1 d ?_
  rw [jI_add]
  exact k H locs ls hP hS hl hz
theorem j_isub (hk : jOK E K cc own rm) {a b : Int} (d : decode cc pc = .ok (.isub, 1)) (k : jW K P cells slots (pc + 1) vs (.int (jI (a - b)) :: st)) : jW K P cells slots pc vs (.int (jI b) :: .int (jI a) :: st) := by
  obtain ⟨p, l, e, R, s, m, args, below, meth, c, A, Q⟩ := K
  intro H locs ls hP hS hl hz
  refine lv_isub hk.1 hk.2.1 d ?_
  rw [jI_sub]
  exact k H locs ls hP hS hl hz
theorem j_imul (hk : jOK E K cc own rm) {a b : Int} (d : decode cc pc = .ok (.imul, 1)) (k : jW K P cells slots (pc + 1) vs (.int (jI (a * b)) :: st)) : jW K P cells slots pc vs (.int (jI b) :: .int (jI a) :: st) := by
  obtain ⟨p, l, e, R, s, m, args, below, meth, c, A, Q⟩ := K
  intro H locs ls hP hS hl hz
  refine lv_imul hk.1 hk.2.1 d ?_
  rw [jI_mul]
  exact k H locs ls hP hS hl hz
theorem j_idiv (hk : jOK E K cc own rm) {a b : Int} (h0 : 0 ≤ a ∧ a < 2147483648 ∧ 0 < b ∧ b < 2147483648) (d : decode cc pc = .ok (.idiv, 1)) (k : jW K P cells slots (pc + 1) vs (.int (jI (a / b)) :: st)) : jW K P cells slots pc vs (.int (jI b) :: .int (jI a) :: st) := by
  obtain ⟨p, l, e, R, s, m, args, below, meth, c, A, Q⟩ := K
  intro H locs ls hP hS hl hz
  refine lv_idiv hk.1 hk.2.1 d (jI_ne0 (by omega) (by omega)) ?_
  rw [jI_div h0.1 h0.2.1 h0.2.2.1 h0.2.2.2]
  exact k H locs ls hP hS hl hz
theorem j_irem (hk : jOK E K cc own rm) {a b : Int} (h0 : 0 ≤ a ∧ a < 2147483648 ∧ 0 < b ∧ b < 2147483648) (d : decode cc pc = .ok (.irem, 1)) (k : jW K P cells slots (pc + 1) vs (.int (jI (a % b)) :: st)) : jW K P cells slots pc vs (.int (jI b) :: .int (jI a) :: st) := by
  obtain ⟨p, l, e, R, s, m, args, below, meth, c, A, Q⟩ := K
  intro H locs ls hP hS hl hz
  refine lv_irem hk.1 hk.2.1 d (jI_ne0 (by omega) (by omega)) ?_
  rw [jI_rem h0.1 h0.2.1 h0.2.2.1 h0.2.2.2]
  exact k H locs ls hP hS hl hz
theorem j_ineg (hk : jOK E K cc own rm) {a : Int} (d : decode cc pc = .ok (.ineg, 1)) (k : jW K P cells slots (pc + 1) vs (.int (jI (-a)) :: st)) : jW K P cells slots pc vs (.int (jI a) :: st) := by
  obtain ⟨p, l, e, R, s, m, args, below, meth, c, A, Q⟩ := K
  intro H locs ls hP hS hl hz
  refine lv_ineg hk.1 hk.2.1 d ?_
  rw [jI_neg]
  exact k H locs ls hP hS hl hz
theorem j_iand (hk : jOK E K cc own rm) {a b : Nat} (d : decode cc pc = .ok (.iand, 1)) (k : jW K P cells slots (pc + 1) vs (.int (jI (((a &&& b : Nat) : Int))) :: st)) : jW K P cells slots pc vs (.int (jI (b : Int)) :: .int (jI (a : Int)) :: st) := by
  obtain ⟨p, l, e, R, s, m, args, below, meth, c, A, Q⟩ := K
  intro H locs ls hP hS hl hz
  refine lv_iand hk.1 hk.2.1 d ?_
  rw [ji_and]
  exact k H locs ls hP hS hl hz
theorem j_ior (hk : jOK E K cc own rm) {a b : Nat} (d : decode cc pc = .ok (.ior, 1)) (k : jW K P cells slots (pc + 1) vs (.int (jI (((a ||| b : Nat) : Int))) :: st)) : jW K P cells slots pc vs (.int (jI (b : Int)) :: .int (jI (a : Int)) :: st) := by
  obtain ⟨p, l, e, R, s, m, args, below, meth, c, A, Q⟩ := K
  intro H locs ls hP hS hl hz
  refine lv_ior hk.1 hk.2.1 d ?_
  rw [ji_or]
  exact k H locs ls hP hS hl hz
theorem j_ixor (hk : jOK E K cc own rm) {a b : Nat} (d : decode cc pc = .ok (.ixor, 1)) (k : jW K P cells slots (pc + 1) vs (.int (jI (((a ^^^ b : Nat) : Int))) :: st)) : jW K P cells slots pc vs (.int (jI (b : Int)) :: .int (jI (a : Int)) :: st) := by
  obtain ⟨p, l, e, R, s, m, args, below, meth, c, A, Q⟩ := K
  intro H locs ls hP hS hl hz
  refine lv_ixor hk.1 hk.2.1 d ?_
  rw [ji_xor]
  exact k H locs ls hP hS hl hz
theorem j_inot (hk : jOK E K cc own rm) {b : Int} (d : decode cc pc = .ok (.ixor, 1)) (k : jW K P cells slots (pc + 1) vs (.int (jI (-b - 1)) :: st)) : jW K P cells slots pc vs (.int (jI (-1)) :: .int (jI b) :: st) := by
  obtain ⟨p, l, e, R, s, m, args, below, meth, c, A, Q⟩ := K
  intro H locs ls hP hS hl hz
  refine lv_ixor hk.1 hk.2.1 d ?_
  rw [ji_not]
  exact k H locs ls hP hS hl hz
theorem j_iandn (hk : jOK E K cc own rm) {a b : Nat} (d : decode cc pc = .ok (.iand, 1)) (k : jW K P cells slots (pc + 1) vs (.int (jI (((jandn a b : Nat) : Int))) :: st)) : jW K P cells slots pc vs (.int (jI (-(b : Int) - 1)) :: .int (jI (a : Int)) :: st) := by
  obtain ⟨p, l, e, R, s, m, args, below, meth, c, A, Q⟩ := K
  intro H locs ls hP hS hl hz
  refine lv_iand hk.1 hk.2.1 d ?_
  rw [ji_andn]
  exact k H locs ls hP hS hl hz
theorem j_ishl (hk : jOK E K cc own rm) {a b : Nat} (hb : b < 32) (d : decode cc pc = .ok (.ishl, 1)) (k : jW K P cells slots (pc + 1) vs (.int (jI (((a * 2 ^ b : Nat) : Int))) :: st)) : jW K P cells slots pc vs (.int (jI (b : Int)) :: .int (jI (a : Int)) :: st) := by
  obtain ⟨p, l, e, R, s, m, args, below, meth, c, A, Q⟩ := K
  intro H locs ls hP hS hl hz
  refine lv_ishl hk.1 hk.2.1 d ?_
  rw [ji_shl hb]
  exact k H locs ls hP hS hl hz
theorem j_ishr (hk : jOK E K cc own rm) {a b : Nat} (ha : a < 2147483648) (hb : b < 32) (d : decode cc pc = .ok (.ishr, 1)) (k : jW K P cells slots (pc + 1) vs (.int (jI (((a >>> b : Nat) : Int))) :: st)) : jW K P cells slots pc vs (.int (jI (b : Int)) :: .int (jI (a : Int)) :: st) := by
  obtain ⟨p, l, e, R, s, m, args, below, meth, c, A, Q⟩ := K
  intro H locs ls hP hS hl hz
  refine lv_ishr hk.1 hk.2.1 d ?_
  rw [ji_shr ha hb]
  exact k H locs ls hP hS hl hz
theorem j_ibit (hk : jOK E K cc own rm) {a b : Nat} (d : decode cc pc = .ok (.iand, 1)) (k : jW K P cells slots (pc + 1) vs (.int (jI (jB (a.testBit b))) :: st)) : jW K P cells slots pc vs (.int (jI 1) :: .int (jI ((a >>> b : Nat) : Int)) :: st) := by
  obtain ⟨p, l, e, R, s, m, args, below, meth, c, A, Q⟩ := K
  intro H locs ls hP hS hl hz
  refine lv_iand hk.1 hk.2.1 d ?_
  rw [ji_bit]
  exact k H locs ls hP hS hl hz
theorem j_iandB (hk : jOK E K cc own rm) {a b : Bool} (d : decode cc pc = .ok (.iand, 1)) (k : jW K P cells slots (pc + 1) vs (.int (jI (jB (a && b))) :: st)) : jW K P cells slots pc vs (.int (jI (jB b)) :: .int (jI (jB a)) :: st) := by
  obtain ⟨p, l, e, R, s, m, args, below, meth, c, A, Q⟩ := K
  intro H locs ls hP hS hl hz
  refine lv_iand hk.1 hk.2.1 d ?_
  rw [jB_and]
  exact k H locs ls hP hS hl hz
theorem j_iorB (hk : jOK E K cc own rm) {a b : Bool} (d : decode cc pc = .ok (.ior, 1)) (k : jW K P cells slots (pc + 1) vs (.int (jI (jB (a || b))) :: st)) : jW K P cells slots pc vs (.int (jI (jB b)) :: .int (jI (jB a)) :: st) := by
  obtain ⟨p, l, e, R, s, m, args, below, meth, c, A, Q⟩ := K
  intro H locs ls hP hS hl hz
  refine lv_ior hk.1 hk.2.1 d ?_
  rw [jB_or]
  exact k H locs ls hP hS hl hz
theorem j_ixorB (hk : jOK E K cc own rm) {a b : Bool} (d : decode cc pc = .ok (.ixor, 1)) (k : jW K P cells slots (pc + 1) vs (.int (jI (jB (a ^^ b))) :: st)) : jW K P cells slots pc vs (.int (jI (jB b)) :: .int (jI (jB a)) :: st) := by
  obtain ⟨p, l, e, R, s, m, args, below, meth, c, A, Q⟩ := K
  intro H locs ls hP hS hl hz
  refine lv_ixor hk.1 hk.2.1 d ?_
  rw [jB_xor]
  exact k H locs ls hP hS hl hz
theorem j_i2c (hk : jOK E K cc own rm) {z : Int} (d : decode cc pc = .ok (.i2c, 1)) (k : jW K P cells slots (pc + 1) vs (.int (jI (z % 65536)) :: st)) : jW K P cells slots pc vs (.int (jI z) :: st) := by
  obtain ⟨p, l, e, R, s, m, args, below, meth, c, A, Q⟩ := K
  intro H locs ls hP hS hl hz
  exact lv_i2c hk.1 hk.2.1 d (ji_char z) (k H locs ls hP hS hl hz)
theorem j_top {z z2 : Int} (e : z = z2) (k : jW K P cells slots pc vs (.int (jI z2) :: st)) : jW K P cells slots pc vs (.int (jI z) :: st) := by rw [e]; exact k
theorem j_top1 {z z2 : Int} {v : Value} (e : z = z2) (k : jW K P cells slots pc vs (v :: .int (jI z2) :: st)) : jW K P cells slots pc vs (v :: .int (jI z) :: st) := by rw [e]; exact k
theorem j_eq {vs2 : List (Option Value)} {st2 : List Value} (e1 : vs = vs2) (e2 : st = st2) (k : jW K P cells slots pc vs2 st2) : jW K P cells slots pc vs st := by rw [e1, e2]; exact k
theorem j_forget {i : Nat} (k : jW K P cells slots pc (vs.set i none) st) : jW K P cells slots pc vs st := by
  obtain ⟨p, l, e, R, s, m, args, below, meth, c, A, Q⟩ := K
  intro H locs ls hP hS hl hz
  refine k H locs ls hP hS ⟨hl.1, hl.2.1, fun q hq => ?_⟩ (by rw [List.length_set]; exact hz)
  obtain ⟨j, h1, h2⟩ := jv_of hq
  have h1 : q.1 = j := by omega
  by_cases hj : j = i
  · subst hj
    rw [List.getElem?_set] at h2
    simp at h2
  · rw [List.getElem?_set_ne (Ne.symm hj)] at h2
    have := jv_mem (i := 0) h2
    rw [Nat.zero_add] at this
    exact hl.2.2 _ (by rwa [show q = (j, q.2) from Prod.ext h1 rfl])
theorem j_P {P2 : Heap → Prop} (h : ∀ H, P H → P2 H) (k : jW K P2 cells slots pc vs st) : jW K P cells slots pc vs st := by
  obtain ⟨p, l, e, R, s, m, args, below, meth, c, A, Q⟩ := K
  exact fun H locs ls hP hS hl hz => k H locs ls (h H hP) hS hl hz
theorem j_Pe (h : ∀ H, P H → jW K (fun X => X = H) cells slots pc vs st) : jW K P cells slots pc vs st := by
  obtain ⟨p, l, e, R, s, m, args, below, meth, c, A, Q⟩ := K
  exact fun H locs ls hP hS hl hz => h H hP H locs ls rfl hS hl hz
theorem j_wide {k2 n2 : Nat} (h1 : cells ≤ k2) (h2 : slots ≤ n2) (k : jW K P k2 n2 pc vs st) : jW K P cells slots pc vs st := by
  obtain ⟨p, l, e, R, s, m, args, below, meth, c, A, Q⟩ := K
  exact fun H locs ls hP hS hl hz => W.widen h1 h2 (k H locs ls hP hS hl hz)
theorem j_dup (hk : jOK E K cc own rm) {v : Value} (hc : v.category = 1) (d : decode cc pc = .ok (.dup, 1)) (k : jW K P cells slots (pc + 1) vs (v :: v :: st)) : jW K P cells slots pc vs (v :: st) := by
  obtain ⟨p, l, e, R, s, m, args, below, meth, c, A, Q⟩ := K
  intro H locs ls hP hS hl hz
  exact lv_dup hk.1 hk.2.1 d hc (k H locs ls hP hS hl hz)
theorem j_pop (hk : jOK E K cc own rm) {v : Value} (hc : v.category = 1) (d : decode cc pc = .ok (.pop, 1)) (k : jW K P cells slots (pc + 1) vs st) : jW K P cells slots pc vs (v :: st) := by
  obtain ⟨p, l, e, R, s, m, args, below, meth, c, A, Q⟩ := K
  intro H locs ls hP hS hl hz
  exact lv_pop hk.1 hk.2.1 d hc (k H locs ls hP hS hl hz)
theorem j_dup_x1 (hk : jOK E K cc own rm) {v u : Value} (hc : v.category = 1) (hu : u.category = 1) (d : decode cc pc = .ok (.dup_x1, 1)) (k : jW K P cells slots (pc + 1) vs (v :: u :: v :: st)) : jW K P cells slots pc vs (v :: u :: st) := by
  obtain ⟨p, l, e, R, s, m, args, below, meth, c, A, Q⟩ := K
  intro H locs ls hP hS hl hz
  exact lv_dup_x1 hk.1 hk.2.1 d hc hu (k H locs ls hP hS hl hz)
theorem j_dup2 (hk : jOK E K cc own rm) {v u : Value} (hc : v.category = 1) (hu : u.category = 1) (d : decode cc pc = .ok (.dup2, 1)) (k : jW K P cells slots (pc + 1) vs (v :: u :: v :: u :: st)) : jW K P cells slots pc vs (v :: u :: st) := by
  obtain ⟨p, l, e, R, s, m, args, below, meth, c, A, Q⟩ := K
  intro H locs ls hP hS hl hz
  exact lv_dup2_11 hk.1 hk.2.1 d hc hu (k H locs ls hP hS hl hz)
theorem j_goto (hk : jOK E K cc own rm) {off : Int} {tgt : Nat} (d : decode cc pc = .ok (.goto off, 3)) (ht : (pc : Int) + off = (tgt : Int)) (k : jW K P cells slots tgt vs st) : jW K P cells slots pc vs st := by
  obtain ⟨p, l, e, R, s, m, args, below, meth, c, A, Q⟩ := K
  intro H locs ls hP hS hl hz
  exact lv_goto hk.1 hk.2.1 d ht (k H locs ls hP hS hl hz)
theorem j_icmp_eq (hk : jOK E K cc own rm) {a b : Int} {off : Int} {tgt : Nat} (ha : jr a) (hb : jr b) (d : decode cc pc = .ok (.if_icmp .eq off, 3)) (ht : (pc : Int) + off = (tgt : Int)) (kt : a = b → jW K P cells slots tgt vs st) (kf : ¬ a = b → jW K P cells slots (pc + 3) vs st) : jW K P cells slots pc vs (.int (jI b) :: .int (jI a) :: st) := by
  obtain ⟨p, l, e, R, s, m, args, below, meth, c, A, Q⟩ := K
  intro H locs ls hP hS hl hz
  exact lv_icmp_eq hk.1 hk.2.1 d ht (fun h => kt ((jI_inj ha hb).mp h) H locs ls hP hS hl hz) (fun h => kf (fun q => h ((jI_inj ha hb).mpr q)) H locs ls hP hS hl hz)
theorem j_if_eq (hk : jOK E K cc own rm) {a : Int} {off : Int} {tgt : Nat} (ha : jr a) (d : decode cc pc = .ok (.ifCond .eq off, 3)) (ht : (pc : Int) + off = (tgt : Int)) (kt : a = 0 → jW K P cells slots tgt vs st) (kf : ¬ a = 0 → jW K P cells slots (pc + 3) vs st) : jW K P cells slots pc vs (.int (jI a) :: st) := by
  obtain ⟨p, l, e, R, s, m, args, below, meth, c, A, Q⟩ := K
  intro H locs ls hP hS hl hz
  exact lv_if_eq hk.1 hk.2.1 d ht (fun h => kt ((jI_inj ha (by omega : jr 0)).mp h) H locs ls hP hS hl hz) (fun h => kf (fun q => h ((jI_inj ha (by omega : jr 0)).mpr q)) H locs ls hP hS hl hz)
theorem j_icmp_ne (hk : jOK E K cc own rm) {a b : Int} {off : Int} {tgt : Nat} (ha : jr a) (hb : jr b) (d : decode cc pc = .ok (.if_icmp .ne off, 3)) (ht : (pc : Int) + off = (tgt : Int)) (kt : ¬ a = b → jW K P cells slots tgt vs st) (kf : a = b → jW K P cells slots (pc + 3) vs st) : jW K P cells slots pc vs (.int (jI b) :: .int (jI a) :: st) := by
  obtain ⟨p, l, e, R, s, m, args, below, meth, c, A, Q⟩ := K
  intro H locs ls hP hS hl hz
  exact lv_icmp_ne hk.1 hk.2.1 d ht (fun h => kt (fun q => h ((jI_inj ha hb).mpr q)) H locs ls hP hS hl hz) (fun h => kf ((jI_inj ha hb).mp h) H locs ls hP hS hl hz)
theorem j_if_ne (hk : jOK E K cc own rm) {a : Int} {off : Int} {tgt : Nat} (ha : jr a) (d : decode cc pc = .ok (.ifCond .ne off, 3)) (ht : (pc : Int) + off = (tgt : Int)) (kt : ¬ a = 0 → jW K P cells slots tgt vs st) (kf : a = 0 → jW K P cells slots (pc + 3) vs st) : jW K P cells slots pc vs (.int (jI a) :: st) := by
  obtain ⟨p, l, e, R, s, m, args, below, meth, c, A, Q⟩ := K
  intro H locs ls hP hS hl hz
  exact lv_if_ne hk.1 hk.2.1 d ht (fun h => kt (fun q => h ((jI_inj ha (by omega : jr 0)).mpr q)) H locs ls hP hS hl hz) (fun h => kf ((jI_inj ha (by omega : jr 0)).mp h) H locs ls hP hS hl hz)
theorem j_icmp_lt (hk : jOK E K cc own rm) {a b : Int} {off : Int} {tgt : Nat} (ha : jr a) (hb : jr b) (d : decode cc pc = .ok (.if_icmp .lt off, 3)) (ht : (pc : Int) + off = (tgt : Int)) (kt : a < b → jW K P cells slots tgt vs st) (kf : b ≤ a → jW K P cells slots (pc + 3) vs st) : jW K P cells slots pc vs (.int (jI b) :: .int (jI a) :: st) := by
  obtain ⟨p, l, e, R, s, m, args, below, meth, c, A, Q⟩ := K
  intro H locs ls hP hS hl hz
  exact lv_icmp_lt hk.1 hk.2.1 d ht (fun h => kt ((jI_lt ha hb).mp h) H locs ls hP hS hl hz) (fun h => kf (Int.not_lt.mp (fun q => h ((jI_lt ha hb).mpr q))) H locs ls hP hS hl hz)
theorem j_if_lt (hk : jOK E K cc own rm) {a : Int} {off : Int} {tgt : Nat} (ha : jr a) (d : decode cc pc = .ok (.ifCond .lt off, 3)) (ht : (pc : Int) + off = (tgt : Int)) (kt : a < 0 → jW K P cells slots tgt vs st) (kf : 0 ≤ a → jW K P cells slots (pc + 3) vs st) : jW K P cells slots pc vs (.int (jI a) :: st) := by
  obtain ⟨p, l, e, R, s, m, args, below, meth, c, A, Q⟩ := K
  intro H locs ls hP hS hl hz
  exact lv_if_lt hk.1 hk.2.1 d ht (fun h => kt ((jI_lt ha (by omega : jr 0)).mp h) H locs ls hP hS hl hz) (fun h => kf (Int.not_lt.mp (fun q => h ((jI_lt ha (by omega : jr 0)).mpr q))) H locs ls hP hS hl hz)
theorem j_icmp_ge (hk : jOK E K cc own rm) {a b : Int} {off : Int} {tgt : Nat} (ha : jr a) (hb : jr b) (d : decode cc pc = .ok (.if_icmp .ge off, 3)) (ht : (pc : Int) + off = (tgt : Int)) (kt : b ≤ a → jW K P cells slots tgt vs st) (kf : a < b → jW K P cells slots (pc + 3) vs st) : jW K P cells slots pc vs (.int (jI b) :: .int (jI a) :: st) := by
  obtain ⟨p, l, e, R, s, m, args, below, meth, c, A, Q⟩ := K
  intro H locs ls hP hS hl hz
  exact lv_icmp_ge hk.1 hk.2.1 d ht (fun h => kt ((jI_le hb ha).mp h) H locs ls hP hS hl hz) (fun h => kf (Int.not_le.mp (fun q => h ((jI_le hb ha).mpr q))) H locs ls hP hS hl hz)
theorem j_if_ge (hk : jOK E K cc own rm) {a : Int} {off : Int} {tgt : Nat} (ha : jr a) (d : decode cc pc = .ok (.ifCond .ge off, 3)) (ht : (pc : Int) + off = (tgt : Int)) (kt : 0 ≤ a → jW K P cells slots tgt vs st) (kf : a < 0 → jW K P cells slots (pc + 3) vs st) : jW K P cells slots pc vs (.int (jI a) :: st) := by
  obtain ⟨p, l, e, R, s, m, args, below, meth, c, A, Q⟩ := K
  intro H locs ls hP hS hl hz
  exact lv_if_ge hk.1 hk.2.1 d ht (fun h => kt ((jI_le (by omega : jr 0) ha).mp h) H locs ls hP hS hl hz) (fun h => kf (Int.not_le.mp (fun q => h ((jI_le (by omega : jr 0) ha).mpr q))) H locs ls hP hS hl hz)
theorem j_icmp_gt (hk : jOK E K cc own rm) {a b : Int} {off : Int} {tgt : Nat} (ha : jr a) (hb : jr b) (d : decode cc pc = .ok (.if_icmp .gt off, 3)) (ht : (pc : Int) + off = (tgt : Int)) (kt : b < a → jW K P cells slots tgt vs st) (kf : a ≤ b → jW K P cells slots (pc + 3) vs st) : jW K P cells slots pc vs (.int (jI b) :: .int (jI a) :: st) := by
  obtain ⟨p, l, e, R, s, m, args, below, meth, c, A, Q⟩ := K
  intro H locs ls hP hS hl hz
  exact lv_icmp_gt hk.1 hk.2.1 d ht (fun h => kt ((jI_lt hb ha).mp h) H locs ls hP hS hl hz) (fun h => kf (Int.not_lt.mp (fun q => h ((jI_lt hb ha).mpr q))) H locs ls hP hS hl hz)
theorem j_if_gt (hk : jOK E K cc own rm) {a : Int} {off : Int} {tgt : Nat} (ha : jr a) (d : decode cc pc = .ok (.ifCond .gt off, 3)) (ht : (pc : Int) + off = (tgt : Int)) (kt : 0 < a → jW K P cells slots tgt vs st) (kf : a ≤ 0 → jW K P cells slots (pc + 3) vs st) : jW K P cells slots pc vs (.int (jI a) :: st) := by
  obtain ⟨p, l, e, R, s, m, args, below, meth, c, A, Q⟩ := K
  intro H locs ls hP hS hl hz
  exact lv_if_gt hk.1 hk.2.1 d ht (fun h => kt ((jI_lt (by omega : jr 0) ha).mp h) H locs ls hP hS hl hz) (fun h => kf (Int.not_lt.mp (fun q => h ((jI_lt (by omega : jr 0) ha).mpr q))) H locs ls hP hS hl hz)
theorem j_icmp_le (hk : jOK E K cc own rm) {a b : Int} {off : Int} {tgt : Nat} (ha : jr a) (hb : jr b) (d : decode cc pc = .ok (.if_icmp .le off, 3)) (ht : (pc : Int) + off = (tgt : Int)) (kt : a ≤ b → jW K P cells slots tgt vs st) (kf : b < a → jW K P cells slots (pc + 3) vs st) : jW K P cells slots pc vs (.int (jI b) :: .int (jI a) :: st) := by
  obtain ⟨p, l, e, R, s, m, args, below, meth, c, A, Q⟩ := K
  intro H locs ls hP hS hl hz
  exact lv_icmp_le hk.1 hk.2.1 d ht (fun h => kt ((jI_le ha hb).mp h) H locs ls hP hS hl hz) (fun h => kf (Int.not_le.mp (fun q => h ((jI_le ha hb).mpr q))) H locs ls hP hS hl hz)
theorem j_if_le (hk : jOK E K cc own rm) {a : Int} {off : Int} {tgt : Nat} (ha : jr a) (d : decode cc pc = .ok (.ifCond .le off, 3)) (ht : (pc : Int) + off = (tgt : Int)) (kt : a ≤ 0 → jW K P cells slots tgt vs st) (kf : 0 < a → jW K P cells slots (pc + 3) vs st) : jW K P cells slots pc vs (.int (jI a) :: st) := by
  obtain ⟨p, l, e, R, s, m, args, below, meth, c, A, Q⟩ := K
  intro H locs ls hP hS hl hz
  exact lv_if_le hk.1 hk.2.1 d ht (fun h => kt ((jI_le ha (by omega : jr 0)).mp h) H locs ls hP hS hl hz) (fun h => kf (Int.not_le.mp (fun q => h ((jI_le ha (by omega : jr 0)).mpr q))) H locs ls hP hS hl hz)
theorem j_ifeqB (hk : jOK E K cc own rm) {b : Bool} {off : Int} {tgt : Nat} (d : decode cc pc = .ok (.ifCond .eq off, 3)) (ht : (pc : Int) + off = (tgt : Int)) (kt : b = false → jW K P cells slots tgt vs st) (kf : b = true → jW K P cells slots (pc + 3) vs st) : jW K P cells slots pc vs (.int (jI (jB b)) :: st) := by
  obtain ⟨p, l, e, R, s, m, args, below, meth, c, A, Q⟩ := K
  intro H locs ls hP hS hl hz
  exact lv_if_eq hk.1 hk.2.1 d ht (fun h => kt (jB_0.mp h) H locs ls hP hS hl hz) (fun h => kf (by cases b; exact absurd (jB_0.mpr rfl) h; rfl) H locs ls hP hS hl hz)
theorem j_ifneB (hk : jOK E K cc own rm) {b : Bool} {off : Int} {tgt : Nat} (d : decode cc pc = .ok (.ifCond .ne off, 3)) (ht : (pc : Int) + off = (tgt : Int)) (kt : b = true → jW K P cells slots tgt vs st) (kf : b = false → jW K P cells slots (pc + 3) vs st) : jW K P cells slots pc vs (.int (jI (jB b)) :: st) := by
  obtain ⟨p, l, e, R, s, m, args, below, meth, c, A, Q⟩ := K
  intro H locs ls hP hS hl hz
  exact lv_if_ne hk.1 hk.2.1 d ht (fun h => kt (by cases b; exact absurd (jB_0.mpr rfl) h; rfl) H locs ls hP hS hl hz) (fun h => kf (jB_0.mp h) H locs ls hP hS hl hz)
theorem j_icmpB_ne (hk : jOK E K cc own rm) {b : Bool} {off : Int} {tgt : Nat} (d : decode cc pc = .ok (.if_icmp .ne off, 3)) (ht : (pc : Int) + off = (tgt : Int)) (kt : b = false → jW K P cells slots tgt vs st) (kf : b = true → jW K P cells slots (pc + 3) vs st) : jW K P cells slots pc vs (.int (jI 1) :: .int (jI (jB b)) :: st) := by
  obtain ⟨p, l, e, R, s, m, args, below, meth, c, A, Q⟩ := K
  intro H locs ls hP hS hl hz
  exact lv_icmp_ne hk.1 hk.2.1 d ht (fun h => kt (by cases b; rfl; exact absurd rfl h) H locs ls hP hS hl hz) (fun h => kf (by cases b; exact absurd h (by decide); rfl) H locs ls hP hS hl hz)
theorem j_icmpB_eq (hk : jOK E K cc own rm) {b : Bool} {off : Int} {tgt : Nat} (d : decode cc pc = .ok (.if_icmp .eq off, 3)) (ht : (pc : Int) + off = (tgt : Int)) (kt : b = true → jW K P cells slots tgt vs st) (kf : b = false → jW K P cells slots (pc + 3) vs st) : jW K P cells slots pc vs (.int (jI 1) :: .int (jI (jB b)) :: st) := by
  obtain ⟨p, l, e, R, s, m, args, below, meth, c, A, Q⟩ := K
  intro H locs ls hP hS hl hz
  exact lv_icmp_eq hk.1 hk.2.1 d ht (fun h => kt (by cases b; exact absurd h (by decide); rfl) H locs ls hP hS hl hz) (fun h => kf (by cases b; rfl; exact absurd rfl h) H locs ls hP hS hl hz)
theorem j_ifleB (hk : jOK E K cc own rm) {b : Bool} {off : Int} {tgt : Nat} (d : decode cc pc = .ok (.ifCond .le off, 3)) (ht : (pc : Int) + off = (tgt : Int)) (kt : b = false → jW K P cells slots tgt vs st) (kf : b = true → jW K P cells slots (pc + 3) vs st) : jW K P cells slots pc vs (.int (jI (jB b)) :: st) := by
  obtain ⟨p, l, e, R, s, m, args, below, meth, c, A, Q⟩ := K
  intro H locs ls hP hS hl hz
  exact lv_if_le hk.1 hk.2.1 d ht (fun h => kt (by cases b; rfl; exact absurd h (by decide)) H locs ls hP hS hl hz) (fun h => kf (by cases b; exact absurd (show jI (jB false) ≤ 0 by decide) h; rfl) H locs ls hP hS hl hz)
theorem j_ifnullR (hk : jOK E K cc own rm) {a : Nat} {off : Int} (d : decode cc pc = .ok (.ifnull off, 3)) (k : jW K P cells slots (pc + 3) vs st) : jW K P cells slots pc vs (.ref a :: st) := by
  obtain ⟨p, l, e, R, s, m, args, below, meth, c, A, Q⟩ := K
  intro H locs ls hP hS hl hz
  exact lv_ifnull hk.1 hk.2.1 d (k H locs ls hP hS hl hz)
theorem j_ifnullN (hk : jOK E K cc own rm) {off : Int} {tgt : Nat} (d : decode cc pc = .ok (.ifnull off, 3)) (ht : (pc : Int) + off = (tgt : Int)) (k : jW K P cells slots tgt vs st) : jW K P cells slots pc vs (.null :: st) := by
  obtain ⟨p, l, e, R, s, m, args, below, meth, c, A, Q⟩ := K
  intro H locs ls hP hS hl hz
  exact lv_ifnullN hk.1 hk.2.1 d ht (k H locs ls hP hS hl hz)
theorem j_ifnonnullR (hk : jOK E K cc own rm) {a : Nat} {off : Int} {tgt : Nat} (d : decode cc pc = .ok (.ifnonnull off, 3)) (ht : (pc : Int) + off = (tgt : Int)) (k : jW K P cells slots tgt vs st) : jW K P cells slots pc vs (.ref a :: st) := by
  obtain ⟨p, l, e, R, s, m, args, below, meth, c, A, Q⟩ := K
  intro H locs ls hP hS hl hz
  exact lv_ifnonnull hk.1 hk.2.1 d ht (k H locs ls hP hS hl hz)
theorem j_ifnonnullN (hk : jOK E K cc own rm) {off : Int} (d : decode cc pc = .ok (.ifnonnull off, 3)) (k : jW K P cells slots (pc + 3) vs st) : jW K P cells slots pc vs (.null :: st) := by
  obtain ⟨p, l, e, R, s, m, args, below, meth, c, A, Q⟩ := K
  intro H locs ls hP hS hl hz
  exact lv_ifnonnullN hk.1 hk.2.1 d (k H locs ls hP hS hl hz)
theorem j_acmp_ne (hk : jOK E K cc own rm) {a b : Nat} {off : Int} {tgt : Nat} (d : decode cc pc = .ok (.if_acmp .ne off, 3)) (ht : (pc : Int) + off = (tgt : Int)) (kt : ¬ a = b → jW K P cells slots tgt vs st) (kf : a = b → jW K P cells slots (pc + 3) vs st) : jW K P cells slots pc vs (.ref b :: .ref a :: st) := by
  obtain ⟨p, l, e, R, s, m, args, below, meth, c, A, Q⟩ := K
  intro H locs ls hP hS hl hz
  exact lv_acmp_ne (rx := some a) (ry := some b) hk.1 hk.2.1 d ht (fun h => kt (fun q => h (by rw [q])) H locs ls hP hS hl hz) (fun h => kf (Option.some.inj h) H locs ls hP hS hl hz)
theorem j_acmp_eq (hk : jOK E K cc own rm) {a b : Nat} {off : Int} {tgt : Nat} (d : decode cc pc = .ok (.if_acmp .eq off, 3)) (ht : (pc : Int) + off = (tgt : Int)) (kt : a = b → jW K P cells slots tgt vs st) (kf : ¬ a = b → jW K P cells slots (pc + 3) vs st) : jW K P cells slots pc vs (.ref b :: .ref a :: st) := by
  obtain ⟨p, l, e, R, s, m, args, below, meth, c, A, Q⟩ := K
  intro H locs ls hP hS hl hz
  exact lv_acmp_eq (rx := some a) (ry := some b) hk.1 hk.2.1 d ht (fun h => kt (Option.some.inj h) H locs ls hP hS hl hz) (fun h => kf (fun q => h (by rw [q])) H locs ls hP hS hl hz)
end JROWS
