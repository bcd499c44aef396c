/-! J, 4: the classes of the run; the reference's world and its rows -/
/-- the classes whose objects the walks see, by their numbers -/
def vwCl : List vw_C := [(RX1, TX1, 6), (RX2, TX2, 2), (RX3, TX3, 1), (RX4, TX4, 37), (RX5, TX5, 4), (RX6, TX6, 3), (RX7, TX7, 2), (RX8, TX8, 4), (RX9, TX9, 5), (RX10, TX10, 4), (RJ2, TJ2, 3), (RJ3, TJ3, 4), (RJ4, TJ4, 4), (RJ35, TJ35, 2), (RJ25, TJ25, 3), (RJ14, TJ14, 4), (RJ15, TJ15, 4), (RJ22, TJ22, 1)]
/-- the arrays' classes: of int, byte, long, double, Object, Schedule -/
def vwTy (d : Nat → ClassId) : List (ClassId × FieldType) := [(d 0, .int), (d 1, .byte), (d 2, .long), (d 3, .double), (d 4, .object "java/lang/Object"), (d 5, .object "ScheduleAnalyzer$Schedule")]
/-- what holds of the start -/
def jSt (E : jE) : Prop := va_K E.2.1 vwCl (vwTy E.2.2) E.1 ∧ ∃ b0 : Nat, ∀ w ∈ lw_tbl, w.before #[Value.ref b0] E.1 = true
/-! ### the reference's world: one object (class 3) and its arrays, by their fields' numbers -/
def mArr : List Nat := [0, 1, 2, 3, 8, 11, 13, 14, 15, 16, 17, 18, 21, 22, 23, 24, 25, 29, 30, 31, 32, 33, 34, 35]
def mLen : Nat → Nat := fun k => match k with
  | 0 => 88 | 1 => 88 | 2 => 88 | 3 => 704 | 8 => 60 | 11 => 32 | 13 => 20 | 14 => 20 | 15 => 20 | 16 => 6 | 17 => 5 | 18 => 64
  | 21 => 20 | 22 => 4 | 23 => 4 | 24 => 32 | 25 => 6 | 29 => 20 | 30 => 20 | 31 => 5 | 32 => 4 | 33 => 6 | 34 => 20 | _ => 80
def mIsA (k : Nat) : Bool := mArr.contains k
def mFs (ad : Nat → Nat) (F : Nat → Int) : List Value := (List.range 37).map fun k => if mIsA k then .ref (ad k) else .int (jI (F k))
def mCell (ad : Nat → Nat) (dI : ClassId) (A : Nat → Nat → Int) (k : Nat) : Nat × va_E := (ad k, .inl (dI, mLen k, .inl (fun j => jI (A k j))))
def mW (m : Nat) (ad : Nat → Nat) (dI : ClassId) (A : Nat → Nat → Int) (F : Nat → Int) : va_W := (m, .inr (3, mFs ad F)) :: mArr.map (mCell ad dI A)
def mFr (m : Nat) (ad : Nat → Nat) (q : Nat) : Prop := q = m ∨ ∃ k ∈ mArr, q = ad k
def mAs (E : jE) (m : Nat) (ad : Nat → Nat) (A : Nat → Nat → Int) (F : Nat → Int) : Heap → Prop := fun H => va_P E.2.1 vwCl (mW m ad (E.2.2 0) A F) H ∧ va_D (fun q => E.1.heap.size ≤ q) (mW m ad (E.2.2 0) A F)
/-- one place of a row -/
def iup (f : Nat → Int) (k : Nat) (v : Int) : Nat → Int := fun j => if j = k then v else f j
def mup (A : Nat → Nat → Int) (k : Nat) (n : Nat) (v : Int) : Nat → Nat → Int := fun j => if j = k then iup (A k) n v else A j
theorem iup_s (f : Nat → Int) (k : Nat) (v : Int) : iup f k v k = v := if_pos rfl
theorem iup_n {f : Nat → Int} {k j : Nat} {v : Int} (h : j ≠ k) : iup f k v j = f j := if_neg h
theorem mup_s (A : Nat → Nat → Int) (k n : Nat) (v : Int) : mup A k n v k = iup (A k) n v := if_pos rfl
theorem mup_n {A : Nat → Nat → Int} {k j n : Nat} {v : Int} (h : j ≠ k) : mup A k n v j = A j := if_neg h
theorem mFs_len (ad : Nat → Nat) (F : Nat → Int) : (mFs ad F).length = 37 := by simp [mFs]
theorem mFs_at (ad : Nat → Nat) (F : Nat → Int) {k : Nat} (h : k < 37) : (mFs ad F)[k]? = some (if mIsA k then .ref (ad k) else .int (jI (F k))) := by
  simp [mFs, h]
theorem mFs_set (ad : Nat → Nat) (F : Nat → Int) {k : Nat} (hA : mIsA k = false) (v : Int) : (mFs ad F).set k (.int (jI v)) = mFs ad (iup F k v) := by
  apply List.ext_getElem?
  intro j
  by_cases hj : j < 37
  · rw [mFs_at _ _ hj]
    by_cases hk : j = k
    · subst hk
      rw [List.getElem?_set_self (by rw [mFs_len]; exact hj), hA, iup_s]
      rfl
    · rw [List.getElem?_set_ne (Ne.symm hk), mFs_at _ _ hj, iup_n hk]
  · rw [List.getElem?_eq_none (by rw [List.length_set, mFs_len]; omega), List.getElem?_eq_none (by rw [mFs_len]; omega)]
theorem mW_0 {m : Nat} {ad : Nat → Nat} {dI : ClassId} {A : Nat → Nat → Int} {F : Nat → Int} : (mW m ad dI A F)[0]? = some (m, .inr (3, mFs ad F)) := rfl
theorem mW_a {m : Nat} {ad : Nat → Nat} {dI : ClassId} {A : Nat → Nat → Int} {F : Nat → Int} {i k : Nat} (h : mArr[i]? = some k) : (mW m ad dI A F)[i + 1]? = some (mCell ad dI A k) := by
  unfold mW
  rw [List.getElem?_cons_succ, List.getElem?_map, h]
  rfl
theorem mArr_nd : ∀ (i j k : Nat), mArr[i]? = some k → mArr[j]? = some k → i = j := va_nd_inj mArr (by decide +kernel)
theorem mW_set0 {m : Nat} {ad : Nat → Nat} {dI : ClassId} {A : Nat → Nat → Int} {F : Nat → Int} {k : Nat} (hA : mIsA k = false) (v : Int) : (mW m ad dI A F).set 0 (m, .inr (3, (mFs ad F).set k (.int (jI v)))) = mW m ad dI A (iup F k v) := by
  rw [mFs_set ad F hA v]
  rfl
theorem iup_jI (f : Nat → Int) (k : Nat) (v : Int) : upd (fun j => jI (f j)) k (jI v) = fun j => jI (iup f k v j) := by
  funext j
  unfold upd iup
  split <;> rfl
theorem mW_setA {m : Nat} {ad : Nat → Nat} {dI : ClassId} {A : Nat → Nat → Int} {F : Nat → Int} {i k n : Nat} (h : mArr[i]? = some k) (v : Int) : (mW m ad dI A F).set (i + 1) (ad k, .inl (dI, mLen k, .inl (fun j => jI (iup (A k) n v j)))) = mW m ad dI (mup A k n v) F := by
  unfold mW
  rw [List.set_cons_succ]
  congr 1
  apply List.ext_getElem?
  intro j
  rw [List.getElem?_map]
  by_cases hj : j = i
  · subst hj
    have hl : j < mArr.length := (List.getElem?_eq_some_iff.mp h).1
    rw [List.getElem?_set_self (by simpa using hl), h]
    show _ = some (mCell ad dI (mup A k n v) k)
    unfold mCell
    rw [mup_s]
  · rw [List.getElem?_set_ne (Ne.symm hj), List.getElem?_map]
    cases hx : mArr[j]? with
    | none => rfl
    | some k2 =>
      have : k2 ≠ k := fun e => hj (mArr_nd j i k (by rw [hx, e]) h)
      show some (mCell ad dI A k2) = some (mCell ad dI (mup A k n v) k2)
      unfold mCell
      rw [mup_n this]
theorem mW_fr {m : Nat} {ad : Nat → Nat} {dI : ClassId} {A : Nat → Nat → Int} {F : Nat → Int} {i : Nat} {q : Nat × va_E} (h : (mW m ad dI A F)[i]? = some q) : mFr m ad q.1 := by
  cases i with
  | zero => cases h; exact Or.inl rfl
  | succ i =>
    unfold mW at h
    rw [List.getElem?_cons_succ, List.getElem?_map] at h
    cases hx : mArr[i]? with
    | none => rw [hx] at h; cases h
    | some k =>
      rw [hx] at h
      cases h
      exact Or.inr ⟨k, List.mem_of_getElem? hx, rfl⟩
theorem mW_frI {m : Nat} {ad : Nat → Nat} (dI : ClassId) (A : Nat → Nat → Int) (F : Nat → Int) {q : Nat} (h : mFr m ad q) : ∃ (i : Nat) (e : va_E), (mW m ad dI A F)[i]? = some (q, e) := by
  rcases h with rfl | ⟨k, hk, rfl⟩
  · exact ⟨0, _, rfl⟩
  · obtain ⟨i, hi⟩ := List.getElem?_of_mem hk
    exact ⟨i + 1, _, mW_a hi⟩
/-- the apartness speaks of the addresses alone -/
theorem mD_A {B : Nat → Prop} {m : Nat} {ad : Nat → Nat} {dI : ClassId} {A A2 : Nat → Nat → Int} {F F2 : Nat → Int} (h : va_D B (mW m ad dI A F)) : va_D B (mW m ad dI A2 F2) := by
  have key : ∀ (i : Nat) (q : Nat × va_E), (mW m ad dI A2 F2)[i]? = some q → ∃ q0, (mW m ad dI A F)[i]? = some q0 ∧ q0.1 = q.1 := by
    intro i q hq
    cases i with
    | zero => cases hq; exact ⟨_, rfl, rfl⟩
    | succ i =>
      unfold mW at hq
      rw [List.getElem?_cons_succ, List.getElem?_map] at hq
      cases hx : mArr[i]? with
      | none => rw [hx] at hq; cases hq
      | some k =>
        rw [hx] at hq
        cases hq
        exact ⟨_, mW_a hx, rfl⟩
  refine ⟨fun i j p q hi hj hpq => ?_, fun k q hk => ?_⟩
  · obtain ⟨p0, h1, h2⟩ := key i p hi
    obtain ⟨q0, h3, h4⟩ := key j q hj
    exact h.1 i j p0 q0 h1 h3 (by rw [h2, h4, hpq])
  · obtain ⟨q0, h1, h2⟩ := key k q hk
    rw [← h2]
    exact h.2 k q0 h1
theorem mAs_ge {E : jE} {m : Nat} {ad : Nat → Nat} {A : Nat → Nat → Int} {F : Nat → Int} {H : Heap} (h : mAs E m ad A F H) : ∀ q, mFr m ad q → E.1.heap.size ≤ q := fun q hq => by
  obtain ⟨i, e, hi⟩ := mW_frI (E.2.2 0) A F hq
  exact h.2.2 i _ hi
section MROWS
variable {E : jE} {K : jK} {cc : ByteArray} {rm : Room} {cells slots pc : Nat} {vs : List (Option Value)} {st : List Value} {m : Nat} {ad : Nat → Nat} {A : Nat → Nat → Int} {F : Nat → Int}
theorem mAs_D {s : State} {B : Nat → Prop} {H : Heap} (hF : ∀ q, mFr m ad q → B q) (h : mAs E m ad A F H) : va_D B (mW m ad (E.2.2 0) A F) := h.2.weaken (fun k q hk _ => hF q.1 (mW_fr hk))
theorem m_same {s : State} {k : Nat} (h : k < 37) : ∀ x, s.fieldFound? (TX4 k).1 (TX4 k).2.1 (TX4 k).2.2.1 = some x → s.fieldFound? "ScheduleAnalyzerModel" (TX4 k).2.1 (TX4 k).2.2.1 = some x := by
  have e : (TX4 k).1 = "ScheduleAnalyzerModel" := by
    have : ∀ k, k < 37 → (TX4 k).1 = "ScheduleAnalyzerModel" := by decide +kernel
    exact this k h
  rw [e]
  exact fun x h => h
/-- a field that is a number -/
theorem j_mget (hE : jSt E) (hk : jOK E K cc "ScheduleAnalyzerModel" rm) (k : Nat) (h37 : k < 37) (hA : mIsA k = false) {index : Nat} (hlink : (Cond.fieldLink "ScheduleAnalyzerModel" index "ScheduleAnalyzerModel" (TX4 k).2.1 (TX4 k).2.2.1) ∈ lw_all) (d : decode cc pc = .ok (.getfield index, 3)) (kk : jW K (mAs E m ad A F) cells slots (pc + 3) vs (.int (jI (F k)) :: st)) : jW K (mAs E m ad A F) cells slots pc vs (.ref m :: st) := by
  obtain ⟨p, l, e, R, s, m', args, below, meth, c, A', Q⟩ := K
  intro H locs ls hP hS hl hz
  obtain ⟨hx, hb, hown, hts, -, hG, -⟩ := hk
  exact va_get hx hb hts in_X4 hown (hG.K hE.1) hP.1 0 mW_0 (show vwCl[3]? = some (RX4, TX4, 37) from rfl) k h37 (hts _ hlink) (m_same h37) (by rw [mFs_at _ _ h37, hA]; rfl) d (kk H locs ls hP hS hl hz)
/-- a field that is an array -/
theorem j_mgetA (hE : jSt E) (hk : jOK E K cc "ScheduleAnalyzerModel" rm) (k : Nat) (h37 : k < 37) (hA : mIsA k = true) {index : Nat} (hlink : (Cond.fieldLink "ScheduleAnalyzerModel" index "ScheduleAnalyzerModel" (TX4 k).2.1 (TX4 k).2.2.1) ∈ lw_all) (d : decode cc pc = .ok (.getfield index, 3)) (kk : jW K (mAs E m ad A F) cells slots (pc + 3) vs (.ref (ad k) :: st)) : jW K (mAs E m ad A F) cells slots pc vs (.ref m :: st) := by
  obtain ⟨p, l, e, R, s, m', args, below, meth, c, A', Q⟩ := K
  intro H locs ls hP hS hl hz
  obtain ⟨hx, hb, hown, hts, -, hG, -⟩ := hk
  exact va_get hx hb hts in_X4 hown (hG.K hE.1) hP.1 0 mW_0 (show vwCl[3]? = some (RX4, TX4, 37) from rfl) k h37 (hts _ hlink) (m_same h37) (by rw [mFs_at _ _ h37, hA]; rfl) d (kk H locs ls hP hS hl hz)
/-- a number stored -/
theorem j_mput (hE : jSt E) (hk : jOK E K cc "ScheduleAnalyzerModel" rm) (hF : ∀ q, mFr m ad q → jKA K q) (k : Nat) (h37 : k < 37) (hA : mIsA k = false) {index : Nat} (hlink : (Cond.fieldLink "ScheduleAnalyzerModel" index "ScheduleAnalyzerModel" (TX4 k).2.1 (TX4 k).2.2.1) ∈ lw_all) (hfin : (TX4 k).2.2.2 = false) {ty : FieldType} {z : Int} (hd : parseFieldDescriptor (TX4 k).2.2.1 = some ty) (hn : narrow ty (.int (jI z)) = .int (jI z)) (hfit : fits ty (.int (jI z)) = true) (d : decode cc pc = .ok (.putfield index, 3)) (kk : jW K (mAs E m ad A (iup F k z)) cells slots (pc + 3) vs st) : jW K (mAs E m ad A F) cells slots pc vs (.int (jI z) :: .ref m :: st) := by
  obtain ⟨p, l, e, R, s, m', args, below, meth, c, A', Q⟩ := K
  intro H locs ls hP hS hl hz
  obtain ⟨hx, hb, hown, hts, -, hG, -⟩ := hk
  refine va_put hx hb hts in_X4 tyX4 tyX4_ok nmX4 hown (hG.K hE.1) hP.1 (mAs_D (s := s) hF hP) hS 0 mW_0 (show vwCl[3]? = some (RX4, TX4, 37) from rfl) k h37 (hts _ hlink) (m_same h37) hfin hd hn hfit (by rw [mFs_len]; exact h37) d (fun H1 locs1 hP1 hD1 hS1 => ?_)
  rw [mW_set0 hA] at hP1 hD1
  exact kk H1 locs1 ls ⟨hP1, mD_A hP.2⟩ hS1 hl hz
/-- a place of an array read -/
theorem j_mald (hE : jSt E) (hk : jOK E K cc "ScheduleAnalyzerModel" rm) (k i : Nat) (hi : mArr[i]? = some k) {z : Int} (n : Nat) (hz : z = (n : Int)) (hn : n < mLen k) (d : decode cc pc = .ok (.iaload, 1)) (kk : jW K (mAs E m ad A F) cells slots (pc + 1) vs (.int (jI (A k n)) :: st)) : jW K (mAs E m ad A F) cells slots pc vs (.int (jI z) :: .ref (ad k) :: st) := by
  obtain ⟨p, l, e, R, s, m', args, below, meth, c, A', Q⟩ := K
  intro H locs ls hP hS hl hz2
  obtain ⟨hx, hb, hown, hts, -, hG, -⟩ := hk
  subst hz
  have h704 : mLen k ≤ 704 := by unfold mLen; split <;> omega
  refine va_iald hx hb (hG.K hE.1) hP.1 (i + 1) 0 (mW_a hi) rfl (jI_in (by omega) (by omega) (by omega)) d ?_
  rw [jI_clamp (by omega) (by omega), Int.toNat_natCast]
  exact kk H locs ls hP hS hl hz2
/-- a place of an array written -/
theorem j_mast (hE : jSt E) (hk : jOK E K cc "ScheduleAnalyzerModel" rm) (hF : ∀ q, mFr m ad q → jKA K q) (k i : Nat) (hi : mArr[i]? = some k) {z v : Int} (n : Nat) (hz : z = (n : Int)) (hn : n < mLen k) (d : decode cc pc = .ok (.iastore, 1)) (kk : jW K (mAs E m ad (mup A k n v) F) cells slots (pc + 1) vs st) : jW K (mAs E m ad A F) cells slots pc vs (.int (jI v) :: .int (jI z) :: .ref (ad k) :: st) := by
  obtain ⟨p, l, e, R, s, m', args, below, meth, c, A', Q⟩ := K
  intro H locs ls hP hS hl hz2
  obtain ⟨hx, hb, hown, hts, -, hG, -⟩ := hk
  subst hz
  have h704 : mLen k ≤ 704 := by unfold mLen; split <;> omega
  refine va_iast hx hb (hG.K hE.1) hP.1 (mAs_D (s := s) hF hP) hS (i + 1) 0 (mW_a hi) rfl (jI_in (by omega) (by omega) (by omega)) d (fun H1 locs1 hP1 hD1 hS1 => ?_)
  rw [jI_clamp (by omega) (by omega), Int.toNat_natCast, iup_jI, mW_setA hi] at hP1
  exact kk H1 locs1 ls ⟨hP1, mD_A hP.2⟩ hS1 hl hz2
theorem j_malen (hE : jSt E) (hk : jOK E K cc "ScheduleAnalyzerModel" rm) (k i : Nat) (hi : mArr[i]? = some k) (d : decode cc pc = .ok (.arraylength, 1)) (kk : jW K (mAs E m ad A F) cells slots (pc + 1) vs (.int (jI (mLen k : Int)) :: st)) : jW K (mAs E m ad A F) cells slots pc vs (.ref (ad k) :: st) := by
  obtain ⟨p, l, e, R, s, m', args, below, meth, c, A', Q⟩ := K
  intro H locs ls hP hS hl hz2
  obtain ⟨hx, hb, hown, hts, -, hG, -⟩ := hk
  refine va_alen hx hb (hG.K hE.1) hP.1 (i + 1) 0 (mW_a hi) (ty := .int) rfl (v := jI (mLen k : Int)) (by rw [jI_nat]; rfl) d ?_
  exact kk H locs ls hP hS hl hz2
/-- the reference as the receiver of a call -/
theorem m_recv {s : State} (hE : jSt E) (hG : jG E.1 s) {H : Heap} (h : mAs E m ad A F H) : ∃ cell : Cell, H[m]? = some cell ∧ cell.vm.isStatics = false ∧ s.vm.findClass RX4 = some cell.cls :=
  va_recv (hG.K hE.1) h.1 (ci := 3) (q0 := 0) rfl rfl
end MROWS
/-- what a method of the reference answers: a number; nothing -/
def mQi (E : jE) (m : Nat) (ad : Nat → Nat) (post : Int → (Nat → Nat → Int) → (Nat → Int) → Prop) : Option Value → Heap → Prop := fun v H => ∃ (r : Int) (A2 : Nat → Nat → Int) (F2 : Nat → Int), v = some (.int (jI r)) ∧ mAs E m ad A2 F2 H ∧ post r A2 F2
def mQv (E : jE) (m : Nat) (ad : Nat → Nat) (post : (Nat → Nat → Int) → (Nat → Int) → Prop) : Option Value → Heap → Prop := fun v H => ∃ (A2 : Nat → Nat → Int) (F2 : Nat → Int), v = none ∧ mAs E m ad A2 F2 H ∧ post A2 F2
/-- a contract of the reference's method -/
def mC (l : Launch) (E : jE) (y : MethodName) (b : ByteArray) (L : Nat) (ret : Option FieldType) (fr lo : Nat) (as : List Value) (m : Nat) (ad : Nat → Nat) (A : Nat → Nat → Int) (F : Nat → Int) (Post : Option Value → Heap → Prop) : Prop := jC l E y b L ret fr lo 0 0 as (mAs E m ad A F) (mFr m ad) Post
/-- a contract of a method that touches no cell -/
def sC (l : Launch) (E : jE) (y : MethodName) (b : ByteArray) (L : Nat) (ret : Option FieldType) (fr lo : Nat) (as : List Value) (post : Option Value → Prop) : Prop := ∀ H0 : Heap, jC l E y b L ret fr lo 0 0 as (fun X => X = H0) (fun _ => False) (fun v H => post v ∧ H = H0)
section MCALL
variable {l : Launch} {E : jE} {K : jK} {cc : ByteArray} {own : String} {Rf Rc Rs Rl : Nat} {P : Heap → Prop} {cells slots pc : Nat} {vs : List (Option Value)} {st : List Value} {m : Nat} {ad : Nat → Nat} {A : Nat → Nat → Int} {F : Nat → Int}
variable {y : MethodName} {b : ByteArray} {L : Nat} {ret : Option FieldType} {fr lo mc ms : Nat}
theorem m_start {as : List Value} {Post : Option Value → Heap → Prop} {vs : List (Option Value)} (hs : l.stackTraces = false) (hy : plainName y.cls = true) (ho : y.cls = own) (hv : jv 0 vs = lv_args 0 as) (hn : vs.length = L) (hg : (lg_sl as).length ≤ L)
    (body : ∀ K : jK, jOK E K b own ({ frames := fr, cells := 0, slots := 0, locals := lo } : Room) → jEnd K ret 0 0 Post → jKl K = l → (∀ q, mFr m ad q → jKA K q) → jG E.1 (jKs K) → jW K (mAs E m ad A F) 0 0 0 vs []) : mC l E y b L ret fr lo as m ad A F Post := by
  refine j_start hs hy ho hv hn hg (fun H0 h => mAs_ge h) ?_
  intro K H0 hP hk he hl hH hA
  have hG : jG E.1 (jKs K) := by
    obtain ⟨p, l, e, R, s, m', args, below, meth, c, A', Q⟩ := K
    exact hk.2.2.2.2.2.1
  exact j_P (P2 := mAs E m ad A F) (fun H h => by rw [h]; exact hP) (body K hk he hl (fun q hq => (hA q).mpr (Or.inl hq)) hG)
theorem s_start {as : List Value} {post : Option Value → Prop} {vs : List (Option Value)} (hs : l.stackTraces = false) (hy : plainName y.cls = true) (ho : y.cls = own) (hv : jv 0 vs = lv_args 0 as) (hn : vs.length = L) (hg : (lg_sl as).length ≤ L)
    (body : ∀ (K : jK) (H0 : Heap), jOK E K b own ({ frames := fr, cells := 0, slots := 0, locals := lo } : Room) → jEnd K ret 0 0 (fun v H => post v ∧ H = H0) → jKl K = l → jW K (fun X => X = H0) 0 0 0 vs []) : sC l E y b L ret fr lo as post := by
  intro H0
  refine j_start hs hy ho hv hn hg (fun _ _ _ h => h.elim) ?_
  intro K H1 hP hk he hl hH hA
  subst hP
  exact body K _ hk he hl
/-- a call of the reference's own method, by the reference: a number comes -/
theorem j_mVi (hE : jSt E) (hk : jOK E K cc own ({ frames := Rf, cells := Rc, slots := Rs, locals := Rl } : Room)) (hl0 : jKl K = l) (hF : ∀ q, mFr m ad q → jKA K q) {As rest : List Value} {post : Int → (Nat → Nat → Int) → (Nat → Int) → Prop} (hC : mC l E y b L ret fr lo (.ref m :: As) m ad A F (mQi E m ad post)) (n : Nat) {idx : Nat} (hT : GoodIn lw_all (wsV own idx RX4 y (ws_ y b L ret)))
    (hd : y.cls = RX4 ∧ y.cls ≠ "java/lang/invoke/MethodHandle" ∧ y.cls ≠ "java/lang/invoke/VarHandle" ∧ (parseMethodDescriptor y.desc).map (fun d => d.parameters.length) = some n) (hn : As.length = n) (hroom : fr + 1 ≤ Rf ∧ 8 + (L + 11) + lo ≤ Rl) (hcell : cells ≤ Rc ∧ slots ≤ Rs) (hst : st = As.reverse ++ .ref m :: rest) (hcat : (rest.map fun v => v.category).sum ≤ 8)
    (d : decode cc pc = .ok (.invokevirtual idx, 3)) (kk : ∀ (r : Int) (A2 : Nat → Nat → Int) (F2 : Nat → Int), post r A2 F2 → jW K (mAs E m ad A2 F2) cells slots (pc + 3) vs (.int (jI r) :: rest)) : jW K (mAs E m ad A F) cells slots pc vs st := by
  have hG : jG E.1 (jKs K) := by
    obtain ⟨p, l, e, R, s, m', args, below, meth, c, A', Q⟩ := K
    exact hk.2.2.2.2.2.1
  refine j_callV hk hC hl0 n hT hd hn hroom hcell hst hcat d (fun H h => h) (fun H h => m_recv hE hG h) hF ?_
  rintro H0 v H1 h0 ⟨r, A2, F2, rfl, h2, h3⟩ hz hq
  exact j_P (P2 := mAs E m ad A2 F2) (fun H h => by rw [h]; exact h2) (kk r A2 F2 h3)
theorem j_mVv (hE : jSt E) (hk : jOK E K cc own ({ frames := Rf, cells := Rc, slots := Rs, locals := Rl } : Room)) (hl0 : jKl K = l) (hF : ∀ q, mFr m ad q → jKA K q) {As rest : List Value} {post : (Nat → Nat → Int) → (Nat → Int) → Prop} (hC : mC l E y b L ret fr lo (.ref m :: As) m ad A F (mQv E m ad post)) (n : Nat) {idx : Nat} (hT : GoodIn lw_all (wsV own idx RX4 y (ws_ y b L ret)))
    (hd : y.cls = RX4 ∧ y.cls ≠ "java/lang/invoke/MethodHandle" ∧ y.cls ≠ "java/lang/invoke/VarHandle" ∧ (parseMethodDescriptor y.desc).map (fun d => d.parameters.length) = some n) (hn : As.length = n) (hroom : fr + 1 ≤ Rf ∧ 8 + (L + 11) + lo ≤ Rl) (hcell : cells ≤ Rc ∧ slots ≤ Rs) (hst : st = As.reverse ++ .ref m :: rest) (hcat : (rest.map fun v => v.category).sum ≤ 8)
    (d : decode cc pc = .ok (.invokevirtual idx, 3)) (kk : ∀ (A2 : Nat → Nat → Int) (F2 : Nat → Int), post A2 F2 → jW K (mAs E m ad A2 F2) cells slots (pc + 3) vs rest) : jW K (mAs E m ad A F) cells slots pc vs st := by
  have hG : jG E.1 (jKs K) := by
    obtain ⟨p, l, e, R, s, m', args, below, meth, c, A', Q⟩ := K
    exact hk.2.2.2.2.2.1
  refine j_callV hk hC hl0 n hT hd hn hroom hcell hst hcat d (fun H h => h) (fun H h => m_recv hE hG h) hF ?_
  rintro H0 v H1 h0 ⟨A2, F2, rfl, h2, h3⟩ hz hq
  exact j_P (P2 := mAs E m ad A2 F2) (fun H h => by rw [h]; exact h2) (kk A2 F2 h3)
/-- a static call of a method that touches no cell -/
theorem j_sS (hk : jOK E K cc own ({ frames := Rf, cells := Rc, slots := Rs, locals := Rl } : Room)) (hl0 : jKl K = l) {As rest : List Value} {post : Option Value → Prop} (hC : sC l E y b L ret fr lo As post) (n : Nat) {idx : Nat} (hT : GoodIn lw_all (va_wsS own idx y (ws_ y b L ret)))
    (hd : y.cls ≠ "java/lang/invoke/MethodHandle" ∧ y.cls ≠ "java/lang/invoke/VarHandle" ∧ (parseMethodDescriptor y.desc).map (fun d => d.parameters.length) = some n) (hn : As.length = n) (hroom : fr + 1 ≤ Rf ∧ 8 + (L + 11) + lo ≤ Rl) (hcell : cells ≤ Rc ∧ slots ≤ Rs) (hst : st = As.reverse ++ rest) (hcat : (rest.map fun v => v.category).sum ≤ 8)
    (d : decode cc pc = .ok (.invokestatic idx, 3)) (kk : ∀ v : Option Value, post v → jW K P cells slots (pc + 3) vs (v.toList ++ rest)) : jW K P cells slots pc vs st := by
  refine j_Pe (fun H hPH => ?_)
  refine j_callS hk (hC H) hl0 n hT hd hn hroom hcell hst hcat d (fun X h => h) (fun _ h => h.elim) ?_
  rintro H0 v H1 rfl ⟨h1, rfl⟩ hz hq
  exact j_P (P2 := P) (fun X h => by rw [h]; exact hPH) (kk v h1)
theorem j_sSi (hk : jOK E K cc own ({ frames := Rf, cells := Rc, slots := Rs, locals := Rl } : Room)) (hl0 : jKl K = l) {As rest : List Value} {z : Int} (hC : sC l E y b L ret fr lo As (fun v => v = some (.int (jI z)))) (n : Nat) {idx : Nat} (hT : GoodIn lw_all (va_wsS own idx y (ws_ y b L ret)))
    (hd : y.cls ≠ "java/lang/invoke/MethodHandle" ∧ y.cls ≠ "java/lang/invoke/VarHandle" ∧ (parseMethodDescriptor y.desc).map (fun d => d.parameters.length) = some n) (hn : As.length = n) (hroom : fr + 1 ≤ Rf ∧ 8 + (L + 11) + lo ≤ Rl) (hcell : cells ≤ Rc ∧ slots ≤ Rs) (hst : st = As.reverse ++ rest) (hcat : (rest.map fun v => v.category).sum ≤ 8)
    (d : decode cc pc = .ok (.invokestatic idx, 3)) (kk : jW K P cells slots (pc + 3) vs (.int (jI z) :: rest)) : jW K P cells slots pc vs st :=
  j_sS hk hl0 hC n hT hd hn hroom hcell hst hcat d (fun v h => by subst h; exact kk)
/-- a static call of a method that works on the reference's arrays -/
theorem j_mSv (hE : jSt E) (hk : jOK E K cc own ({ frames := Rf, cells := Rc, slots := Rs, locals := Rl } : Room)) (hl0 : jKl K = l) (hF : ∀ q, mFr m ad q → jKA K q) {As rest : List Value} {post : (Nat → Nat → Int) → (Nat → Int) → Prop} (hC : mC l E y b L ret fr lo As m ad A F (mQv E m ad post)) (n : Nat) {idx : Nat} (hT : GoodIn lw_all (va_wsS own idx y (ws_ y b L ret)))
    (hd : y.cls ≠ "java/lang/invoke/MethodHandle" ∧ y.cls ≠ "java/lang/invoke/VarHandle" ∧ (parseMethodDescriptor y.desc).map (fun d => d.parameters.length) = some n) (hn : As.length = n) (hroom : fr + 1 ≤ Rf ∧ 8 + (L + 11) + lo ≤ Rl) (hcell : cells ≤ Rc ∧ slots ≤ Rs) (hst : st = As.reverse ++ rest) (hcat : (rest.map fun v => v.category).sum ≤ 8)
    (d : decode cc pc = .ok (.invokestatic idx, 3)) (kk : ∀ (A2 : Nat → Nat → Int) (F2 : Nat → Int), post A2 F2 → jW K (mAs E m ad A2 F2) cells slots (pc + 3) vs rest) : jW K (mAs E m ad A F) cells slots pc vs st := by
  refine j_callS hk hC hl0 n hT hd hn hroom hcell hst hcat d (fun H h => h) hF ?_
  rintro H0 v H1 h0 ⟨A2, F2, rfl, h2, h3⟩ hz hq
  exact j_P (P2 := mAs E m ad A2 F2) (fun H h => by rw [h]; exact h2) (kk A2 F2 h3)
theorem j_miret (hk : jOK E K cc own ({ frames := Rf, cells := Rc, slots := Rs, locals := Rl } : Room)) {ty : FieldType} {post : Int → (Nat → Nat → Int) → (Nat → Int) → Prop} (he : jEnd K (some ty) mc ms (mQi E m ad post)) {z : Int} (hn : narrow ty (.int (jI z)) = .int (jI z)) (d : decode cc pc = .ok (.ireturn, 1)) (hc : cells ≤ mc) (hs : slots ≤ ms) (hq : post z A F) : jW K (mAs E m ad A F) cells slots pc vs [.int (jI z)] :=
  j_iret hk he hn d hc hs (fun H h => ⟨z, A, F, rfl, h, hq⟩)
theorem j_mvret (hk : jOK E K cc own ({ frames := Rf, cells := Rc, slots := Rs, locals := Rl } : Room)) {post : (Nat → Nat → Int) → (Nat → Int) → Prop} (he : jEnd K none mc ms (mQv E m ad post)) (d : decode cc pc = .ok (.return_, 1)) (hc : cells ≤ mc) (hs : slots ≤ ms) (hq : post A F) : jW K (mAs E m ad A F) cells slots pc vs [] :=
  j_vret hk he d hc hs (fun H h => ⟨A, F, rfl, h, hq⟩)
theorem j_siret {H0 : Heap} (hk : jOK E K cc own ({ frames := Rf, cells := Rc, slots := Rs, locals := Rl } : Room)) {ty : FieldType} {post : Option Value → Prop} (he : jEnd K (some ty) mc ms (fun v H => post v ∧ H = H0)) {z : Int} (hn : narrow ty (.int (jI z)) = .int (jI z)) (d : decode cc pc = .ok (.ireturn, 1)) (hc : cells ≤ mc) (hs : slots ≤ ms) (hq : post (some (.int (jI z)))) : jW K (fun X => X = H0) cells slots pc vs [.int (jI z)] :=
  j_iret hk he hn d hc hs (fun H h => ⟨hq, h⟩)
end MCALL
