/-! P, 7: execution under locks -/
/-- the first number below n of which p holds, or -1 -/
def findR (n : Nat) (p : Nat → Bool) : Int := match (List.range n).find? p with
  | none => -1
  | some k => ((k : Nat) : Int)
theorem findR_some {n k : Nat} {p : Nat → Bool} (hk : k < n) (hp : p k = true) (h : ∀ j, j < k → p j = false) : findR n p = ((k : Nat) : Int) := by
  unfold findR
  rw [show (List.range n).find? p = some k from List.find?_range_eq_some.mpr ⟨hp, List.mem_range.mpr hk, fun j hj => by rw [h j hj]; rfl⟩]
theorem findR_none {n : Nat} {p : Nat → Bool} (h : ∀ j, j < n → p j = false) : findR n p = -1 := by
  unfold findR
  rw [show (List.range n).find? p = none from List.find?_eq_none.mpr (fun x hx => by rw [h x (List.mem_range.mp hx)]; decide)]
theorem findR_cases (n : Nat) (p : Nat → Bool) : (findR n p = -1 ∧ ∀ j, j < n → p j = false) ∨ ∃ k, findR n p = ((k : Nat) : Int) ∧ k < n ∧ p k = true ∧ ∀ j, j < k → p j = false := by
  unfold findR
  rcases h : (List.range n).find? p with _ | k
  · refine Or.inl ⟨rfl, fun j hj => ?_⟩
    exact Bool.eq_false_iff.mpr (List.find?_eq_none.mp h j (List.mem_range.mpr hj))
  · obtain ⟨h1, h2, h3⟩ := List.find?_range_eq_some.mp h
    exact Or.inr ⟨k, rfl, List.mem_range.mp h2, h1, fun j hj => by simpa using h3 j hj⟩
theorem findR_r (n : Nat) (p : Nat → Bool) : -1 ≤ findR n p ∧ findR n p < ((n : Nat) : Int) := by
  rcases findR_cases n p with ⟨h, _⟩ | ⟨k, h, hk, _⟩ <;> omega
theorem findR_at {n : Nat} {p : Nat → Bool} (h : 0 ≤ findR n p) : findR n p = (((findR n p).toNat : Nat) : Int) ∧ (findR n p).toNat < n ∧ p (findR n p).toNat = true := by
  rcases findR_cases n p with ⟨e, _⟩ | ⟨k, e, hk, hp, _⟩
  · omega
  · rw [e]; exact ⟨rfl, hk, hp⟩
def nup (f : Nat → Nat) (k v : Nat) : Nat → Nat := fun j => if j = k then v else f j
theorem nup_s {f : Nat → Nat} {k v : Nat} : nup f k v k = v := if_pos rfl
theorem nup_n {f : Nat → Nat} {k v j : Nat} (h : j ≠ k) : nup f k v j = f j := if_neg h
/-- how many below n -/
def cN (p : Nat → Bool) : Nat → Nat
  | 0 => 0
  | n + 1 => cN p n + (if p n then 1 else 0)
theorem cN_le (p : Nat → Bool) : ∀ n, cN p n ≤ n := by
  intro n
  induction n with
  | zero => exact Nat.le_refl _
  | succ n ih => unfold cN; split <;> omega
theorem cN_mono {p q : Nat → Bool} : ∀ {n}, (∀ j, j < n → p j = true → q j = true) → cN p n ≤ cN q n := by
  intro n
  induction n with
  | zero => intro _; exact Nat.le_refl _
  | succ n ih =>
    intro h
    have := ih (fun j hj => h j (by omega))
    have := h n (by omega)
    unfold cN
    by_cases e : p n = true
    · rw [if_pos e, if_pos (this e)]; omega
    · rw [if_neg e]; omega
theorem cN_lt {p q : Nat → Bool} {k : Nat} : ∀ {n}, (∀ j, j < n → p j = true → q j = true) → k < n → p k = false → q k = true → cN p n + 1 ≤ cN q n := by
  intro n
  induction n with
  | zero => intro _ h; omega
  | succ n ih =>
    intro h hk hp hq
    by_cases e : k = n
    · subst e
      have := cN_mono (n := k) (fun j hj => h j (by omega))
      unfold cN
      rw [if_pos hq, if_neg (by rw [hp]; decide)]; omega
    · have := ih (fun j hj => h j (by omega)) (by omega) hp hq
      have := h n (by omega)
      unfold cN
      by_cases e : p n = true
      · rw [if_pos e, if_pos (this e)]; omega
      · rw [if_neg e]; omega
/-- the state of an execution under locks: each operation's status (1 waits, 2 gone, 3 done), each item's readers and writers (sets of transactions), what was executed, the victims, how many waited -/
def LkS : Type := (Nat → Nat) × (Nat → Nat) × (Nat → Nat) × List Op × Nat × Nat
abbrev LkS.st (w : LkS) : Nat → Nat := Prod.fst w
abbrev LkS.rd (w : LkS) : Nat → Nat := Prod.fst (Prod.snd w)
abbrev LkS.wr (w : LkS) : Nat → Nat := Prod.fst (Prod.snd (Prod.snd w))
abbrev LkS.out (w : LkS) : List Op := Prod.fst (Prod.snd (Prod.snd (Prod.snd w)))
abbrev LkS.vic (w : LkS) : Nat := Prod.fst (Prod.snd (Prod.snd (Prod.snd (Prod.snd w))))
abbrev LkS.wtd (w : LkS) : Nat := Prod.snd (Prod.snd (Prod.snd (Prod.snd (Prod.snd w))))
def lkIs (A : Nat → Nat → Int) (F : Nat → Int) (L : List Op) (w : LkS) : Prop := laid A F L ∧ (∀ k, k < 20 → A 21 k = ((w.st k : Nat) : Int) ∧ w.st k ≤ 3) ∧ (∀ i, i < 4 → A 22 i = ((w.rd i : Nat) : Int) ∧ w.rd i < 64) ∧ (∀ i, i < 4 → A 23 i = ((w.wr i : Nat) : Int) ∧ w.wr i < 64) ∧ (F 26 = ((w.out.length : Nat) : Int) ∧ w.out.length ≤ 32 ∧ ∀ i, i < w.out.length → A 24 i = ((opV (opAt w.out i) : Nat) : Int) ∧ opOK (opAt w.out i)) ∧ (F 27 = ((w.vic : Nat) : Int) ∧ w.vic < 64) ∧ F 28 = ((w.wtd : Nat) : Int) ∧ w.wtd ≤ 100
def setSt (w : LkS) (f : Nat → Nat) : LkS := (f, w.rd, w.wr, w.out, w.vic, w.wtd)
def putO (w : LkS) (o : Op) : LkS := (w.st, w.rd, w.wr, w.out ++ [o], w.vic, w.wtd)
def setRd (w : LkS) (i m : Nat) : LkS := (w.st, nup w.rd i m, w.wr, w.out, w.vic, w.wtd)
def setWr (w : LkS) (i m : Nat) : LkS := (w.st, w.rd, nup w.wr i m, w.out, w.vic, w.wtd)
def endS (w : LkS) (t : Nat) : LkS := (w.st, fun i => jandn (w.rd i) (1 * 2 ^ t), fun i => jandn (w.wr i) (1 * 2 ^ t), w.out, w.vic, w.wtd)
theorem lkIs.stat {A : Nat → Nat → Int} {F : Nat → Int} {L : List Op} {w : LkS} {k v : Nat} (h : lkIs A F L w) (hv : v ≤ 3) : lkIs (mup A 21 k ((v : Nat) : Int)) F L (setSt w (nup w.st k v)) := by
  refine ⟨h.1.keep rfl rfl rfl rfl, fun j hj => ?_, h.2.2⟩
  rw [mup_s]
  by_cases e : j = k
  · subst e; rw [iup_s]; exact ⟨by show _ = ((nup w.st j v j : Nat) : Int); rw [nup_s], by show nup w.st j v j ≤ 3; rw [nup_s]; exact hv⟩
  · rw [iup_n e]; show A 21 j = ((nup w.st k v j : Nat) : Int) ∧ nup w.st k v j ≤ 3; rw [nup_n e]; exact h.2.1 j hj
theorem lkIs.put {A : Nat → Nat → Int} {F : Nat → Int} {L : List Op} {w : LkS} {o : Op} (h : lkIs A F L w) (ho : opOK o) (hl : w.out.length < 32) : lkIs (mup A 24 w.out.length ((opV o : Nat) : Int)) (iup F 26 (((w.out.length + 1 : Nat)) : Int)) L (putO w o) := by
  refine ⟨h.1.keep rfl rfl rfl (iup_n (by decide)), h.2.1, h.2.2.1, h.2.2.2.1, ⟨?_, ?_, fun i hi => ?_⟩, ?_, ?_⟩
  · rw [iup_s]; show _ = (((w.out ++ [o]).length : Nat) : Int); rw [List.length_append]; rfl
  · show (w.out ++ [o]).length ≤ 32; rw [List.length_append]; exact hl
  · have hi : i < (w.out ++ [o]).length := hi
    rw [mup_s]
    show _ = ((opV (opAt (w.out ++ [o]) i) : Nat) : Int) ∧ opOK (opAt (w.out ++ [o]) i)
    by_cases e : i < w.out.length
    · rw [opAt_append_lt e, iup_n (by omega)]; exact h.2.2.2.2.1.2.2 i e
    · have e : i = w.out.length := by rw [List.length_append] at hi; simp at hi; omega
      subst e
      rw [opAt_append_eq, iup_s]; exact ⟨rfl, ho⟩
  · rw [iup_n (by decide)]; exact h.2.2.2.2.2.1
  · rw [iup_n (by decide)]; exact h.2.2.2.2.2.2
theorem lkIs.rdr {A : Nat → Nat → Int} {F : Nat → Int} {L : List Op} {w : LkS} {i m : Nat} (h : lkIs A F L w) (hm : m < 64) : lkIs (mup A 22 i ((m : Nat) : Int)) F L (setRd w i m) := by
  refine ⟨h.1.keep rfl rfl rfl rfl, h.2.1, fun j hj => ?_, h.2.2.2⟩
  rw [mup_s]
  show _ = ((nup w.rd i m j : Nat) : Int) ∧ nup w.rd i m j < 64
  by_cases e : j = i
  · subst e; rw [iup_s, nup_s]; exact ⟨rfl, hm⟩
  · rw [iup_n e, nup_n e]; exact h.2.2.1 j hj
theorem lkIs.wrr {A : Nat → Nat → Int} {F : Nat → Int} {L : List Op} {w : LkS} {i m : Nat} (h : lkIs A F L w) (hm : m < 64) : lkIs (mup A 23 i ((m : Nat) : Int)) F L (setWr w i m) := by
  refine ⟨h.1.keep rfl rfl rfl rfl, h.2.1, h.2.2.1, fun j hj => ?_, h.2.2.2.2⟩
  rw [mup_s]
  show _ = ((nup w.wr i m j : Nat) : Int) ∧ nup w.wr i m j < 64
  by_cases e : j = i
  · subst e; rw [iup_s, nup_s]; exact ⟨rfl, hm⟩
  · rw [iup_n e, nup_n e]; exact h.2.2.2.1 j hj
theorem lkIs.keep {A B : Nat → Nat → Int} {F G : Nat → Int} {L : List Op} {w : LkS} {ks js : List Nat} (h : lkIs A F L w) (hA : kA ks A B) (hF : kF js F G) (h1 : ∀ k ∈ [13, 14, 15, 21, 22, 23, 24], k ∉ ks) (h2 : ∀ k ∈ [19, 26, 27, 28], k ∉ js) : lkIs B G L w := by
  unfold lkIs laid
  rw [hA 13 (h1 13 (by decide)), hA 14 (h1 14 (by decide)), hA 15 (h1 15 (by decide)), hA 21 (h1 21 (by decide)), hA 22 (h1 22 (by decide)), hA 23 (h1 23 (by decide)), hA 24 (h1 24 (by decide)), hF 19 (h2 19 (by decide)), hF 26 (h2 26 (by decide)), hF 27 (h2 27 (by decide)), hF 28 (h2 28 (by decide))]
  exact h
theorem jandn_lt {a b : Nat} (h : a < 64) : jandn a b < 64 := Nat.xor_lt_two_pow (n := 6) h (Nat.lt_of_le_of_lt Nat.and_le_left h)
theorem jor_lt {a b : Nat} (h : a < 64) (h2 : b < 64) : a ||| b < 64 := Nat.or_lt_two_pow (n := 6) h h2
theorem jpow_lt {t : Nat} (h : t ≤ 5) : 1 * 2 ^ t < 64 := by
  rcases (show t = 0 ∨ t = 1 ∨ t = 2 ∨ t = 3 ∨ t = 4 ∨ t = 5 by omega) with e | e | e | e | e | e <;> subst e <;> decide
/-- who keeps the operation k from execution -/
def prevS (L : List Op) (w : LkS) (k : Nat) : Nat := if oK (opAt L k) < 2 then jandn (w.wr (oI (opAt L k)) ||| (if oK (opAt L k) = 1 then w.rd (oI (opAt L k)) else 0)) (1 * 2 ^ oT (opAt L k)) else 0
def fwP (L : List Op) (st : Nat → Nat) (t k : Nat) : Bool := decide (oT (opAt L k) = t) && decide (st k = 1)
/-- the first waiting operation of t, or -1 -/
def fwS (L : List Op) (w : LkS) (t : Nat) : Int := findR L.length (fwP L w.st t)
def okT (L : List Op) (w : LkS) (t : Nat) : Bool := decide (1 ≤ t) && (decide (0 ≤ fwS L w t) && decide (prevS L w (fwS L w t).toNat = 0))
def nextS (L : List Op) (w : LkS) : Int := if findR 6 (okT L w) < 0 then -1 else fwS L w (findR 6 (okT L w)).toNat
def execS (L : List Op) (w : LkS) (k : Nat) : LkS :=
  if oK (opAt L k) = 0 then setRd (putO (setSt w (nup w.st k 3)) (opAt L k)) (oI (opAt L k)) (w.rd (oI (opAt L k)) ||| 1 * 2 ^ oT (opAt L k))
  else if oK (opAt L k) = 1 then setWr (putO (setSt w (nup w.st k 3)) (opAt L k)) (oI (opAt L k)) (w.wr (oI (opAt L k)) ||| 1 * 2 ^ oT (opAt L k))
  else endS (putO (setSt w (nup w.st k 3)) (opAt L k)) (oT (opAt L k))
def nWt (L : List Op) (w : LkS) : Nat := cN (fun k => decide (w.st k = 1)) L.length
def triesF : Nat → List Op → LkS → LkS
  | 0, _, w => w
  | f + 1, L, w => if nextS L w < 0 then w else triesF f L (execS L w (nextS L w).toNat)
def triesS (L : List Op) (w : LkS) : LkS := triesF (nWt L w + 1) L w
theorem prevS_lt {L : List Op} {w : LkS} {k : Nat} (hw : ∀ i, i < 4 → w.wr i < 64) (hr : ∀ i, i < 4 → w.rd i < 64) (hi : oI (opAt L k) < 4) : prevS L w k < 64 := by
  unfold prevS
  split
  · refine jandn_lt (jor_lt (hw _ hi) ?_)
    split
    · exact hr _ hi
    · decide
  · decide
theorem lkIs.prev {A : Nat → Nat → Int} {F : Nat → Int} {L : List Op} {w : LkS} {k : Nat} (h : lkIs A F L w) (hk : k < L.length) : prevS L w k < 64 :=
  prevS_lt (fun i hi => (h.2.2.2.1 i hi).2) (fun i hi => (h.2.2.1 i hi).2) (by have := h.1.ok hk; exact this.2.2.2.1)
theorem endLoop {a : Nat → Int} {f g : Nat → Nat} {i : Nat} (h : ∀ j, j < 4 → a j = (((if j < i then g j else f j : Nat)) : Int)) : ∀ j, j < 4 → iup a i ((g i : Nat) : Int) j = (((if j < i + 1 then g j else f j : Nat)) : Int) := fun j hj => by
  by_cases e : j = i
  · subst e; rw [iup_s, if_pos (by omega)]
  · rw [iup_n e, h j hj]
    by_cases e2 : j < i
    · rw [if_pos e2, if_pos (by omega)]
    · rw [if_neg e2, if_neg (by omega)]
theorem lkIs.fin {A B : Nat → Nat → Int} {F : Nat → Int} {L : List Op} {w : LkS} {t : Nat} (h : lkIs A F L w) (hA : kA [22, 23] A B) (h1 : ∀ j, j < 4 → B 22 j = ((jandn (w.rd j) (1 * 2 ^ t) : Nat) : Int)) (h2 : ∀ j, j < 4 → B 23 j = ((jandn (w.wr j) (1 * 2 ^ t) : Nat) : Int)) : lkIs B F L (endS w t) := by
  refine ⟨h.1.keep (hA 13 (by decide)) (hA 14 (by decide)) (hA 15 (by decide)) rfl, ?_, fun i hi => ⟨h1 i hi, jandn_lt (h.2.2.1 i hi).2⟩, fun i hi => ⟨h2 i hi, jandn_lt (h.2.2.2.1 i hi).2⟩, ?_, h.2.2.2.2.2⟩
  · rw [hA 21 (by decide)]; exact h.2.1
  · rw [hA 24 (by decide)]; exact h.2.2.2.2.1
theorem okT_0 {L : List Op} {w : LkS} {u : Nat} (h : u < 1) : okT L w u = false := by
  have e : u = 0 := by omega
  subst e; rfl
theorem fwS_r (L : List Op) (w : LkS) (t : Nat) : -1 ≤ fwS L w t ∧ fwS L w t < ((L.length : Nat) : Int) := findR_r _ _
theorem fwS_at {L : List Op} {w : LkS} {t : Nat} (h : 0 ≤ fwS L w t) : fwS L w t = (((fwS L w t).toNat : Nat) : Int) ∧ (fwS L w t).toNat < L.length ∧ oT (opAt L (fwS L w t).toNat) = t ∧ w.st (fwS L w t).toNat = 1 := by
  obtain ⟨h1, h2, h3⟩ := findR_at h
  unfold fwP at h3
  simp only [Bool.and_eq_true, decide_eq_true_eq] at h3
  exact ⟨h1, h2, h3.1, h3.2⟩
theorem nextS_some {L : List Op} {w : LkS} {t : Nat} (h1 : 1 ≤ t ∧ t ≤ 5) (hf : 0 ≤ fwS L w t) (hp : prevS L w (fwS L w t).toNat = 0) (hn : ∀ u, u < t → okT L w u = false) : nextS L w = fwS L w t := by
  unfold nextS
  rw [findR_some (by omega) (by unfold okT; simp; omega) hn, if_neg (by omega)]; rfl
theorem nextS_none {L : List Op} {w : LkS} (hn : ∀ u, u < 6 → okT L w u = false) : nextS L w = -1 := by
  unfold nextS
  rw [findR_none hn, if_pos (by omega)]
theorem nextS_at {L : List Op} {w : LkS} (h : 0 ≤ nextS L w) : ∃ n, nextS L w = ((n : Nat) : Int) ∧ n < L.length ∧ w.st n = 1 := by
  unfold nextS at h ⊢
  by_cases e : findR 6 (okT L w) < 0
  · rw [if_pos e] at h; omega
  · rw [if_neg e]
    rw [if_neg e] at h
    obtain ⟨h1, h2, _, h3⟩ := fwS_at h
    exact ⟨_, h1, h2, h3⟩
theorem nextS_r (L : List Op) (w : LkS) : -1 ≤ nextS L w ∧ nextS L w < ((L.length : Nat) : Int) := by
  by_cases e : 0 ≤ nextS L w
  · obtain ⟨n, h, h2, _⟩ := nextS_at e; omega
  · refine ⟨?_, by omega⟩
    unfold nextS
    split
    · omega
    · exact (fwS_r _ _ _).1
theorem execS_st (L : List Op) (w : LkS) (k : Nat) : (execS L w k).st = nup w.st k 3 := by unfold execS; split; rfl; split <;> rfl
theorem execS_out (L : List Op) (w : LkS) (k : Nat) : (execS L w k).out = w.out ++ [opAt L k] := by unfold execS; split; rfl; split <;> rfl
theorem execS_vic (L : List Op) (w : LkS) (k : Nat) : (execS L w k).vic = w.vic ∧ (execS L w k).wtd = w.wtd := by unfold execS; split; exact ⟨rfl, rfl⟩; split <;> exact ⟨rfl, rfl⟩
/-- what was executed is no more than what is gone or done; behind c nothing has come -/
def lkG (L : List Op) (c : Nat) (w : LkS) : Prop := w.out.length ≤ cN (fun k => decide (2 ≤ w.st k)) L.length ∧ (∀ j, c ≤ j → w.st j = 0) ∧ w.wtd ≤ c
theorem lkG.len {L : List Op} {c : Nat} {w : LkS} (h : lkG L c w) : w.out.length ≤ L.length := Nat.le_trans h.1 (cN_le _ _)
theorem execS_G {L : List Op} {c k : Nat} {w : LkS} (h : lkG L c w) (hk : k < L.length) (hc : k < c) (hs : w.st k ≤ 1) : lkG L c (execS L w k) := by
  refine ⟨?_, fun j hj => ?_, by rw [(execS_vic L w k).2]; exact h.2.2⟩
  · rw [execS_out, execS_st, List.length_append]
    refine Nat.le_trans (Nat.add_le_add_right h.1 _) (cN_lt (k := k) (fun j _ hp => ?_) hk ?_ ?_)
    · have hp := of_decide_eq_true hp
      apply decide_eq_true
      by_cases e : j = k
      · subst e; rw [nup_s]; omega
      · rw [nup_n e]; exact hp
    · exact decide_eq_false (by omega)
    · apply decide_eq_true; rw [nup_s]; omega
  · rw [execS_st, nup_n (by omega)]; exact h.2.1 j hj
theorem lkG.lt {L : List Op} {c k : Nat} {w : LkS} (h : lkG L c w) (hk : k < L.length) (hs : w.st k ≤ 1) : w.out.length < L.length := by
  have := (execS_G (c := k + 1 + c) (k := k) ⟨h.1, fun j hj => h.2.1 j (by omega), by have := h.2.2; omega⟩ hk (by omega) hs).len
  rw [execS_out, List.length_append] at this
  exact this
theorem lkG.wait {L : List Op} {c k : Nat} {w : LkS} (h : lkG L c w) (hs : w.st k = 1) : k < c := by
  apply Classical.byContradiction
  intro q
  have := h.2.1 k (by omega)
  omega
theorem execS_nW {L : List Op} {k : Nat} {w : LkS} (hk : k < L.length) (hs : w.st k = 1) : nWt L (execS L w k) + 1 ≤ nWt L w := by
  unfold nWt
  rw [execS_st]
  refine cN_lt (k := k) (fun j _ hp => ?_) hk ?_ (decide_eq_true hs)
  · have hp := of_decide_eq_true hp
    apply decide_eq_true
    by_cases e : j = k
    · subst e; exact hs
    · rw [nup_n e] at hp; exact hp
  · apply decide_eq_false; rw [nup_s]; omega
theorem triesF_s (f : Nat) (L : List Op) (w : LkS) : triesF (f + 1) L w = if nextS L w < 0 then w else triesF f L (execS L w (nextS L w).toNat) := rfl
theorem triesF_end {f : Nat} {L : List Op} {w : LkS} (h : nextS L w < 0) : triesF f L w = w := by cases f; rfl; rw [triesF_s, if_pos h]
theorem triesF_go {f n : Nat} {L : List Op} {w : LkS} (h : nextS L w = ((n : Nat) : Int)) : triesF (f + 1) L w = triesF f L (execS L w n) := by rw [triesF_s, if_neg (by omega), h]; rfl
