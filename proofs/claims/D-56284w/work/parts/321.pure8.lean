/-! P, 8: rings of waiting, victims -/
def wStep (o t : Nat) (W : Nat → Nat) : Nat → Nat := nup W t (W t ||| (if (W t).testBit o then W o else 0))
def wIn (o : Nat) (W : Nat → Nat) : Nat → (Nat → Nat)
  | 0 => W
  | n + 1 => if n = 0 then wIn o W n else wStep o n (wIn o W n)
def wAll (W : Nat → Nat) : Nat → (Nat → Nat)
  | 0 => W
  | n + 1 => if n = 0 then wAll W n else wIn n (wAll W n) 6
def grN (W : Nat → Nat) : Nat → Nat
  | 0 => 0
  | n + 1 => if n ≠ 0 ∧ (W n).testBit n = true then n else grN W n
def wai (L : List Op) (w : LkS) (t : Nat) : Nat := if fwS L w t < 0 then 0 else prevS L w (fwS L w t).toNat
/-- the greatest transaction that waits for itself, or 0 -/
def ringG (L : List Op) (w : LkS) : Nat := grN (wAll (wai L w) 6) 6
def wIs (a : Nat → Int) (W : Nat → Nat) : Prop := ∀ u, 1 ≤ u → u ≤ 5 → a u = ((W u : Nat) : Int) ∧ W u < 64
theorem wIs.step {a : Nat → Int} {W : Nat → Nat} {o t v : Nat} (h : wIs a W) (ho : 1 ≤ o ∧ o ≤ 5) (ht : 1 ≤ t ∧ t ≤ 5) (hv : v = W t ||| (if (W t).testBit o then W o else 0)) : wIs (iup a t ((v : Nat) : Int)) (wStep o t W) := by
  intro u h1 h2
  unfold wStep
  rw [← hv]
  by_cases e : u = t
  · subst e
    rw [iup_s, nup_s, hv]
    refine ⟨rfl, jor_lt (h u h1 h2).2 ?_⟩
    split
    · exact (h o ho.1 ho.2).2
    · decide
  · rw [iup_n e, nup_n e]; exact h u h1 h2
theorem wIn_s {o n : Nat} {W : Nat → Nat} (h : n ≠ 0) : wIn o W (n + 1) = wStep o n (wIn o W n) := by show (if n = 0 then _ else _) = _; rw [if_neg h]
theorem wIn_1 {o : Nat} {W : Nat → Nat} : wIn o W 1 = W := rfl
theorem wAll_s {n : Nat} {W : Nat → Nat} (h : n ≠ 0) : wAll W (n + 1) = wIn n (wAll W n) 6 := by show (if n = 0 then _ else _) = _; rw [if_neg h]
theorem wAll_1 {W : Nat → Nat} : wAll W 1 = W := rfl
theorem grN_s (W : Nat → Nat) (n : Nat) : grN W (n + 1) = if n ≠ 0 ∧ (W n).testBit n = true then n else grN W n := rfl
theorem grN_le (W : Nat → Nat) : ∀ n, grN W n ≤ n := by
  intro n
  induction n with
  | zero => exact Nat.le_refl _
  | succ n ih => rw [grN_s]; split <;> omega
theorem wStep_0 {o t u : Nat} {W : Nat → Nat} (h : W u = 0) : wStep o t W u = 0 := by
  unfold wStep
  by_cases e : u = t
  · subst e; rw [nup_s, h]; simp
  · rw [nup_n e]; exact h
theorem wIn_0 {o u : Nat} {W : Nat → Nat} (h : W u = 0) : ∀ n, wIn o W n u = 0 := by
  intro n
  induction n with
  | zero => exact h
  | succ n ih => unfold wIn; split; exact ih; exact wStep_0 ih
theorem wAll_0 {u : Nat} {W : Nat → Nat} (h : W u = 0) : ∀ n, wAll W n u = 0 := by
  intro n
  induction n with
  | zero => exact h
  | succ n ih => unfold wAll; split; exact ih; exact wIn_0 ih 6
theorem grN_at {W : Nat → Nat} : ∀ {n}, 0 < grN W n → grN W n < n ∧ W (grN W n) ≠ 0 := by
  intro n
  induction n with
  | zero => intro h; exact absurd h (Nat.lt_irrefl _)
  | succ n ih =>
    intro h
    rw [grN_s] at h ⊢
    by_cases e : n ≠ 0 ∧ (W n).testBit n = true
    · rw [if_pos e]
      refine ⟨Nat.lt_succ_self _, fun q => ?_⟩
      have := e.2
      rw [q] at this
      simp at this
    · rw [if_neg e] at h ⊢
      have := ih h
      exact ⟨by omega, this.2⟩
theorem ringG_at {L : List Op} {w : LkS} (h : 0 < ringG L w) : ringG L w ≤ 5 ∧ 0 ≤ fwS L w (ringG L w) := by
  obtain ⟨h1, h2⟩ := grN_at h
  refine ⟨by unfold ringG; omega, ?_⟩
  apply Classical.byContradiction
  intro q
  apply h2
  apply wAll_0
  show wai L w (ringG L w) = 0
  unfold wai
  rw [if_pos (by omega)]
/-- the waiting operations of t are gone, t is a victim -/
def goneS (L : List Op) (w : LkS) (t : Nat) : LkS := (fun k => if k < L.length ∧ fwP L w.st t k = true then 2 else w.st k, w.rd, w.wr, w.out, w.vic ||| 1 * 2 ^ t, w.wtd)
def sacR (L : List Op) (w : LkS) (t : Nat) : LkS := endS (putO (goneS L w t) (3, t, 0)) t
def sacS (L : List Op) (w : LkS) (t : Nat) : LkS := triesS L (sacR L w t)
theorem fwP_st {L : List Op} {st : Nat → Nat} {t k : Nat} (h : fwP L st t k = true) : st k = 1 := by
  unfold fwP at h
  simp only [Bool.and_eq_true, decide_eq_true_eq] at h
  exact h.2
theorem fwP_fw {L : List Op} {w : LkS} {t : Nat} (h : 0 ≤ fwS L w t) : fwP L w.st t (fwS L w t).toNat = true := (findR_at h).2.2
theorem sacR_G {L : List Op} {c t : Nat} {w : LkS} (h : lkG L c w) (hf : 0 ≤ fwS L w t) : lkG L c (sacR L w t) := by
  obtain ⟨f1, f2, f3, f4⟩ := fwS_at hf
  refine ⟨?_, fun j hj => ?_, h.2.2⟩
  · show (w.out ++ [((3, t, 0) : Op)]).length ≤ cN (fun k => decide (2 ≤ (if k < L.length ∧ fwP L w.st t k = true then 2 else w.st k))) L.length
    rw [List.length_append]
    refine Nat.le_trans (Nat.add_le_add_right h.1 _) (cN_lt (k := (fwS L w t).toNat) (fun j hj hp => ?_) f2 ?_ ?_)
    · have hp := of_decide_eq_true hp
      apply decide_eq_true
      split <;> omega
    · exact decide_eq_false (by omega)
    · apply decide_eq_true; rw [if_pos ⟨f2, fwP_fw hf⟩]; omega
  · show (if j < L.length ∧ fwP L w.st t j = true then 2 else w.st j) = 0
    have := h.2.1 j hj
    rw [if_neg (fun q => by have := fwP_st q.2; omega)]; exact this
theorem sacR_lt {L : List Op} {c t : Nat} {w : LkS} (h : lkG L c w) (hf : 0 ≤ fwS L w t) : w.out.length < L.length := by
  have := (sacR_G h hf).len
  have e : (sacR L w t).out.length = w.out.length + 1 := by show (w.out ++ [((3, t, 0) : Op)]).length = _; rw [List.length_append]; rfl
  omega
theorem sacR_nW {L : List Op} {t : Nat} {w : LkS} (hf : 0 ≤ fwS L w t) : nWt L (sacR L w t) + 1 ≤ nWt L w := by
  obtain ⟨f1, f2, f3, f4⟩ := fwS_at hf
  refine cN_lt (k := (fwS L w t).toNat) (fun j hj hp => ?_) f2 ?_ (decide_eq_true f4)
  · have hp : (if j < L.length ∧ fwP L w.st t j = true then 2 else w.st j) = 1 := of_decide_eq_true hp
    apply decide_eq_true
    split at hp
    · omega
    · exact hp
  · apply decide_eq_false
    show ¬ (if _ ∧ _ then 2 else _) = 1
    rw [if_pos ⟨f2, fwP_fw hf⟩]; omega
theorem triesF_nW : ∀ (f : Nat) {L : List Op} {w : LkS}, nWt L (triesF f L w) ≤ nWt L w := by
  intro f
  induction f with
  | zero => intro L w; exact Nat.le_refl _
  | succ f ih =>
    intro L w
    by_cases e : 0 ≤ nextS L w
    · obtain ⟨n, n1, n2, n3⟩ := nextS_at e
      rw [triesF_go n1]
      have := execS_nW (L := L) n2 n3
      exact Nat.le_trans ih (by omega)
    · rw [triesF_end (by omega)]; exact Nat.le_refl _
theorem sacS_nW {L : List Op} {t : Nat} {w : LkS} (hf : 0 ≤ fwS L w t) : nWt L (sacS L w t) + 1 ≤ nWt L w := by
  have := sacR_nW hf
  have := triesF_nW (nWt L (sacR L w t) + 1) (L := L) (w := sacR L w t)
  unfold sacS triesS; omega
def ringF : Nat → List Op → LkS → LkS
  | 0, _, w => w
  | f + 1, L, w => if 0 < ringG L w then ringF f L (sacS L w (ringG L w)) else w
theorem ringF_s (f : Nat) (L : List Op) (w : LkS) : ringF (f + 1) L w = if 0 < ringG L w then ringF f L (sacS L w (ringG L w)) else w := rfl
theorem ringF_end {f : Nat} {L : List Op} {w : LkS} (h : ¬ 0 < ringG L w) : ringF f L w = w := by cases f; rfl; rw [ringF_s, if_neg h]
def ringS (L : List Op) (w : LkS) : LkS := ringF (nWt L w + 1) L w
def waitS (w : LkS) (k : Nat) : LkS := (nup w.st k 1, w.rd, w.wr, w.out, w.vic, w.wtd + 1)
def comeS (L : List Op) (w : LkS) (k : Nat) : LkS :=
  if w.vic.testBit (oT (opAt L k)) = true then setSt w (nup w.st k 2)
  else if fwS L w (oT (opAt L k)) < 0 ∧ prevS L w k = 0 then (if oK (opAt L k) < 2 then execS L w k else triesS L (execS L w k))
  else ringS L (waitS w k)
def lock0 : LkS := (fun _ => 0, fun _ => 0, fun _ => 0, [], 0, 0)
def lockTo (L : List Op) : Nat → LkS
  | 0 => lock0
  | k + 1 => comeS L (lockTo L k) k
def lockS (L : List Op) : LkS := lockTo L L.length
theorem lkG.wk {L : List Op} {c : Nat} {w : LkS} (h : lkG L c w) : lkG L (c + 1) w := ⟨h.1, fun j hj => h.2.1 j (by omega), Nat.le_succ_of_le h.2.2⟩
theorem lkG.gone {L : List Op} {c : Nat} {w : LkS} (h : lkG L c w) : lkG L (c + 1) (setSt w (nup w.st c 2)) := by
  refine ⟨Nat.le_trans h.1 (cN_mono fun j hj hp => ?_), fun j hj => ?_, Nat.le_succ_of_le h.2.2⟩
  · have hp := of_decide_eq_true hp
    apply decide_eq_true
    show 2 ≤ nup w.st c 2 j
    by_cases e : j = c
    · subst e; rw [nup_s]; omega
    · rw [nup_n e]; exact hp
  · show nup w.st c 2 j = 0; rw [nup_n (by omega)]; exact h.2.1 j (by omega)
theorem lkG.waits {L : List Op} {c : Nat} {w : LkS} (h : lkG L c w) : lkG L (c + 1) (waitS w c) := by
  refine ⟨Nat.le_trans h.1 (cN_mono fun j hj hp => ?_), fun j hj => ?_, Nat.succ_le_succ h.2.2⟩
  · have hp := of_decide_eq_true hp
    apply decide_eq_true
    show 2 ≤ nup w.st c 1 j
    by_cases e : j = c
    · subst e; have := h.2.1 j (Nat.le_refl _); omega
    · rw [nup_n e]; exact hp
  · show nup w.st c 1 j = 0; rw [nup_n (by omega)]; exact h.2.1 j (by omega)
def sp_lock (g : SS) (t s : Int) : SR := if isSl t && isSl s then (0, (((lockS (g.1.1 s.toNat)).out.length : Nat) : Int), gpush g (sset g.1.1 t.toNat (lockS (g.1.1 s.toNat)).out, g.1.2)) else (1, 0, g)
def sp_waitingCount (g : SS) (s : Int) : SR := if !isSl s then (1, 0, g) else (0, (((lockS (g.1.1 s.toNat)).wtd : Nat) : Int), g)
def sp_victimCount (g : SS) (s : Int) : SR := if !isSl s then (1, 0, g) else (0, ((bitsN (lockS (g.1.1 s.toNat)).vic : Nat) : Int), g)
def sp_isVictim (g : SS) (s t : Int) : SR := if !isSl s then (1, 0, g) else if !isTr t then (2, 0, g) else (0, jB ((lockS (g.1.1 s.toNat)).vic.testBit t.toNat), g)
theorem lkIs.gone {A B : Nat → Nat → Int} {F : Nat → Int} {L : List Op} {w : LkS} {t : Nat} (h : lkIs A F L w) (ht : t ≤ 5) (hA : kA [21] A B) (h1 : ∀ j, j < 20 → B 21 j = (((if j < L.length ∧ fwP L w.st t j = true then 2 else w.st j : Nat)) : Int)) : lkIs B (iup F 27 ((w.vic ||| 1 * 2 ^ t : Nat) : Int)) L (goneS L w t) := by
  refine ⟨h.1.keep (hA 13 (by decide)) (hA 14 (by decide)) (hA 15 (by decide)) (iup_n (by decide)), fun j hj => ⟨h1 j hj, ?_⟩, ?_, ?_, ?_, ⟨iup_s _ _ _, jor_lt h.2.2.2.2.2.1.2 (jpow_lt ht)⟩, ?_⟩
  · show (if j < L.length ∧ fwP L w.st t j = true then 2 else w.st j) ≤ 3
    have := (h.2.1 j hj).2
    split <;> omega
  · rw [hA 22 (by decide)]; exact h.2.2.1
  · rw [hA 23 (by decide)]; exact h.2.2.2.1
  · rw [hA 24 (by decide), iup_n (by decide)]; exact h.2.2.2.2.1
  · rw [iup_n (by decide)]; exact h.2.2.2.2.2.2
theorem lkIs.wait {A : Nat → Nat → Int} {F : Nat → Int} {L : List Op} {w : LkS} {k : Nat} (h : lkIs A F L w) (hw : w.wtd < 100) : lkIs (mup A 21 k 1) (iup F 28 ((w.wtd + 1 : Nat) : Int)) L (waitS w k) := by
  obtain ⟨g1, g2, g3, g4, g5, g6, g7⟩ := h.stat (k := k) (v := 1) (by decide)
  exact ⟨g1.keep rfl rfl rfl (iup_n (by decide)), g2, g3, g4, by rw [iup_n (by decide)]; exact g5, by rw [iup_n (by decide)]; exact g6, iup_s _ _ _, hw⟩
theorem gone_n {a : Nat → Int} {L : List Op} {st : Nat → Nat} {t k : Nat} (h : ∀ j, j < 20 → a j = (((if j < k ∧ fwP L st t j = true then 2 else st j : Nat)) : Int)) (hp : fwP L st t k = false) : ∀ j, j < 20 → a j = (((if j < k + 1 ∧ fwP L st t j = true then 2 else st j : Nat)) : Int) := fun j hj => by
  rw [h j hj]
  by_cases e : j = k
  · subst e; rw [if_neg (fun q => by omega), if_neg (fun q => by rw [hp] at q; exact absurd q.2 (by decide))]
  · by_cases e2 : j < k ∧ fwP L st t j = true
    · rw [if_pos e2, if_pos ⟨by omega, e2.2⟩]
    · rw [if_neg e2, if_neg (fun q => e2 ⟨by omega, q.2⟩)]
theorem gone_s {a : Nat → Int} {L : List Op} {st : Nat → Nat} {t k : Nat} (h : ∀ j, j < 20 → a j = (((if j < k ∧ fwP L st t j = true then 2 else st j : Nat)) : Int)) (hp : fwP L st t k = true) : ∀ j, j < 20 → iup a k 2 j = (((if j < k + 1 ∧ fwP L st t j = true then 2 else st j : Nat)) : Int) := fun j hj => by
  by_cases e : j = k
  · subst e; rw [iup_s, if_pos ⟨by omega, hp⟩]; rfl
  · rw [iup_n e, h j hj]
    by_cases e2 : j < k ∧ fwP L st t j = true
    · rw [if_pos e2, if_pos ⟨by omega, e2.2⟩]
    · rw [if_neg e2, if_neg (fun q => e2 ⟨by omega, q.2⟩)]
theorem zero_s {a : Nat → Int} {k : Nat} (h : ∀ j, j < k → a j = 0) : ∀ j, j < k + 1 → iup a k 0 j = 0 := fun j hj => by
  by_cases e : j = k
  · subst e; rw [iup_s]
  · rw [iup_n e]; exact h j (by omega)
