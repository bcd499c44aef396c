/-! P, 4: the order of the transactions; sets as bits -/
/-- a set of at most six numbers as bits -/
def maskOf (p : Nat → Bool) : Nat := (List.range 6).foldl (fun m b => if p b then m ||| 2 ^ b else m) 0
theorem maskOf_test (p : Nat → Bool) (b : Nat) : (maskOf p).testBit b = (decide (b < 6) && p b) := by
  have key : ∀ (n : Nat) (l : List Nat), l = List.range n → ∀ m, ((l.foldl (fun m b => if p b then m ||| 2 ^ b else m) m).testBit b) = (m.testBit b || (decide (b < n) && p b)) := by
    intro n
    induction n with
    | zero => intro l hl m; subst hl; simp
    | succ n ih =>
      intro l hl m
      subst hl
      rw [List.range_succ, List.foldl_append, List.foldl_cons, List.foldl_nil]
      have h := ih _ rfl m
      split
      · rename_i hp
        rw [Nat.testBit_or, h, Nat.testBit_two_pow]
        by_cases e : n = b
        · subst e; simp [hp]
        · have : decide (n = b) = false := by simpa using e
          rw [this, Bool.or_false]
          congr 2
          simp; omega
      · rename_i hp
        rw [h]
        by_cases e : n = b
        · subst e; simp [hp]
        · congr 2
          simp; omega
  have := key 6 _ rfl 0
  unfold maskOf
  rw [this]; simp
theorem maskOf_lt (p : Nat → Bool) : maskOf p < 64 := by
  show maskOf p < 2 ^ 6
  apply Nat.lt_pow_two_of_testBit
  intro b hb
  rw [maskOf_test]
  have : decide (b < 6) = false := by simp; omega
  rw [this]; rfl
/-- an operation of a stands before one of b, and they conflict -/
def precB (l : List Op) (a b : Nat) : Bool := (List.range l.length).any fun j => (List.range j).any fun i => opConf (opAt l i) (opAt l j) && (oT (opAt l i) == a && oT (opAt l j) == b)
def aheadM (l : List Op) (t : Nat) : Nat := maskOf (fun a => precB l a t)
def preQ (l : List Op) (i j b t : Nat) : Prop := ∃ i' j', i' < j' ∧ j' < l.length ∧ (i' < i ∨ (i' = i ∧ j' < j)) ∧ opConf (opAt l i') (opAt l j') = true ∧ oT (opAt l i') = b ∧ oT (opAt l j') = t
def ahQ (l : List Op) (i j : Nat) (M : Nat → Nat) : Prop := ∀ t, t ≤ 5 → ∀ b, (M t).testBit b = true ↔ preQ l i j b t
theorem ahQ.zero (l : List Op) : ahQ l 0 0 (fun _ => 0) := by
  intro t _ b
  rw [Nat.zero_testBit]
  constructor
  · intro h; cases h
  · rintro ⟨i', j', -, -, h, -⟩; omega
theorem ahQ.cong {l : List Op} {i j i2 j2 : Nat} {M : Nat → Nat} (h : ahQ l i j M) (e : ∀ i' j', i' < j' → j' < l.length → ((i' < i ∨ (i' = i ∧ j' < j)) ↔ (i' < i2 ∨ (i' = i2 ∧ j' < j2)))) : ahQ l i2 j2 M := by
  intro t ht b
  rw [h t ht b]
  constructor
  · rintro ⟨i', j', h1, h2, h3, h4⟩; exact ⟨i', j', h1, h2, (e i' j' h1 h2).mp h3, h4⟩
  · rintro ⟨i', j', h1, h2, h3, h4⟩; exact ⟨i', j', h1, h2, (e i' j' h1 h2).mpr h3, h4⟩
theorem ahQ.step {l : List Op} {i j : Nat} {M : Nat → Nat} (h : ahQ l i j M) (hij : i < j) (hj : j < l.length) : ahQ l i (j + 1) (fun t => if t = oT (opAt l j) then (if opConf (opAt l i) (opAt l j) then M t ||| 1 * 2 ^ oT (opAt l i) else M t ||| 0) else M t) := by
  intro t ht b
  have base : ∀ b, preQ l i (j + 1) b t ↔ preQ l i j b t ∨ (opConf (opAt l i) (opAt l j) = true ∧ oT (opAt l i) = b ∧ oT (opAt l j) = t) := by
    intro b
    constructor
    · rintro ⟨i', j', h1, h2, h3, h4⟩
      by_cases e : i' = i ∧ j' = j
      · obtain ⟨rfl, rfl⟩ := e; exact Or.inr h4
      · exact Or.inl ⟨i', j', h1, h2, by omega, h4⟩
    · rintro (⟨i', j', h1, h2, h3, h4⟩ | h4)
      · exact ⟨i', j', h1, h2, by omega, h4⟩
      · exact ⟨i, j, hij, hj, by omega, h4⟩
  rw [base b]
  dsimp only
  split
  · rename_i e
    split
    · rename_i hc
      rw [Nat.testBit_or, Bool.or_eq_true, h t ht b, Nat.one_mul, Nat.testBit_two_pow]
      simp [hc, e]
    · rename_i hc
      rw [Nat.or_zero, h t ht b]
      simp [hc]
  · rename_i e
    rw [h t ht b]
    constructor
    · exact Or.inl
    · rintro (q | ⟨-, -, q⟩)
      · exact q
      · exact absurd q.symm e
theorem precB_iff (l : List Op) (a b : Nat) : precB l a b = true ↔ preQ l l.length 0 a b := by
  unfold precB preQ
  rw [List.any_eq_true]
  constructor
  · rintro ⟨j, hj, h⟩
    rw [List.any_eq_true] at h
    obtain ⟨i, hi, h⟩ := h
    rw [List.mem_range] at hj hi
    simp only [Bool.and_eq_true, beq_iff_eq] at h
    exact ⟨i, j, hi, hj, by omega, h.1, h.2.1, h.2.2⟩
  · rintro ⟨i, j, hi, hj, -, h1, h2, h3⟩
    refine ⟨j, List.mem_range.mpr hj, List.any_eq_true.mpr ⟨i, List.mem_range.mpr hi, ?_⟩⟩
    simp only [Bool.and_eq_true, beq_iff_eq]
    exact ⟨h1, h2, h3⟩
theorem ahQ.fin {l : List Op} {M : Nat → Nat} (h : ahQ l l.length 0 M) (hl : ∀ i, i < l.length → oT (opAt l i) ≤ 5) {t : Nat} (ht : t ≤ 5) : M t = aheadM l t := by
  apply Nat.eq_of_testBit_eq
  intro b
  unfold aheadM
  rw [maskOf_test]
  have h1 := h t ht b
  rw [← precB_iff] at h1
  by_cases e : b < 6
  · have : decide (b < 6) = true := by simpa using e
    rw [this, Bool.true_and]
    exact Bool.eq_iff_iff.mpr h1
  · have : decide (b < 6) = false := by simpa using e
    rw [this, Bool.false_and]
    apply Bool.eq_false_iff.mpr
    intro q
    obtain ⟨i', j', h3, h4, -, -, h5, -⟩ := (precB_iff _ _ _).mp (h1.mp q)
    have := hl i' (by omega)
    omega
/-- how many of the numbers below n are in the set -/
def bitsTo (m : Nat) : Nat → Nat
  | 0 => 0
  | n + 1 => bitsTo m n + (if m.testBit n then 1 else 0)
def bitsN (m : Nat) : Nat := bitsTo m 6
theorem bitsTo_le (m n : Nat) : bitsTo m n ≤ n := by
  induction n with
  | zero => exact Nat.le_refl 0
  | succ n ih => unfold bitsTo; split <;> omega
/-- may a transaction come next -/
def enB (P : Nat) (ah : Nat → Nat) (c t : Nat) : Bool := P.testBit t && (!c.testBit t && decide (jandn (ah t) c = 0))
def gnext (P : Nat) (ah : Nat → Nat) (c : Nat) : Option Nat := [1, 2, 3, 4, 5].find? (enB P ah c)
def greedy : Nat → Nat → (Nat → Nat) → Nat → List Nat
  | 0, _, _, _ => []
  | f + 1, P, ah, c => match gnext P ah c with
    | none => []
    | some t => t :: greedy f P ah (c ||| 1 * 2 ^ t)
def serL (l : List Op) : List Nat := greedy 6 (pmask l) (aheadM l) 0
def isSerB (l : List Op) : Bool := decide ((serL l).length = bitsN (pmask l))
theorem greedy_some {f P : Nat} {ah : Nat → Nat} {c t : Nat} (h : gnext P ah c = some t) : greedy (f + 1) P ah c = t :: greedy f P ah (c ||| 1 * 2 ^ t) := by
  show (match gnext P ah c with | none => [] | some t => t :: greedy f P ah (c ||| 1 * 2 ^ t)) = _
  rw [h]
theorem greedy_none {f P : Nat} {ah : Nat → Nat} {c : Nat} (h : gnext P ah c = none) : greedy (f + 1) P ah c = [] := by
  show (match gnext P ah c with | none => [] | some t => t :: greedy f P ah (c ||| 1 * 2 ^ t)) = _
  rw [h]
theorem gnext_some {P : Nat} {ah : Nat → Nat} {c t : Nat} (h1 : 1 ≤ t) (h5 : t ≤ 5) (he : enB P ah c t = true) (hn : ∀ t', 1 ≤ t' → t' < t → enB P ah c t' = false) : gnext P ah c = some t := by
  unfold gnext
  have a1 := hn 1 (by omega)
  have a2 := hn 2 (by omega)
  have a3 := hn 3 (by omega)
  have a4 := hn 4 (by omega)
  rcases (show t = 1 ∨ t = 2 ∨ t = 3 ∨ t = 4 ∨ t = 5 by omega) with e | e | e | e | e
  · subst e; simp [List.find?_cons, he]
  · subst e; simp [List.find?_cons, he, a1]
  · subst e; simp [List.find?_cons, he, a1, a2]
  · subst e; simp [List.find?_cons, he, a1, a2, a3]
  · subst e; simp [List.find?_cons, he, a1, a2, a3, a4]
theorem gnext_none {P : Nat} {ah : Nat → Nat} {c : Nat} (hn : ∀ t', 1 ≤ t' → t' ≤ 5 → enB P ah c t' = false) : gnext P ah c = none := by
  unfold gnext
  simp [List.find?_cons, hn 1, hn 2, hn 3, hn 4, hn 5]
theorem cnt_up : ∀ c, c < 64 → ∀ t, t < 6 → c.testBit t = false → bitsN (c ||| 1 * 2 ^ t) = bitsN c + 1 := by decide +kernel
theorem cnt_le : ∀ c, c < 64 → c % 2 = 0 → ∀ t, t < 6 → 1 ≤ t → c.testBit t = false → bitsN c < 5 := by decide +kernel
theorem or_lt64 : ∀ c, c < 64 → ∀ t, t < 6 → c ||| 1 * 2 ^ t < 64 := by decide +kernel
theorem or_even : ∀ c, c < 64 → c % 2 = 0 → ∀ t, t < 6 → 1 ≤ t → (c ||| 1 * 2 ^ t) % 2 = 0 := by decide +kernel
theorem cnt_le5 : ∀ c, c < 64 → c % 2 = 0 → bitsN c ≤ 5 := by decide +kernel
/-- the number of pairs that conflict -/
def rowC (l : List Op) (i : Nat) : Nat → Nat
  | 0 => 0
  | j + 1 => rowC l i j + (if i < j ∧ opConf (opAt l i) (opAt l j) = true then 1 else 0)
def pairC (l : List Op) : Nat → Nat
  | 0 => 0
  | i + 1 => pairC l i + rowC l i l.length
def confN (l : List Op) : Nat := pairC l l.length
theorem rowC_0 (l : List Op) (i : Nat) : ∀ j, j ≤ i + 1 → rowC l i j = 0 := by
  intro j
  induction j with
  | zero => intro _; rfl
  | succ j ih => intro h; unfold rowC; rw [ih (by omega), if_neg (by omega)]
theorem rowC_s {l : List Op} {i j : Nat} (h : i < j) : rowC l i (j + 1) = rowC l i j + (if opConf (opAt l i) (opAt l j) then 1 else 0) := by
  show rowC l i j + _ = _
  simp [h]
theorem rowC_le (l : List Op) (i j : Nat) : rowC l i j ≤ j := by
  induction j with
  | zero => exact Nat.le_refl 0
  | succ j ih => unfold rowC; split <;> omega
theorem pairC_le (l : List Op) (i : Nat) : pairC l i ≤ i * l.length := by
  induction i with
  | zero => exact Nat.zero_le _
  | succ i ih =>
    unfold pairC
    have := rowC_le l i l.length
    rw [Nat.succ_mul]; omega
/-- in how many ways a set can be built -/
def wN : Nat → Nat → (Nat → Nat) → Nat → Nat
  | 0, _, _, _ => 0
  | f + 1, P, ah, x => (if x = 0 then 1 else 0) + (([1, 2, 3, 4, 5] : List Nat).map fun t => if x.testBit t && enB P ah (x - 2 ^ t) t then wN f P ah (x - 2 ^ t) else 0).sum
def wW (P : Nat) (ah : Nat → Nat) (x : Nat) : Nat := wN (x + 1) P ah x
theorem sub_lt_bit {x t : Nat} (h : x.testBit t = true) : x - 2 ^ t < x ∧ 2 ^ t ≤ x := by
  have h1 : 2 ^ t ≤ x := by
    apply Classical.byContradiction
    intro q
    rw [Nat.testBit_lt_two_pow (by omega)] at h
    cases h
  have h2 := Nat.two_pow_pos t
  omega
theorem wN_st (P : Nat) (ah : Nat → Nat) : ∀ f x, x < f → wN f P ah x = wW P ah x := by
  intro f
  induction f using Nat.strongRecOn with
  | ind f ih =>
    intro x hx
    cases f with
    | zero => omega
    | succ f =>
      unfold wW
      by_cases e : f = x
      · rw [e]
      · have key : ∀ g, x ≤ g → g ≤ f → wN (g + 1) P ah x = (if x = 0 then 1 else 0) + (([1, 2, 3, 4, 5] : List Nat).map fun t => if x.testBit t && enB P ah (x - 2 ^ t) t then wW P ah (x - 2 ^ t) else 0).sum := by
          intro g hg hgf
          show (if x = 0 then 1 else 0) + (([1, 2, 3, 4, 5] : List Nat).map fun t => if x.testBit t && enB P ah (x - 2 ^ t) t then wN g P ah (x - 2 ^ t) else 0).sum = _
          congr 2
          apply List.map_congr_left
          intro t _
          split
          · rename_i hc
            rw [Bool.and_eq_true] at hc
            have := sub_lt_bit hc.1
            exact ih g (by omega) _ (by omega)
          · rfl
        rw [key f (by omega) (Nat.le_refl f), key x (Nat.le_refl x) (by omega)]
theorem wW_eq (P : Nat) (ah : Nat → Nat) (x : Nat) : wW P ah x = (if x = 0 then 1 else 0) + (([1, 2, 3, 4, 5] : List Nat).map fun t => if x.testBit t && enB P ah (x - 2 ^ t) t then wW P ah (x - 2 ^ t) else 0).sum := by
  show (if x = 0 then 1 else 0) + (([1, 2, 3, 4, 5] : List Nat).map fun t => if x.testBit t && enB P ah (x - 2 ^ t) t then wN x P ah (x - 2 ^ t) else 0).sum = _
  congr 2
  apply List.map_congr_left
  intro t _
  split
  · rename_i hc
    rw [Bool.and_eq_true] at hc
    exact wN_st P ah _ _ (sub_lt_bit hc.1).1
  · rfl
/-- the part of the ways that is known when the sets below s are done, and of s the transactions below t -/
def wPt (P : Nat) (ah : Nat → Nat) (s t x : Nat) : Nat := (if x = 0 then 1 else 0) + (([1, 2, 3, 4, 5] : List Nat).map fun u => if (x.testBit u && enB P ah (x - 2 ^ u) u) && (decide (x - 2 ^ u < s) || (decide (x - 2 ^ u = s) && decide (u < t))) then wW P ah (x - 2 ^ u) else 0).sum
theorem wPt_full {P : Nat} {ah : Nat → Nat} {s t x : Nat} (h : x ≤ s) : wPt P ah s t x = wW P ah x := by
  rw [wW_eq]
  unfold wPt
  congr 2
  apply List.map_congr_left
  intro u _
  by_cases hc : (x.testBit u && enB P ah (x - 2 ^ u) u) = true
  · have h2 := (Bool.and_eq_true _ _).mp hc
    have := sub_lt_bit h2.1
    have e : decide (x - 2 ^ u < s) = true := by simp; omega
    rw [hc, e]; rfl
  · rw [Bool.not_eq_true] at hc
    rw [hc]; rfl
theorem wPt_0 {P : Nat} {ah : Nat → Nat} {t x : Nat} (ht : t ≤ 1) : wPt P ah 0 t x = if x = 0 then 1 else 0 := by
  unfold wPt
  rw [show (([1, 2, 3, 4, 5] : List Nat).map fun u => if (x.testBit u && enB P ah (x - 2 ^ u) u) && (decide (x - 2 ^ u < 0) || (decide (x - 2 ^ u = 0) && decide (u < t))) then wW P ah (x - 2 ^ u) else 0) = ([1, 2, 3, 4, 5] : List Nat).map fun _ => 0 from List.map_congr_left (fun u hu => by
    have : 1 ≤ u := by simp at hu; omega
    have e1 : decide (x - 2 ^ u < 0) = false := by simp
    have e2 : decide (u < t) = false := by simp; omega
    rw [e1, e2]; simp)]
  simp
theorem wPt_next {P : Nat} {ah : Nat → Nat} {s t x : Nat} (ht : t ≤ 1) : wPt P ah (s + 1) t x = wPt P ah s 6 x := by
  unfold wPt
  congr 2
  apply List.map_congr_left
  intro u hu
  have h1 : 1 ≤ u ∧ u ≤ 5 := by simp at hu; omega
  have e2 : decide (u < t) = false := by simp; omega
  have e3 : decide (u < 6) = true := by simp; omega
  rw [e2, e3]
  by_cases h : x - 2 ^ u < s + 1
  · have : decide (x - 2 ^ u < s + 1) = true := by simpa using h
    rw [this]
    by_cases h2 : x - 2 ^ u < s
    · have : decide (x - 2 ^ u < s) = true := by simpa using h2
      rw [this]; simp
    · have : decide (x - 2 ^ u = s) = true := by simp; omega
      rw [this]; simp
  · have a : decide (x - 2 ^ u < s + 1) = false := by simpa using h
    have b : decide (x - 2 ^ u < s) = false := by simp; omega
    have c : decide (x - 2 ^ u = s) = false := by simp; omega
    rw [a, b, c]; simp
/-- one transaction more: the set with it gains -/
theorem wPt_step {P : Nat} {ah : Nat → Nat} {s t x : Nat} (h1 : 1 ≤ t) (h5 : t ≤ 5) : wPt P ah s (t + 1) x = wPt P ah s t x + (if x.testBit t && enB P ah (x - 2 ^ t) t && decide (x - 2 ^ t = s) then wW P ah s else 0) := by
  unfold wPt
  have tm : ∀ u, u ≠ t → (if (x.testBit u && enB P ah (x - 2 ^ u) u) && (decide (x - 2 ^ u < s) || (decide (x - 2 ^ u = s) && decide (u < t + 1))) then wW P ah (x - 2 ^ u) else 0) = (if (x.testBit u && enB P ah (x - 2 ^ u) u) && (decide (x - 2 ^ u < s) || (decide (x - 2 ^ u = s) && decide (u < t))) then wW P ah (x - 2 ^ u) else 0) := by
    intro u hu
    have : decide (u < t + 1) = decide (u < t) := by simp; omega
    rw [this]
  have tt : (if (x.testBit t && enB P ah (x - 2 ^ t) t) && (decide (x - 2 ^ t < s) || (decide (x - 2 ^ t = s) && decide (t < t + 1))) then wW P ah (x - 2 ^ t) else 0) = (if (x.testBit t && enB P ah (x - 2 ^ t) t) && (decide (x - 2 ^ t < s) || (decide (x - 2 ^ t = s) && decide (t < t))) then wW P ah (x - 2 ^ t) else 0) + (if x.testBit t && enB P ah (x - 2 ^ t) t && decide (x - 2 ^ t = s) then wW P ah s else 0) := by
    have a : decide (t < t + 1) = true := by simp
    have b : decide (t < t) = false := by simp
    rw [a, b]
    by_cases hc : (x.testBit t && enB P ah (x - 2 ^ t) t) = true
    · rw [hc]
      by_cases h2 : x - 2 ^ t = s
      · have : decide (x - 2 ^ t = s) = true := by simpa using h2
        have d : decide (x - 2 ^ t < s) = false := by simp; omega
        rw [this, d, h2]; simp
      · have : decide (x - 2 ^ t = s) = false := by simpa using h2
        rw [this]; simp
    · rw [Bool.not_eq_true] at hc
      rw [hc]; simp
  simp only [List.map_cons, List.map_nil, List.sum_cons, List.sum_nil]
  rcases (show t = 1 ∨ t = 2 ∨ t = 3 ∨ t = 4 ∨ t = 5 by omega) with e | e | e | e | e <;> subst e
  · rw [tt, tm 2 (by decide), tm 3 (by decide), tm 4 (by decide), tm 5 (by decide)]; omega
  · rw [tt, tm 1 (by decide), tm 3 (by decide), tm 4 (by decide), tm 5 (by decide)]; omega
  · rw [tt, tm 1 (by decide), tm 2 (by decide), tm 4 (by decide), tm 5 (by decide)]; omega
  · rw [tt, tm 1 (by decide), tm 2 (by decide), tm 3 (by decide), tm 5 (by decide)]; omega
  · rw [tt, tm 1 (by decide), tm 2 (by decide), tm 3 (by decide), tm 4 (by decide)]; omega
theorem bit_or_sub : ∀ s, s < 64 → ∀ t, t < 6 → s.testBit t = false → (s ||| 1 * 2 ^ t) - 2 ^ t = s ∧ (s ||| 1 * 2 ^ t).testBit t = true := by decide +kernel
theorem bit_sub_or : ∀ x, x < 64 → ∀ t, t < 6 → x.testBit t = true → (x - 2 ^ t) ||| 1 * 2 ^ t = x := by decide +kernel
theorem wPt_en {P : Nat} {ah : Nat → Nat} {s t : Nat} (hs : s < 64) (h1 : 1 ≤ t) (h5 : t ≤ 5) (he : enB P ah s t = true) : ∀ x, x < 64 → wPt P ah s (t + 1) x = if x = s ||| 1 * 2 ^ t then wPt P ah s t x + wW P ah s else wPt P ah s t x := by
  intro x hx
  have hb : s.testBit t = false := by
    unfold enB at he
    simp only [Bool.and_eq_true, Bool.not_eq_true'] at he
    exact he.2.1
  have hq := bit_or_sub s hs t (by omega) hb
  rw [wPt_step h1 h5]
  by_cases e : x = s ||| 1 * 2 ^ t
  · subst e
    rw [if_pos rfl, hq.1, hq.2, he]
    simp
  · rw [if_neg e]
    by_cases c : (x.testBit t && enB P ah (x - 2 ^ t) t && decide (x - 2 ^ t = s)) = true
    · simp only [Bool.and_eq_true, decide_eq_true_eq] at c
      exact absurd (by rw [← c.2]; exact (bit_sub_or x hx t (by omega) c.1.1).symm) e
    · rw [if_neg c]; rfl
theorem wPt_no {P : Nat} {ah : Nat → Nat} {s t : Nat} (h1 : 1 ≤ t) (h5 : t ≤ 5) (he : enB P ah s t = false) (x : Nat) : wPt P ah s (t + 1) x = wPt P ah s t x := by
  rw [wPt_step h1 h5]
  by_cases c : (x.testBit t && enB P ah (x - 2 ^ t) t && decide (x - 2 ^ t = s)) = true
  · simp only [Bool.and_eq_true, decide_eq_true_eq] at c
    rw [c.2, he] at c
    exact absurd c.1.2 (by simp)
  · rw [if_neg c]; rfl
/-- the number of orders -/
def ordN (l : List Op) : Nat := wW (pmask l) (aheadM l) (pmask l)
/-- the operations of the transactions of an order, one behind another -/
def arrL (l : List Op) (o : List Nat) : List Op := o.flatMap fun t => l.filter fun x => oT x == t
theorem arrL_cons (x : Op) (l : List Op) (o : List Nat) : (arrL (x :: l) o).length = (arrL l o).length + o.count (oT x) := by
  unfold arrL
  induction o with
  | nil => rfl
  | cons t o ih =>
    rw [List.flatMap_cons, List.flatMap_cons, List.length_append, List.length_append, ih, List.filter_cons, List.count_cons]
    by_cases e : oT x = t
    · subst e; simp; omega
    · have a : (oT x == t) = false := by simpa using e
      have b : (t == oT x) = false := by simpa using Ne.symm e
      rw [a, b]; simp; omega
theorem arrL_len {l : List Op} {o : List Nat} (h : o.Nodup) : (arrL l o).length ≤ l.length := by
  induction l with
  | nil =>
    have : arrL [] o = [] := by unfold arrL; induction o with
      | nil => rfl
      | cons t o ih => rw [List.flatMap_cons, ih (List.nodup_cons.mp h).2]; rfl
    rw [this]; exact Nat.le_refl 0
  | cons x l ih =>
    rw [arrL_cons]
    have := List.nodup_iff_count.mp h (oT x)
    simp only [List.length_cons]; omega
theorem arrL_push (l : List Op) (o : List Nat) (t : Nat) : arrL l (o ++ [t]) = arrL l o ++ l.filter fun x => oT x == t := by unfold arrL; rw [List.flatMap_append]; simp
theorem arrL_ok {l : List Op} (h : slOK l) {o : List Nat} (ho : o.Nodup) : slOK (arrL l o) := by
  refine ⟨Nat.le_trans (arrL_len ho) h.1, fun x hx => ?_⟩
  unfold arrL at hx
  obtain ⟨t, _, hx⟩ := List.mem_flatMap.mp hx
  exact h.2 x (List.mem_filter.mp hx).1
/-- what greedy gives: different transactions, none of them chosen before -/
theorem gnext_spec {P : Nat} {ah : Nat → Nat} {c t : Nat} (h : gnext P ah c = some t) : 1 ≤ t ∧ t ≤ 5 ∧ enB P ah c t = true := by
  unfold gnext at h
  have h1 := List.find?_some h
  have h2 := List.mem_of_find?_eq_some h
  simp at h2
  exact ⟨by omega, by omega, h1⟩
theorem greedy_in {P : Nat} {ah : Nat → Nat} : ∀ (f c : Nat), ∀ t ∈ greedy f P ah c, 1 ≤ t ∧ t ≤ 5 ∧ c.testBit t = false ∧ P.testBit t = true := by
  intro f
  induction f with
  | zero => intro c t h; cases h
  | succ f ih =>
    intro c t h
    cases hg : gnext P ah c with
    | none => rw [greedy_none hg] at h; cases h
    | some u =>
      rw [greedy_some hg] at h
      obtain ⟨h1, h5, he⟩ := gnext_spec hg
      unfold enB at he
      simp only [Bool.and_eq_true, Bool.not_eq_true'] at he
      rcases List.mem_cons.mp h with e | e
      · subst e; exact ⟨h1, h5, he.2.1, he.1⟩
      · obtain ⟨a, b, d, p⟩ := ih _ t e
        rw [Nat.testBit_or, Bool.or_eq_false_iff] at d
        exact ⟨a, b, d.1, p⟩
theorem greedy_nd {P : Nat} {ah : Nat → Nat} : ∀ (f c : Nat), (greedy f P ah c).Nodup := by
  intro f
  induction f with
  | zero => intro c; exact List.nodup_nil
  | succ f ih =>
    intro c
    cases hg : gnext P ah c with
    | none => rw [greedy_none hg]; exact List.nodup_nil
    | some u =>
      rw [greedy_some hg]
      refine List.nodup_cons.mpr ⟨fun h => ?_, ih _⟩
      have := (greedy_in f _ u h).2.2.1
      rw [Nat.testBit_or, Nat.one_mul, Nat.testBit_two_pow] at this
      simp at this
theorem serL_nd (l : List Op) : (serL l).Nodup := greedy_nd _ _
theorem serL_in {l : List Op} {t : Nat} (h : t ∈ serL l) : 1 ≤ t ∧ t ≤ 5 := ⟨(greedy_in _ _ t h).1, (greedy_in _ _ t h).2.1⟩
theorem greedy_len : ∀ (f P : Nat) (ah : Nat → Nat) (c : Nat), (greedy f P ah c).length ≤ f := by
  intro f
  induction f with
  | zero => intro P ah c; exact Nat.le_refl 0
  | succ f ih =>
    intro P ah c
    cases hg : gnext P ah c with
    | none => rw [greedy_none hg]; exact Nat.zero_le _
    | some u =>
      rw [greedy_some hg]
      have := ih P ah (c ||| 1 * 2 ^ u)
      simp only [List.length_cons]; omega
/-! answers -/
def gRest (g : SS) (s : Int) : List Op := restOf (g.1.1 s.toNat)
def sp_conflicts (g : SS) (s : Int) : SR := if !isSl s then (1, 0, g) else (0, ((confN (gRest g s) : Nat) : Int), g)
def sp_comesBefore (g : SS) (s t u : Int) : SR := if !isSl s then (1, 0, g) else if !(isTr t && isTr u) then (2, 0, g) else (0, jB ((aheadM (gRest g s) u.toNat).testBit t.toNat), g)
def sp_isSerializable (g : SS) (s : Int) : SR := if !isSl s then (1, 0, g) else (0, jB (isSerB (gRest g s)), g)
def sp_orders (g : SS) (s : Int) : SR := if !isSl s then (1, 0, g) else (0, ((ordN (gRest g s) : Nat) : Int), g)
def sp_serialAt (g : SS) (s r : Int) : SR := if !isSl s then (1, 0, g) else if !isSerB (gRest g s) then (2, 0, g) else if decide (0 ≤ r ∧ r < ((bitsN (pmask (gRest g s)) : Nat) : Int)) then (0, (((serL (gRest g s)).getD r.toNat 0 : Nat) : Int), g) else (3, 0, g)
def sp_serialize (g : SS) (t s : Int) : SR := if !(isSl t && isSl s) then (1, 0, g) else if isSerB (gRest g s) then (0, (((arrL (gRest g s) (serL (gRest g s))).length : Nat) : Int), gpush g (sset g.1.1 t.toNat (arrL (gRest g s) (serL (gRest g s))), g.1.2)) else (2, 0, g)
theorem restOf_ok {l : List Op} (h : slOK l) : slOK (restOf l) := layL_ok h true
theorem getD_take {l : List Nat} {r : Nat} (h : r < l.length) : l.take (r + 1) = l.take r ++ [l.getD r 0] := by
  rw [List.take_succ, List.getD_eq_getElem?_getD, List.getElem?_eq_getElem h]; rfl
theorem arr_lt {l : List Op} {o : List Nat} {r k : Nat} (hl : l.length ≤ 20) (ho : o.Nodup) (hr : r < o.length) (hk : k < l.length) (he : oT (opAt l k) = o.getD r 0) : (arrL l (o.take r) ++ (l.take k).filter fun x => oT x == o.getD r 0).length < 20 := by
  have h1 : (arrL l (o.take (r + 1))).length ≤ l.length := arrL_len (List.Sublist.nodup (List.take_sublist _ _) ho)
  rw [getD_take hr, arrL_push, List.length_append] at h1
  have h2 : ((l.take (k + 1)).filter fun x => oT x == o.getD r 0).length ≤ (l.filter fun x => oT x == o.getD r 0).length := (List.Sublist.filter _ (List.take_sublist _ _)).length_le
  rw [flt_s _ hk, List.length_append] at h2
  have : (oT (opAt l k) == o.getD r 0) = true := by rw [he]; exact beq_self_eq_true _
  rw [if_pos this] at h2
  rw [List.length_append]
  have h3 : [opAt l k].length = 1 := rfl
  omega
theorem pmask_even {l : List Op} (h : ∀ o ∈ l, opOK o) : pmask l % 2 = 0 := by
  have h0 : (pmask l).testBit 0 = false := by
    rw [pmask_test]
    apply Bool.eq_false_iff.mpr
    intro q
    obtain ⟨o, ho, e⟩ := List.any_eq_true.mp q
    have := (h o ho).2.1
    have e : oT o = 0 := by simpa using e
    omega
  rw [Nat.testBit_zero] at h0
  simp at h0
  exact h0
theorem isSerB_spec {l : List Op} (h : isSerB l = true) : (serL l).length = bitsN (pmask l) := by
  unfold isSerB at h
  exact of_decide_eq_true h
