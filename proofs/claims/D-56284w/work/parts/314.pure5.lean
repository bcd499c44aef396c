/-! P, 5: answers of the plain questions; the line; the kept states -/
def sp_operationCount (g : SS) (s : Int) : SR := if !isSl s then (1, 0, g) else (0, (((g.1.1 s.toNat).length : Nat) : Int), g)
def sp_kindAt (g : SS) (s p : Int) : SR := if !isOpB g.1.1 s p then (1, 32, g) else (0, ((letK (oK (opAt (g.1.1 s.toNat) p.toNat)) : Nat) : Int), g)
def sp_transactionAt (g : SS) (s p : Int) : SR := if !isOpB g.1.1 s p then (1, 0, g) else (0, ((oT (opAt (g.1.1 s.toNat) p.toNat) : Nat) : Int), g)
def sp_itemAt (g : SS) (s p : Int) : SR := if !isOpB g.1.1 s p then (1, 32, g) else if 2 ≤ oK (opAt (g.1.1 s.toNat) p.toNat) then (2, 32, g) else (0, ((97 + oI (opAt (g.1.1 s.toNat) p.toNat) : Nat) : Int), g)
def sp_stateOf (g : SS) (s t : Int) : SR := if !isSl s then (1, 32, g) else if !isTr t then (2, 32, g) else
  if opHas (g.1.1 s.toNat) t.toNat 2 2 then (0, 99, g) else if opHas (g.1.1 s.toNat) t.toNat 3 3 then (0, 120, g) else if opHas (g.1.1 s.toNat) t.toNat 0 3 then (0, 97, g) else (0, 45, g)
def sp_valueOf (g : SS) (c : Int) : SR := if !isIt c then (1, 0, g) else (0, ((g.1.2 (c - 97).toNat : Nat) : Int), g)
/-- how many slots stand ahead of s by length -/
def befN (S : Nat → List Op) (s : Nat) : Nat → Nat
  | 0 => 0
  | o + 1 => befN S s o + (if (S o).length > (S s).length ∨ ((S o).length = (S s).length ∧ o < s) then 1 else 0)
def slotBy (S : Nat → List Op) (r : Int) : Option Nat := [0, 1, 2, 3].find? fun s => decide (((befN S s 4 : Nat) : Int) = r)
def sp_slotByLength (g : SS) (r : Int) : SR := match slotBy g.1.1 r with
  | none => (1, 0, g)
  | some s => (0, ((s : Nat) : Int), g)
theorem slotBy_some {S : Nat → List Op} {r : Int} {s : Nat} (hs : s < 4) (h : ((befN S s 4 : Nat) : Int) = r) (hn : ∀ u, u < s → ((befN S u 4 : Nat) : Int) ≠ r) : slotBy S r = some s := by
  unfold slotBy
  rcases (show s = 0 ∨ s = 1 ∨ s = 2 ∨ s = 3 by omega) with e | e | e | e
  · subst e; simp [List.find?_cons, h]
  · subst e; simp [List.find?_cons, h, hn 0 (by omega)]
  · subst e; simp [List.find?_cons, h, hn 0 (by omega), hn 1 (by omega)]
  · subst e; simp [List.find?_cons, h, hn 0 (by omega), hn 1 (by omega), hn 2 (by omega)]
theorem slotBy_none {S : Nat → List Op} {r : Int} (hn : ∀ u, u < 4 → ((befN S u 4 : Nat) : Int) ≠ r) : slotBy S r = none := by
  unfold slotBy
  simp [List.find?_cons, hn 0 (by omega), hn 1 (by omega), hn 2 (by omega), hn 3 (by omega)]
theorem befN_le (S : Nat → List Op) (s : Nat) : ∀ o, befN S s o ≤ o := by
  intro o
  induction o with
  | zero => exact Nat.le_refl 0
  | succ o ih => unfold befN; split <;> omega
def sp_undoableCount (g : SS) : SR := (0, ((g.2.1.length : Nat) : Int), g)
def sp_undo (g : SS) : SR := if g.2.1.length = 0 then (1, 0, g) else (0, ((g.2.1.length - 1 : Nat) : Int), (snAt g.2.1 (g.2.1.length - 1), g.2.1.dropLast, g.2.2))
def totN (S : Nat → List Op) : Nat := (S 0).length + (S 1).length + (S 2).length + (S 3).length
def sp_save (g : SS) : SR := (0, ((totN g.1.1 : Nat) : Int), (g.1, g.2.1, some g.1, g.2.2.2))
def sp_restore (g : SS) : SR := match g.2.2.1 with
  | none => (1, 0, g)
  | some x => (0, ((totN x.1 : Nat) : Int), (x, [], g.2.2))
def sp_errorPosition (g : SS) : SR := if g.2.2.2.2.2 < 0 then (1, 0, g) else (0, g.2.2.2.2.2, g)
def sp_lineChar (g : SS) (i : Int) : SR := if decide (0 ≤ i ∧ i < ((g.2.2.2.2.1.length : Nat) : Int)) then (0, ((g.2.2.2.2.1.getD i.toNat 0 : Nat) : Int), g) else (1, 32, g)
/-- an operation's text; the text of the first k of a list -/
def txO (o : Op) : List Nat := [letK (oK o), 48 + oT o] ++ (if oK o < 2 then [97 + oI o] else [])
def txN (l : List Op) : Nat → List Nat
  | 0 => []
  | k + 1 => txN l k ++ (if 0 < k then [32] else []) ++ txO (opAt l k)
def sp_format (g : SS) (s : Int) : SR := if !isSl s then (1, 0, g) else (0, (((txN (g.1.1 s.toNat) (g.1.1 s.toNat).length).length : Nat) : Int), gLn g (txN (g.1.1 s.toNat) (g.1.1 s.toNat).length))
/-- the text of an order -/
def txR (o : List Nat) : Nat → List Nat
  | 0 => []
  | k + 1 => txR o k ++ (if 0 < k then [60] else []) ++ [48 + o.getD k 0]
def sp_formatOrder (g : SS) (s : Int) : SR := if !isSl s then (1, 0, g) else if !isSerB (gRest g s) then (2, 0, g) else (0, (((txR (serL (gRest g s)) (serL (gRest g s)).length).length : Nat) : Int), gLn g (txR (serL (gRest g s)) (serL (gRest g s)).length))
theorem txO_len (o : Op) : (txO o).length ≤ 3 := by unfold txO; split <;> simp
theorem txN_len (l : List Op) : ∀ k, (txN l k).length ≤ 4 * k - (if k = 0 then 0 else 1) := by
  intro k
  induction k with
  | zero => exact Nat.le_refl 0
  | succ k ih =>
    unfold txN
    have := txO_len (opAt l k)
    rw [List.length_append, List.length_append]
    by_cases e : 0 < k
    · rw [if_pos e, if_neg (by omega)]
      rw [if_neg (by omega)] at ih
      have : [32].length = 1 := rfl
      omega
    · have e : k = 0 := by omega
      subst e
      simp [txN]
      omega
theorem txR_len (o : List Nat) : ∀ k, (txR o k).length ≤ 2 * k := by
  intro k
  induction k with
  | zero => exact Nat.le_refl 0
  | succ k ih =>
    unfold txR
    rw [List.length_append, List.length_append]
    have : [48 + o.getD k 0].length = 1 := rfl
    split
    · have : [60].length = 1 := rfl
      omega
    · have : ([] : List Nat).length = 0 := rfl
      omega
/-- the line holds a text -/
def lnIs (A : Nat → Nat → Int) (F : Nat → Int) (t : List Nat) : Prop := F 36 = ((t.length : Nat) : Int) ∧ txIs (A 35) t 80
theorem mR.lin {A B : Nat → Nat → Int} {F G : Nat → Int} {g : SS} {t : List Nat} {ks js : List Nat} (h : mR A F g) (hA : kA ks A B) (hF : kF js F G) (h1 : ∀ k ∈ [0, 2, 3, 8], k ∉ ks) (h2 : ∀ k ∈ [5, 6, 7, 9], k ∉ js) (hl : lnIs B G t) : mR B G (gLn g t) := by
  refine ⟨by rw [hA 0 (h1 0 (by decide))]; exact h.1, ?_⟩
  unfold mRo gLn
  dsimp only
  rw [hA 2 (h1 2 (by decide)), hA 3 (h1 3 (by decide)), hA 8 (h1 8 (by decide)), hF 5 (h2 5 (by decide)), hF 6 (h2 6 (by decide)), hF 7 (h2 7 (by decide)), hF 9 (h2 9 (by decide))]
  exact ⟨h.2.1, h.2.2.1, h.2.2.2.1, hl, h.2.2.2.2.2⟩
theorem histIs.last {a : Nat → Int} {hs : List Snap} (h : histIs a hs) (h0 : hs.length ≠ 0) : histIs a hs.dropLast ∧ nowIs (fun x => a (88 * (hs.length - 1) + x)) (snAt hs (hs.length - 1)).1 (snAt hs (hs.length - 1)).2 := by
  have := h.1
  refine ⟨⟨by rw [List.length_dropLast]; omega, fun i hi => ?_⟩, h.2 _ (by omega)⟩
  rw [List.length_dropLast] at hi
  have e : snAt hs.dropLast i = snAt hs i := by unfold snAt; rw [List.getElem?_dropLast, if_pos hi]
  rw [e]; exact h.2 i (by omega)
theorem befN_s (S : Nat → List Op) (s o : Nat) : befN S s (o + 1) = befN S s o + (if (S o).length > (S s).length ∨ ((S o).length = (S s).length ∧ o < s) then 1 else 0) := rfl
theorem txN_s (l : List Op) (k : Nat) : txN l (k + 1) = txN l k ++ (if 0 < k then [32] else []) ++ txO (opAt l k) := rfl
theorem txR_s (o : List Nat) (k : Nat) : txR o (k + 1) = txR o k ++ (if 0 < k then [60] else []) ++ [48 + o.getD k 0] := rfl
theorem mR.saved {A B : Nat → Nat → Int} {F G : Nat → Int} {g : SS} {x : Snap} (h : mR A F g) (hA : kA [2] A B) (hF : kF [4, 7] F G) (h7 : G 7 = 1) (hx : nowIs (B 2) x.1 x.2) : mR B G (g.1, g.2.1, some x, g.2.2.2) := by
  refine ⟨by rw [hA 0 (by decide)]; exact h.1, ?_⟩
  unfold mRo
  dsimp only
  rw [hA 3 (by decide), hA 8 (by decide), hA 35 (by decide), hF 5 (by decide), hF 6 (by decide), hF 9 (by decide), hF 36 (by decide)]
  exact ⟨h.2.1, ⟨h7, fun y hy => by cases hy; exact hx⟩, h.2.2.2⟩
/-- now and the kept states changed -/
theorem mR.back {A B : Nat → Nat → Int} {F G : Nat → Int} {g : SS} {x : Snap} {hs : List Snap} (h : mR A F g) (hA : kA [0] A B) (hF : kF [4, 5] F G) (h5 : G 5 = ((hs.length : Nat) : Int)) (hh : histIs (A 3) hs) (hx : nowIs (B 0) x.1 x.2) : mR B G (x, hs, g.2.2) := by
  refine ⟨hx, ?_⟩
  unfold mRo
  dsimp only
  rw [hA 3 (by decide), hA 2 (by decide), hA 8 (by decide), hA 35 (by decide), hF 7 (by decide), hF 6 (by decide), hF 9 (by decide), hF 36 (by decide)]
  exact ⟨⟨hh, h5⟩, h.2.2⟩
