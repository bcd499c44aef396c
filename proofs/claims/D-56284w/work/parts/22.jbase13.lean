/-! J, 13: constants of the start; lists -/
def jA0 (E : jE) : Nat → Prop := fun q => E.1.heap.size ≤ q
/-- places of constants: ArrayList's empty array; the cache of Integers and its boxes (the i-th holds i - 128) -/
def kEmpty (E : jE) : Nat := E.2.2 10
def kCache (E : jE) : Nat := E.2.2 11
def kInt (E : jE) (i : Nat) : Nat := E.2.2 (100 + i)
/-- the class object of an array of Objects -/
def kMir (E : jE) : Nat := E.2.2 14
def kZ (E : jE) (C n d : String) (v : Value) : Prop := va_Z C n d v (jA0 E) E.1 E.1.heap
def jCn (E : jE) : Prop :=
  (kZ E "java/util/ArrayList" "DEFAULTCAPACITY_EMPTY_ELEMENTDATA" "[Ljava/lang/Object;" (.ref (kEmpty E)) ∧ zS E (kEmpty E, .inl (E.2.2 4, 0, .inr (.inr (.inr (.inr (fun _ => none)))))))
  ∧ kZ E "java/lang/Integer$IntegerCache" "high" "I" (.int (jI 127)) ∧ kZ E "java/lang/Integer$IntegerCache" "cache" "[Ljava/lang/Integer;" (.ref (kCache E))
  ∧ va_T (.object "java/lang/Integer") (kCache E) 256 (fun i => .ref (kInt E i)) (jA0 E) E.1 E.1.heap ∧ (∀ i, i < 256 → zS E (kInt E i, .inr (17, [.int (jI ((i : Int) - 128))])))
  ∧ va_Mi "[Ljava/lang/Object;" (kMir E) E.1 ∧ lamAt E
theorem jCn.emp {E : jE} (h : jCn E) : kZ E "java/util/ArrayList" "DEFAULTCAPACITY_EMPTY_ELEMENTDATA" "[Ljava/lang/Object;" (.ref (kEmpty E)) := h.1.1
theorem jCn.empC {E : jE} (h : jCn E) : zS E (kEmpty E, .inl (E.2.2 4, 0, .inr (.inr (.inr (.inr (fun _ => none)))))) := h.1.2
theorem jCn.high {E : jE} (h : jCn E) : kZ E "java/lang/Integer$IntegerCache" "high" "I" (.int (jI 127)) := h.2.1
theorem jCn.cache {E : jE} (h : jCn E) : kZ E "java/lang/Integer$IntegerCache" "cache" "[Ljava/lang/Integer;" (.ref (kCache E)) := h.2.2.1
theorem jCn.cacheT {E : jE} (h : jCn E) : va_T (.object "java/lang/Integer") (kCache E) 256 (fun i => .ref (kInt E i)) (jA0 E) E.1 E.1.heap := h.2.2.2.1
theorem jCn.int {E : jE} (h : jCn E) {z : jZ} (hz : zLe (zS E) z) {n : Nat} (hn : n < 128) : z (kInt E (128 + n), .inr (17, [.int (jI (n : Int))])) := by
  have := hz _ (h.2.2.2.2.1 (128 + n) (by omega))
  rwa [show (((128 + n : Nat) : Int) - 128) = (n : Int) by omega] at this
theorem jCn.mir {E : jE} (h : jCn E) : va_Mi "[Ljava/lang/Object;" (kMir E) E.1 := h.2.2.2.2.2.1
theorem jCn.lam {E : jE} (h : jCn E) : lamAt E := h.2.2.2.2.2.2
theorem lw_Fg {own : String} {idx : Nat} {C : String} {x y : MethodName} {b : ByteArray} {L : Nat} {r : Option FieldType} (h1 : Cond.methodLink own idx x ∈ lw_all) (h2 : Cond.selects C x y ∈ lw_all) (h3 : Cond.instanceMethod y ∈ lw_all) (h4 : Cond.initialized y.cls ∈ lw_all) (h5 : Cond.code y b L r ∈ lw_all) : GoodIn lw_all (va_wsF own idx C x y (ws_ y b L r)) :=
  lw_app (List.forall_mem_cons.mpr ⟨h1, List.forall_mem_cons.mpr ⟨h2, List.forall_mem_cons.mpr ⟨h3, List.forall_mem_cons.mpr ⟨h4, fun _ h => by cases h⟩⟩⟩⟩) (lw_meth h5)
section KROWS
variable {E : jE} {K : jK} {cc : ByteArray} {own : String} {rm : Room} {P : Heap → Prop} {cells slots pc : Nat} {vs : List (Option Value)} {st : List Value}
theorem f_gets (hk : jOK E K cc own rm) {C n d : String} {v : Value} {index : Nat} (hZ : kZ E C n d v) (hlink : Cond.fieldLink own index C n d ∈ lw_all) (dd : decode cc pc = .ok (.getstatic index, 3)) (kk : jW K P cells slots (pc + 3) vs (v :: st)) : jW K P cells slots pc vs st := by
  obtain ⟨p, l, e, R, s, m', args, below, meth, c, A', Q⟩ := K
  intro H locs ls hP hS hl hz
  obtain ⟨hx, hb, hown, hts, hA, hG, hA0, -⟩ := hk
  have h1 : va_Z C n d v A' s s.heap := ((va_Z.moved hG.1.alike hZ).kept (fun a ha _ => hG.2.2 a ha)).narrow (fun q hq => Nat.not_lt.mp (fun h => hA0 q h hq))
  exact va_gets hx hb h1 hS hown (hts _ hlink) (fun x h => h) dd (kk H locs ls hP hS hl hz)
theorem f_aaldT (hk : jOK E K cc own rm) {C : String} {t N : Nat} {f : Nat → Value} (hT : va_T (.object C) t N f (jA0 E) E.1 E.1.heap) {zi : Int} (k : Nat) (hz : zi = (k : Int)) (hn : k < N) (hn2 : N < 2147483648) {v : Value} (hv : f k = v) (d : decode cc pc = .ok (.aaload, 1)) (kk : jW K P cells slots (pc + 1) vs (v :: st)) : jW K P cells slots pc vs (.int (jI zi) :: .ref t :: st) := by
  subst hz
  obtain ⟨p, l, e, R, s, m', args, below, meth, c, A', Q⟩ := K
  intro H locs ls hP hS hl hz2
  obtain ⟨hx, hb, hown, hts, hA, hG, hA0, -⟩ := hk
  have h1 : va_T (.object C) t N f A' s s.heap := ((va_T.moved hG.1.alike hT).kept (fun a ha _ => hG.2.2 a ha)).narrow (fun q hq => Nat.not_lt.mp (fun h => hA0 q h hq))
  refine vb_tq hx hb h1 hS (jI_in (by omega) (by omega) (by omega)) (v := v) (by rw [jI_clamp (by omega) (by omega), Int.toNat_natCast]; exact hv) d ?_
  exact kk H locs ls hP hS hl hz2
theorem f_ldcS (hk : jOK E K cc own rm) {tx : String} {index q : Nat} (hR : vk_R own index tx q E.1) (d : decode cc pc = .ok (.ldc index, 2)) (kk : jW K P cells slots (pc + 2) vs (.ref q :: st)) : jW K P cells slots pc vs st := by
  obtain ⟨p, l, e, R, s, m', args, below, meth, c, A', Q⟩ := K
  intro H locs ls hP hS hl hz2
  obtain ⟨hx, hb, hown, hts, hA, hG, hA0, -⟩ := hk
  exact va_ldcS hx hb hown (hR.warm hG.1) d (kk H locs ls hP hS hl hz2)
end KROWS
/-! ### lists -/
def refs (f : Nat → Option Nat) : (Nat → Int32) ⊕ (Nat → Int64) ⊕ (Nat → UInt32) ⊕ (Nat → UInt64) ⊕ (Nat → Option Nat) := .inr (.inr (.inr (.inr f)))
def capOK (c : Nat) : Prop := c = 10 ∨ c = 15 ∨ c = 22 ∨ c = 33
/-- an ArrayList's cells: nothing in it, and the shared array; or a list in its own array -/
abbrev alCell (a : Nat) (mc : Int) (q n : Nat) : jX := (a, .inr (10, [.int (jI mc), .ref q, .int (jI (n : Int))]))
abbrev arCell (E : jE) (q cap : Nat) (f : Nat → Option Nat) : jX := (q, .inl (E.2.2 4, cap, .inr (.inr (.inr (.inr f)))))
def alQ (E : jE) (a : Nat) (mc : Int) (l : List Nat) (q : Nat) (w : va_W) : Prop :=
  (l = [] ∧ q = kEmpty E ∧ w = [alCell a mc (kEmpty E) 0]) ∨ ∃ cap f, w = [alCell a mc q l.length, arCell E q cap f] ∧ capOK cap ∧ l.length ≤ cap ∧ ∀ i, i < cap → f i = l[i]?
def alW (E : jE) (a : Nat) (mc : Int) (l : List Nat) (w : va_W) : Prop := ∃ q, alQ E a mc l q w
/-- no place is left -/
def alF (E : jE) (a : Nat) (mc : Int) (l : List Nat) (w : va_W) : Prop :=
  (l = [] ∧ w = [alCell a mc (kEmpty E) 0]) ∨ ∃ q f, w = [alCell a mc q l.length, arCell E q l.length f] ∧ (l.length = 10 ∨ l.length = 15 ∨ l.length = 22) ∧ ∀ i, i < l.length → f i = l[i]?
/-- a frozen list -/
def alZ (E : jE) (z : jZ) (a : Nat) (mc : Int) (l : List Nat) : Prop := ∃ w, alW E a mc l w ∧ ∀ x ∈ w, z x
theorem alZ.up {E : jE} {z z2 : jZ} {a : Nat} {mc : Int} {l : List Nat} (h : alZ E z a mc l) (hl : zLe z z2) : alZ E z2 a mc l := by
  obtain ⟨w, h1, h2⟩ := h
  exact ⟨w, h1, fun x hx => hl x (h2 x hx)⟩
theorem alW.z {E : jE} {z : jZ} {a : Nat} {mc : Int} {l : List Nat} {w : va_W} (h : alW E a mc l w) (hz : ∀ x ∈ w, z x) : alZ E z a mc l := ⟨w, h, hz⟩
theorem alW.len {E : jE} {a : Nat} {mc : Int} {l : List Nat} {w : va_W} (h : alW E a mc l w) : l.length ≤ 33 := by
  obtain ⟨q, h⟩ := h
  rcases h with ⟨rfl, -, -⟩ | ⟨cap, f, -, hc, hl, -⟩
  · exact Nat.zero_le _
  · rcases hc with hc | hc | hc | hc <;> omega
theorem alZ.len {E : jE} {z : jZ} {a : Nat} {mc : Int} {l : List Nat} (h : alZ E z a mc l) : l.length ≤ 33 := by
  obtain ⟨w, h1, -⟩ := h
  exact h1.len
/-- its parts: the list's cell; the array's -/
theorem alZ.cell {E : jE} {z : jZ} {a : Nat} {mc : Int} {l : List Nat} (h : alZ E z a mc l) (hN : jCn E) (hz : zLe (zS E) z) : ∃ q cap f, z (alCell a mc q l.length) ∧ z (arCell E q cap f) ∧ l.length ≤ cap ∧ cap ≤ 33 ∧ ∀ i, i < cap → f i = l[i]? := by
  obtain ⟨w, ⟨q, h1⟩, h2⟩ := h
  rcases h1 with ⟨rfl, rfl, rfl⟩ | ⟨cap, f, rfl, hc, hl, hf⟩
  · exact ⟨kEmpty E, 0, fun _ => none, h2 _ (by simp), hz _ hN.empC, Nat.le_refl _, by omega, fun i hi => by omega⟩
  · exact ⟨q, cap, f, h2 _ (by simp), h2 _ (by simp), hl, by rcases hc with hc | hc | hc | hc <;> omega, hf⟩
theorem alQ.head {E : jE} {a : Nat} {mc : Int} {l : List Nat} {q : Nat} {w : va_W} (h : alQ E a mc l q w) : ∃ r, w = alCell a mc q l.length :: r ∧ ∀ mc2 : Int, alQ E a mc2 l q (alCell a mc2 q l.length :: r) := by
  rcases h with ⟨rfl, rfl, rfl⟩ | ⟨cap, f, rfl, hc, hl, hf⟩
  · exact ⟨[], rfl, fun mc2 => Or.inl ⟨rfl, rfl, rfl⟩⟩
  · exact ⟨[arCell E q cap f], rfl, fun mc2 => Or.inr ⟨cap, f, rfl, hc, hl, hf⟩⟩
theorem alQ.ne {E : jE} {a : Nat} {mc : Int} {l : List Nat} {q : Nat} {w : va_W} (h : alQ E a mc l q w) (hn : 0 < l.length) : ∃ cap f, w = [alCell a mc q l.length, arCell E q cap f] ∧ capOK cap ∧ l.length ≤ cap ∧ ∀ i, i < cap → f i = l[i]? := by
  rcases h with ⟨rfl, -, -⟩ | h
  · exact absurd hn (Nat.lt_irrefl _)
  · exact h
theorem alF.head {E : jE} {a : Nat} {mc : Int} {l : List Nat} {w : va_W} (h : alF E a mc l w) : ∃ q r, w = alCell a mc q l.length :: r := by
  rcases h with ⟨rfl, rfl⟩ | ⟨q, f, rfl, -, -⟩
  · exact ⟨kEmpty E, [], rfl⟩
  · exact ⟨q, _, rfl⟩
theorem capOK.le {c : Nat} (h : capOK c) : c ≤ 33 := by unfold capOK at h; omega
theorem al_app {cap : Nat} {f : Nat → Option Nat} {l : List Nat} {e : Nat} (hf : ∀ i, i < cap → f i = l[i]?) (hl : l.length < cap) : ∀ i, i < cap → va_up f l.length (some e) i = (l ++ [e])[i]? := by
  intro i hi
  unfold va_up
  split
  · rename_i h; subst h; simp
  · rename_i h
    rw [hf i hi]
    by_cases h2 : i < l.length
    · rw [List.getElem?_append_left h2]
    · rw [List.getElem?_eq_none (by omega), List.getElem?_eq_none (by simp; omega)]
theorem al_cpy {cap n : Nat} {f : Nat → Option Nat} {l : List Nat} (hn : n = l.length) (hf : ∀ i, i < n → f i = l[i]?) : ∀ i, i < cap → va_cpy f (fun _ => none) 0 0 n i = l[i]? := by
  intro i _
  unfold va_cpy
  split
  · rename_i h
    rw [Nat.sub_zero, Nat.zero_add, hf i (by omega)]
  · rename_i h
    rw [List.getElem?_eq_none (by omega)]
theorem al_set {cap i : Nat} {f : Nat → Option Nat} {l : List Nat} {e : Nat} (hf : ∀ i, i < cap → f i = l[i]?) (hi : i < l.length) : ∀ k, k < cap → va_up f i (some e) k = (l.set i e)[k]? := by
  intro k hk
  unfold va_up
  by_cases h : k = i
  · subst h
    rw [if_pos rfl, List.getElem?_set_self hi]
  · rw [if_neg h, List.getElem?_set_ne (Ne.symm h), hf k hk]
/-- a list with one more at a place -/
def insAt (l : List Nat) (i e : Nat) : List Nat := l.take i ++ e :: l.drop i
theorem insAt_len {l : List Nat} {i e : Nat} (h : i ≤ l.length) : (insAt l i e).length = l.length + 1 := by simp [insAt]; omega
theorem al_ins {cap i : Nat} {f : Nat → Option Nat} {l : List Nat} {e : Nat} (hf : ∀ i, i < cap → f i = l[i]?) (hi : i ≤ l.length) (hl : l.length < cap) : ∀ k, k < cap → va_up (va_cpy f f i (i + 1) (l.length - i)) i (some e) k = (insAt l i e)[k]? := by
  intro k hk
  have h1 : (l.take i).length = i := by simp; omega
  unfold va_up insAt
  by_cases h : k = i
  · subst h
    rw [if_pos rfl, List.getElem?_append_right (by omega), h1, Nat.sub_self]
    rfl
  · rw [if_neg h]
    by_cases h2 : k < i
    · rw [List.getElem?_append_left (by omega), List.getElem?_take_of_lt h2, ← hf k hk]
      unfold va_cpy
      rw [if_neg (by omega)]
    · rw [List.getElem?_append_right (by omega), h1]
      obtain ⟨m, rfl⟩ : ∃ m, k = i + 1 + m := ⟨k - i - 1, by omega⟩
      rw [show i + 1 + m - i = m + 1 by omega, List.getElem?_cons_succ, List.getElem?_drop]
      unfold va_cpy
      by_cases h3 : i + 1 + m < i + 1 + (l.length - i)
      · rw [if_pos ⟨by omega, h3⟩, show i + (i + 1 + m - (i + 1)) = i + m by omega, hf (i + m) (by omega)]
      · rw [if_neg (by omega), hf _ hk, List.getElem?_eq_none (by omega), List.getElem?_eq_none (by omega)]
theorem al_rem {cap i : Nat} {f : Nat → Option Nat} {l : List Nat} (hf : ∀ i, i < cap → f i = l[i]?) (hi : i < l.length) (hl : l.length ≤ cap) {g : Nat → Option Nat} (hg : ∀ k, k < l.length - 1 → g k = if k < i then f k else f (k + 1)) (hg2 : ∀ k, l.length ≤ k → k < cap → g k = f k) : ∀ k, k < cap → va_up g (l.length - 1) none k = (l.eraseIdx i)[k]? := by
  intro k hk
  have hlen : (l.eraseIdx i).length = l.length - 1 := List.length_eraseIdx_of_lt hi
  unfold va_up
  by_cases h : k = l.length - 1
  · rw [if_pos h, List.getElem?_eq_none (by omega)]
  · rw [if_neg h]
    by_cases h2 : k < l.length - 1
    · rw [hg k h2, List.getElem?_eraseIdx]
      by_cases h3 : k < i
      · rw [if_pos h3, if_pos h3, hf k hk]
      · rw [if_neg h3, if_neg h3, hf (k + 1) (by omega)]
    · rw [hg2 k (by omega) hk, hf k hk, List.getElem?_eq_none (by omega), List.getElem?_eq_none (by omega)]
/-- an iterator's cell -/
abbrev itCell (it : Nat) (k : Nat) (lr mc : Int) (a : Nat) : jX := (it, .inr (11, [.int (jI (k : Int)), .int (jI lr), .int (jI mc), .ref a]))
def itW (it : Nat) (k : Nat) (mc : Int) (a : Nat) (w : va_W) : Prop := ∃ lr, w = [itCell it k lr mc a]
/-- operations' objects, one behind another -/
def opsZ (z : jZ) : List Nat → List Op → Prop
  | [], [] => True
  | a :: l, o :: s => z (a, .inr (5, opFs o)) ∧ opOK o ∧ opsZ z l s
  | _, _ => False
theorem opsZ.up {z z2 : jZ} {l : List Nat} {s : List Op} (h : opsZ z l s) (hl : zLe z z2) : opsZ z2 l s := by
  induction l generalizing s with
  | nil => cases s with
    | nil => trivial
    | cons o s => exact h
  | cons a l ih => cases s with
    | nil => exact h
    | cons o s => exact ⟨hl _ h.1, h.2.1, ih h.2.2⟩
theorem opsZ.len {z : jZ} {l : List Nat} {s : List Op} (h : opsZ z l s) : l.length = s.length := by
  induction l generalizing s with
  | nil => cases s with
    | nil => rfl
    | cons o s => exact h.elim
  | cons a l ih => cases s with
    | nil => exact h.elim
    | cons o s => simp [ih h.2.2]
theorem opsZ.at {z : jZ} {l : List Nat} {s : List Op} (h : opsZ z l s) {i : Nat} (hi : i < s.length) : ∃ a, l[i]? = some a ∧ z (a, .inr (5, opFs (opAt s i))) ∧ opOK (opAt s i) := by
  induction l generalizing s i with
  | nil => cases s with
    | nil => exact absurd hi (Nat.not_lt_zero _)
    | cons o s => exact h.elim
  | cons a l ih => cases s with
    | nil => exact h.elim
    | cons o s =>
      cases i with
      | zero => exact ⟨a, rfl, h.1, h.2.1⟩
      | succ i =>
        obtain ⟨b, h1, h2⟩ := ih h.2.2 (i := i) (by simpa using hi)
        exact ⟨b, by simpa using h1, by simpa [opAt] using h2⟩
theorem opsZ.snoc {z : jZ} {l : List Nat} {s : List Op} (h : opsZ z l s) {a : Nat} {o : Op} (ha : z (a, .inr (5, opFs o))) (ho : opOK o) : opsZ z (l ++ [a]) (s ++ [o]) := by
  induction l generalizing s with
  | nil => cases s with
    | nil => exact ⟨ha, ho, trivial⟩
    | cons o s => exact h.elim
  | cons b l ih => cases s with
    | nil => exact h.elim
    | cons p s => exact ⟨h.1, h.2.1, ih h.2.2⟩
