/-! P, 1: operations and schedules as lists; what the reference's rows hold -/
abbrev Op : Type := Nat × Nat × Nat
def oK (o : Op) : Nat := o.1
def oT (o : Op) : Nat := o.2.1
def oI (o : Op) : Nat := o.2.2
/-- the reference's number of an operation -/
def opV (o : Op) : Nat := 100 * oK o + 10 * oT o + oI o
def opOK (o : Op) : Prop := oK o < 4 ∧ 1 ≤ oT o ∧ oT o ≤ 5 ∧ oI o < 4 ∧ (2 ≤ oK o → oI o = 0)
theorem opV_k {o : Op} (h : opOK o) : opV o / 100 = oK o := by unfold opV; unfold opOK at h; omega
theorem opV_t {o : Op} (h : opOK o) : opV o / 10 % 10 = oT o := by unfold opV; unfold opOK at h; omega
theorem opV_i {o : Op} (h : opOK o) : opV o % 10 = oI o := by unfold opV; unfold opOK at h; omega
theorem opV_lt {o : Op} (h : opOK o) : opV o < 1000 := by unfold opV; unfold opOK at h; omega
theorem op_ext {a b : Op} (h1 : oK a = oK b) (h2 : oT a = oT b) (h3 : oI a = oI b) : a = b := Prod.ext h1 (Prod.ext h2 h3)
theorem opV_inj {a b : Op} (ha : opOK a) (hb : opOK b) (h : opV a = opV b) : a = b := op_ext (by rw [← opV_k ha, ← opV_k hb, h]) (by rw [← opV_t ha, ← opV_t hb, h]) (by rw [← opV_i ha, ← opV_i hb, h])
/-- the operation at a place -/
def opAt (l : List Op) (i : Nat) : Op := (l[i]?).getD (0, 0, 0)
theorem opAt_eq {l : List Op} {i : Nat} (h : i < l.length) : l[i]? = some (opAt l i) := by unfold opAt; rw [List.getElem?_eq_getElem h]; rfl
theorem opAt_of {l : List Op} {i : Nat} {o : Op} (h : l[i]? = some o) : opAt l i = o := by unfold opAt; rw [h]; rfl
theorem opAt_mem {l : List Op} {i : Nat} (h : i < l.length) : opAt l i ∈ l := List.mem_of_getElem? (opAt_eq h)
theorem opAt_get {l : List Op} {i : Nat} (h : i < l.length) : opAt l i = l[i] := by unfold opAt; rw [List.getElem?_eq_getElem h]; rfl
theorem take_s {l : List Op} {k : Nat} (h : k < l.length) : l.take (k + 1) = l.take k ++ [opAt l k] := by rw [List.take_succ, opAt_eq h]; rfl
theorem any_0 (l : List Op) (p : Op → Bool) : (l.take 0).any p = false := rfl
theorem any_s {l : List Op} {k : Nat} (p : Op → Bool) (h : k < l.length) : (l.take (k + 1)).any p = ((l.take k).any p || p (opAt l k)) := by rw [take_s h, List.any_append]; simp
theorem any_f {l : List Op} {k : Nat} (p : Op → Bool) (h : l.length ≤ k) : (l.take k).any p = l.any p := by rw [List.take_of_length_le h]
theorem any_at {l : List Op} {k : Nat} (p : Op → Bool) (h : k < l.length) (hp : p (opAt l k) = true) : l.any p = true := List.any_eq_true.mpr ⟨_, opAt_mem h, hp⟩
theorem cnt_s {l : List Op} {k : Nat} (p : Op → Bool) (h : k < l.length) : (l.take (k + 1)).countP p = (l.take k).countP p + if p (opAt l k) then 1 else 0 := by rw [take_s h, List.countP_append]; simp [List.countP_cons]
theorem flt_s {l : List Op} {k : Nat} (p : Op → Bool) (h : k < l.length) : (l.take (k + 1)).filter p = (l.take k).filter p ++ if p (opAt l k) then [opAt l k] else [] := by rw [take_s h, List.filter_append]; simp [List.filter_cons]
/-- a schedule that a slot may hold -/
def slOK (l : List Op) : Prop := l.length ≤ 20 ∧ ∀ o ∈ l, opOK o
theorem slOK.at {l : List Op} (h : slOK l) {i : Nat} (hi : i < l.length) : opOK (opAt l i) := h.2 _ (opAt_mem hi)
theorem slOK.filter {l : List Op} (h : slOK l) (p : Op → Bool) : slOK (l.filter p) := ⟨Nat.le_trans (List.length_filter_le _ _) h.1, fun o ho => h.2 o (List.mem_filter.mp ho).1⟩
/-- the array 'now': four slots of 21 numbers, four values -/
def nowIs (a : Nat → Int) (S : Nat → List Op) (V : Nat → Nat) : Prop := (∀ s, s < 4 → slOK (S s) ∧ a (21 * s) = ((S s).length : Nat) ∧ ∀ i, i < (S s).length → a (21 * s + 1 + i) = ((opV (opAt (S s) i) : Nat) : Int)) ∧ ∀ j, j < 4 → a (84 + j) = ((V j : Nat) : Int) ∧ V j < 1000
theorem nowIs.len {a : Nat → Int} {S : Nat → List Op} {V : Nat → Nat} (h : nowIs a S V) {s : Nat} (hs : s < 4) : (S s).length ≤ 20 := (h.1 s hs).1.1
theorem nowIs.ok {a : Nat → Int} {S : Nat → List Op} {V : Nat → Nat} (h : nowIs a S V) {s i : Nat} (hs : s < 4) (hi : i < (S s).length) : opOK (opAt (S s) i) := (h.1 s hs).1.at hi
theorem nowIs.cnt {a : Nat → Int} {S : Nat → List Op} {V : Nat → Nat} (h : nowIs a S V) {s : Nat} (hs : s < 4) : a (21 * s) = ((S s).length : Nat) := (h.1 s hs).2.1
theorem nowIs.code {a : Nat → Int} {S : Nat → List Op} {V : Nat → Nat} (h : nowIs a S V) {s i : Nat} (hs : s < 4) (hi : i < (S s).length) : a (21 * s + 1 + i) = ((opV (opAt (S s) i) : Nat) : Int) := (h.1 s hs).2.2 i hi
theorem nowIs.keep {a b : Nat → Int} {S : Nat → List Op} {V : Nat → Nat} (h : nowIs a S V) (e : b = a) : nowIs b S V := by rw [e]; exact h
/-- one slot changed -/
def sset (S : Nat → List Op) (s : Nat) (l : List Op) : Nat → List Op := fun j => if j = s then l else S j
theorem sset_s (S : Nat → List Op) (s : Nat) (l : List Op) : sset S s l s = l := if_pos rfl
theorem sset_n {S : Nat → List Op} {s j : Nat} {l : List Op} (h : j ≠ s) : sset S s l j = S j := if_neg h
theorem sset_sset (S : Nat → List Op) (s : Nat) (l l2 : List Op) : sset (sset S s l) s l2 = sset S s l2 := by
  funext j; unfold sset; split <;> rfl
theorem nowIs.set {a b : Nat → Int} {S : Nat → List Op} {V : Nat → Nat} {s : Nat} {l : List Op} (h : nowIs a S V) (hs : s < 4) (hl : slOK l) (h0 : b (21 * s) = (l.length : Nat)) (h1 : ∀ i, i < l.length → b (21 * s + 1 + i) = ((opV (opAt l i) : Nat) : Int)) (ho : ∀ x, x < 21 * s ∨ 21 * s + 21 ≤ x → b x = a x) : nowIs b (sset S s l) V := by
  refine ⟨fun j hj => ?_, fun j hj => ?_⟩
  · by_cases e : j = s
    · subst e
      rw [sset_s]
      exact ⟨hl, h0, h1⟩
    · rw [sset_n e]
      obtain ⟨g1, g2, g3⟩ := h.1 j hj
      refine ⟨g1, ?_, fun i hi => ?_⟩
      · rw [ho _ (by omega)]; exact g2
      · have := g1.1
        rw [ho _ (by omega)]; exact g3 i hi
  · rw [ho _ (by omega)]; exact h.2 j hj
/-- the rows hold a list -/
def laid (A : Nat → Nat → Int) (F : Nat → Int) (L : List Op) : Prop := F 19 = (L.length : Nat) ∧ slOK L ∧ ∀ i, i < L.length → A 13 i = ((oK (opAt L i) : Nat) : Int) ∧ A 14 i = ((oT (opAt L i) : Nat) : Int) ∧ A 15 i = ((oI (opAt L i) : Nat) : Int)
theorem laid.len {A : Nat → Nat → Int} {F : Nat → Int} {L : List Op} (h : laid A F L) : L.length ≤ 20 := h.2.1.1
theorem laid.ok {A : Nat → Nat → Int} {F : Nat → Int} {L : List Op} (h : laid A F L) {i : Nat} (hi : i < L.length) : opOK (opAt L i) := h.2.1.at hi
theorem laid.keep {A B : Nat → Nat → Int} {F G : Nat → Int} {L : List Op} (h : laid A F L) (h13 : B 13 = A 13) (h14 : B 14 = A 14) (h15 : B 15 = A 15) (h19 : G 19 = F 19) : laid B G L := by
  unfold laid
  rw [h13, h14, h15, h19]
  exact h
/-- which arrays, which fields stay -/
def kA (ks : List Nat) (A B : Nat → Nat → Int) : Prop := ∀ k, k ∉ ks → B k = A k
def kF (ks : List Nat) (F G : Nat → Int) : Prop := ∀ k, k ∉ ks → G k = F k
theorem kA.rf {ks : List Nat} {A : Nat → Nat → Int} : kA ks A A := fun _ _ => rfl
theorem kF.rf {ks : List Nat} {A : Nat → Int} : kF ks A A := fun _ _ => rfl
theorem kA.tr {ks ks2 : List Nat} {A B C : Nat → Nat → Int} (h : kA ks A B) (h2 : kA ks2 B C) (hs : ∀ x ∈ ks2, x ∈ ks) : kA ks A C := fun k hk => (h2 k (fun q => hk (hs k q))).trans (h k hk)
theorem kF.tr {ks ks2 : List Nat} {A B C : Nat → Int} (h : kF ks A B) (h2 : kF ks2 B C) (hs : ∀ x ∈ ks2, x ∈ ks) : kF ks A C := fun k hk => (h2 k (fun q => hk (hs k q))).trans (h k hk)
theorem kA.wk {ks ks2 : List Nat} {A B : Nat → Nat → Int} (h : kA ks2 A B) (hs : ∀ x ∈ ks2, x ∈ ks) : kA ks A B := fun k hk => h k (fun q => hk (hs k q))
theorem kF.wk {ks ks2 : List Nat} {A B : Nat → Int} (h : kF ks2 A B) (hs : ∀ x ∈ ks2, x ∈ ks) : kF ks A B := fun k hk => h k (fun q => hk (hs k q))
theorem kA.up {ks : List Nat} {A B : Nat → Nat → Int} {k n : Nat} {v : Int} (h : kA ks A B) (hk : k ∈ ks) : kA ks A (mup B k n v) := fun j hj => (mup_n (fun e : j = k => hj (e ▸ hk))).trans (h j hj)
theorem kF.up {ks : List Nat} {A B : Nat → Int} {k : Nat} {v : Int} (h : kF ks A B) (hk : k ∈ ks) : kF ks A (iup B k v) := fun j hj => (iup_n (fun e : j = k => hj (e ▸ hk))).trans (h j hj)
/-- the letter of a kind -/
def letK (k : Nat) : Nat := if k = 0 then 114 else if k = 1 then 119 else if k = 2 then 99 else 120
theorem letK_lt (k : Nat) : letK k < 128 := by unfold letK; repeat' (first | omega | split)
/-- whether a transaction has an operation of kinds lo .. hi -/
def opHas (l : List Op) (t lo hi : Nat) : Bool := l.any fun o => oT o == t && (decide (lo ≤ oK o) && decide (oK o ≤ hi))
theorem opAt_append_lt {l : List Op} {o : Op} {i : Nat} (h : i < l.length) : opAt (l ++ [o]) i = opAt l i := by unfold opAt; rw [List.getElem?_append_left h]
theorem opAt_append_eq {l : List Op} {o : Op} : opAt (l ++ [o]) l.length = o := by unfold opAt; rw [List.getElem?_append_right (Nat.le_refl _), Nat.sub_self]; rfl
theorem laid.push {A : Nat → Nat → Int} {F : Nat → Int} {L : List Op} {o : Op} (h : laid A F L) (hlt : L.length < 20) (ho : opOK o) : laid (mup (mup (mup A 13 L.length ((oK o : Nat) : Int)) 14 L.length ((oT o : Nat) : Int)) 15 L.length ((oI o : Nat) : Int)) (iup F 19 (((L.length : Nat) : Int) + 1)) (L ++ [o]) := by
  refine ⟨?_, ⟨?_, ?_⟩, ?_⟩
  · rw [iup_s, List.length_append]; rfl
  · rw [List.length_append]; simp; omega
  · intro x hx
    rcases List.mem_append.mp hx with hx | hx
    · exact h.2.1.2 x hx
    · rw [List.mem_singleton.mp hx]; exact ho
  · intro i hi
    rw [List.length_append] at hi
    simp only [mup_s, mup_n (show (13 : Nat) ≠ 15 by decide), mup_n (show (14 : Nat) ≠ 15 by decide), mup_n (show (13 : Nat) ≠ 14 by decide), mup_n (show (15 : Nat) ≠ 14 by decide), mup_n (show (14 : Nat) ≠ 13 by decide), mup_n (show (15 : Nat) ≠ 13 by decide)]
    by_cases e : i < L.length
    · rw [opAt_append_lt e, iup_n (by omega), iup_n (by omega), iup_n (by omega)]
      exact h.2.2 i e
    · have e : i = L.length := by simp at hi; omega
      subst e
      rw [opAt_append_eq, iup_s, iup_s, iup_s]
      exact ⟨rfl, rfl, rfl⟩
theorem laid.nil {A : Nat → Nat → Int} {F : Nat → Int} (h : F 19 = 0) : laid A F [] := ⟨h, ⟨by simp, fun _ h => by cases h⟩, fun i hi => by simp at hi⟩
/-- the transactions of a list, as a set of bits -/
def pmask (l : List Op) : Nat := l.foldl (fun m o => m ||| 2 ^ oT o) 0
theorem pmask_push (l : List Op) (o : Op) : pmask (l ++ [o]) = pmask l ||| 2 ^ oT o := by unfold pmask; rw [List.foldl_append]; rfl
theorem pmask_aux (l : List Op) : ∀ (m b : Nat), (l.foldl (fun m o => m ||| 2 ^ oT o) m).testBit b = (m.testBit b || l.any fun o => oT o == b) := by
  induction l with
  | nil => intro m b; simp
  | cons a l ih =>
    intro m b
    rw [List.foldl_cons, ih, Nat.testBit_or, Nat.testBit_two_pow, List.any_cons, Bool.or_assoc]
    rfl
theorem pmask_test (l : List Op) (b : Nat) : (pmask l).testBit b = l.any fun o => oT o == b := by unfold pmask; rw [pmask_aux]; simp
theorem pmask_lt {l : List Op} (h : ∀ o ∈ l, opOK o) : pmask l < 64 := by
  show pmask l < 2 ^ 6
  apply Nat.lt_pow_two_of_testBit
  intro b hb
  rw [pmask_test]
  apply Bool.eq_false_iff.mpr
  intro q
  obtain ⟨o, ho, e⟩ := List.any_eq_true.mp q
  have := (h o ho).2.2.1
  have e : oT o = b := by simpa using e
  omega
/-- the operations of the transactions that are not aborted, or all -/
def layL (l : List Op) (b : Bool) : List Op := l.filter fun o => !(b && opHas l (oT o) 3 3)
theorem layL_ok {l : List Op} (h : slOK l) (b : Bool) : slOK (layL l b) := h.filter _
theorem layL_f (l : List Op) : layL l false = l := by unfold layL; simp
def restOf (l : List Op) : List Op := layL l true
def opConf (a b : Op) : Bool := decide (oK a < 2) && (decide (oK b < 2) && (oT a != oT b && (oI a == oI b && decide (0 < oK a + oK b))))
/-- a copy of n numbers from array k1, place f, to array k2, place t -/
def cpyN (A : Nat → Nat → Int) (k1 f k2 t n : Nat) : Nat → Nat → Int := fun j => if j = k2 then (fun x => if t ≤ x ∧ x < t + n then A k1 (f + (x - t)) else A k2 x) else A j
theorem cpyN_0 (A : Nat → Nat → Int) (k1 f k2 t : Nat) : cpyN A k1 f k2 t 0 = A := by
  funext j
  unfold cpyN
  split
  · next h =>
    subst h
    funext x
    rw [if_neg (by omega)]
  · rfl
theorem cpyN_o {A : Nat → Nat → Int} {k1 f k2 t n j : Nat} (h : j ≠ k2) : cpyN A k1 f k2 t n j = A j := if_neg h
theorem cpyN_in {A : Nat → Nat → Int} {k1 f k2 t n x : Nat} (h1 : t ≤ x) (h2 : x < t + n) : cpyN A k1 f k2 t n k2 x = A k1 (f + (x - t)) := by
  unfold cpyN
  rw [if_pos rfl]
  exact if_pos ⟨h1, h2⟩
theorem cpyN_out {A : Nat → Nat → Int} {k1 f k2 t n x : Nat} (h : x < t ∨ t + n ≤ x) : cpyN A k1 f k2 t n k2 x = A k2 x := by
  unfold cpyN
  rw [if_pos rfl]
  exact if_neg (by omega)
theorem cpyN_rd {A : Nat → Nat → Int} {k1 f k2 t n : Nat} (h : k1 ≠ k2 ∨ t + 88 ≤ f ∨ f + 88 ≤ t) (hn : n < 88) : cpyN A k1 f k2 t n k1 (f + n) = A k1 (f + n) := by
  by_cases e : k1 = k2
  · subst e
    rw [cpyN_out (by omega)]
  · rw [cpyN_o e]
theorem cpyN_s {A : Nat → Nat → Int} {k1 f k2 t n : Nat} : mup (cpyN A k1 f k2 t n) k2 (t + n) (A k1 (f + n)) = cpyN A k1 f k2 t (n + 1) := by
  funext j
  by_cases e : j = k2
  · subst e
    rw [mup_s]
    funext x
    by_cases hx : x = t + n
    · subst hx
      rw [iup_s, cpyN_in (by omega) (by omega)]
      congr 1
      omega
    · rw [iup_n hx]
      by_cases h : t ≤ x ∧ x < t + n
      · rw [cpyN_in h.1 h.2, cpyN_in h.1 (by omega)]
      · rw [cpyN_out (by omega), cpyN_out (by omega)]
  · rw [mup_n e, cpyN_o e, cpyN_o e]
/-- a kept state: slots and values -/
abbrev Snap : Type := (Nat → List Op) × (Nat → Nat)
def snAt (hs : List Snap) (i : Nat) : Snap := (hs[i]?).getD (fun _ => [], fun _ => 0)
def histIs (a : Nat → Int) (hs : List Snap) : Prop := hs.length ≤ 8 ∧ ∀ i, i < hs.length → nowIs (fun x => a (88 * i + x)) (snAt hs i).1 (snAt hs i).2
/-- a state more; at most eight -/
def hpush (hs : List Snap) (x : Snap) : List Snap := (if hs.length = 8 then hs.drop 1 else hs) ++ [x]
theorem nowIs.cong {a b : Nat → Int} {S : Nat → List Op} {V : Nat → Nat} (h : nowIs a S V) (e : ∀ x, x < 88 → b x = a x) : nowIs b S V := by
  refine ⟨fun s hs => ?_, fun j hj => ?_⟩
  · obtain ⟨h1, h2, h3⟩ := h.1 s hs
    have := h1.1
    exact ⟨h1, by rw [e _ (by omega)]; exact h2, fun i hi => by rw [e _ (by omega)]; exact h3 i hi⟩
  · rw [e _ (by omega)]; exact h.2 j hj
theorem histIs.cong {a b : Nat → Int} {hs : List Snap} (h : histIs a hs) (e : ∀ x, x < 88 * hs.length → b x = a x) : histIs b hs := ⟨h.1, fun i hi => (h.2 i hi).cong (fun x hx => e _ (by omega))⟩
theorem snAt_append_lt {hs : List Snap} {x : Snap} {i : Nat} (h : i < hs.length) : snAt (hs ++ [x]) i = snAt hs i := by unfold snAt; rw [List.getElem?_append_left h]
theorem snAt_append_eq {hs : List Snap} {x : Snap} : snAt (hs ++ [x]) hs.length = x := by unfold snAt; rw [List.getElem?_append_right (Nat.le_refl _), Nat.sub_self]; rfl
theorem snAt_drop (hs : List Snap) (i : Nat) : snAt (hs.drop 1) i = snAt hs (i + 1) := by unfold snAt; rw [List.getElem?_drop, Nat.add_comm]
theorem histIs.push {a b : Nat → Int} {hs : List Snap} {x : Snap} (h : histIs a hs) (h8 : hs.length < 8) (hx : nowIs (fun j => b (88 * hs.length + j)) x.1 x.2) (e : ∀ j, j < 88 * hs.length → b j = a j) : histIs b (hs ++ [x]) := by
  refine ⟨by rw [List.length_append]; simp; omega, fun i hi => ?_⟩
  by_cases hl : i < hs.length
  · rw [snAt_append_lt hl]
    exact (h.2 i hl).cong (fun y hy => e _ (by omega))
  · have : i = hs.length := by rw [List.length_append] at hi; simp at hi; omega
    subst this
    rw [snAt_append_eq]
    exact hx
theorem cpyN_at {A : Nat → Nat → Int} {k1 f k2 t n x : Nat} (h : x < n) : cpyN A k1 f k2 t n k2 (t + x) = A k1 (f + x) := by
  rw [cpyN_in (by omega) (by omega), Nat.add_sub_cancel_left]
theorem cpyN_at0 {A : Nat → Nat → Int} {k1 k2 t n x : Nat} (h : x < n) : cpyN A k1 0 k2 t n k2 (t + x) = A k1 x := by
  rw [cpyN_at h, Nat.zero_add]
