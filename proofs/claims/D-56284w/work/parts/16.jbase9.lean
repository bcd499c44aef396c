/-! J, 9: owned blocks and frozen cells -/
/-- the lambdas' classes: how many values each has captured -/
def lamN : List Nat := [1, 1, 1, 3, 1, 1, 3, 1, 1, 1, 1, 1, 1, 0, 0, 1, 1, 2]
def vwLam : List vw_C := lamN.map (fun n => ("", TX1, n))
/-- the classes of the cells that the frames speak of -/
def vwClX : List vw_C := vwCl ++ vwLam
theorem vwUp {ci : Nat} {r : vw_C} (h : vwCl[ci]? = some r) : vwClX[ci]? = some r := by
  unfold vwClX
  rw [List.getElem?_append_left (List.getElem?_eq_some_iff.mp h).1]
  exact h
theorem va_at_dn {D : va_G} {ci : Nat} {r : vw_C} (hc : vwCl[ci]? = some r) {a : Nat} {fs : List Value} {H : Heap} (h : va_at D vwClX (a, .inr (ci, fs)) H) : va_at D vwCl (a, .inr (ci, fs)) H := by
  obtain ⟨r2, h1, h2⟩ := h
  have : r2 = r := Option.some.inj (h1.symm.trans (vwUp hc))
  subst this
  exact ⟨r2, hc, h2⟩
theorem va_at_ar {D : va_G} {a : Nat} {u : ClassId × vp_A} {H : Heap} (h : va_at D vwClX (a, .inl u) H) : va_at D vwCl (a, .inl u) H := h
theorem va_at_up {D : va_G} {x : Nat × va_E} {H : Heap} (h : va_at D vwCl x H) : va_at D vwClX x H := by
  obtain ⟨a, e⟩ := x
  cases e with
  | inl u => exact h
  | inr o =>
    obtain ⟨r, h1, h2⟩ := h
    exact ⟨r, vwUp h1, h2⟩
abbrev jX : Type := Nat × va_E
abbrev jZ : Type := jX → Prop
def zLe (z z2 : jZ) : Prop := ∀ x, z x → z2 x
theorem zLe.rf {z : jZ} : zLe z z := fun _ h => h
theorem zLe.tr {z1 z2 z3 : jZ} (h : zLe z1 z2) (h2 : zLe z2 z3) : zLe z1 z3 := fun x q => h2 x (h x q)
/-- what the start's heap holds -/
def zS (E : jE) : jZ := fun x => va_at E.2.1 vwClX x E.1.heap
/-- blocks of cells, apart from each other and from the frozen ones -/
def fH (E : jE) (D : Nat → Prop) (z : jZ) (W : List va_W) (H : Heap) : Prop :=
  (∀ (i : Nat) (w : va_W), W[i]? = some w → (∀ x ∈ w, va_at E.2.1 vwClX x H ∧ D x.1 ∧ ∀ y, z y → y.1 ≠ x.1) ∧ (w.map (fun q => q.1)).Nodup)
  ∧ (∀ (i j : Nat) (w w2 : va_W), W[i]? = some w → W[j]? = some w2 → i ≠ j → ∀ x ∈ w, ∀ y ∈ w2, x.1 ≠ y.1)
  ∧ (∀ x, z x → va_at E.2.1 vwClX x H)
/-- a cell that stands: frozen, or in a block -/
def fIn (z : jZ) (W : List va_W) (x : jX) : Prop := z x ∨ ∃ w ∈ W, x ∈ w
theorem fIn.z {z : jZ} {W : List va_W} {x : jX} (h : z x) : fIn z W x := Or.inl h
theorem fIn.at {z : jZ} {W : List va_W} {w : va_W} {x : jX} (i j : Nat) (h1 : W[i]? = some w) (h2 : w[j]? = some x) : fIn z W x := Or.inr ⟨w, List.mem_of_getElem? h1, List.mem_of_getElem? h2⟩
theorem fIn.of {z : jZ} {W : List va_W} {w : va_W} {x : jX} (i : Nat) (h1 : W[i]? = some w) (h2 : x ∈ w) : fIn z W x := Or.inr ⟨w, List.mem_of_getElem? h1, h2⟩
theorem fH.get {E : jE} {D : Nat → Prop} {z : jZ} {W : List va_W} {H : Heap} {x : jX} (h : fH E D z W H) (hx : fIn z W x) : va_at E.2.1 vwClX x H := by
  rcases hx with hx | ⟨w, hw, hx⟩
  · exact h.2.2 x hx
  · obtain ⟨i, hi⟩ := List.getElem?_of_mem hw
    exact ((h.1 i w hi).1 x hx).1
theorem fl_set {l : va_W} {j : Nat} {x x0 : jX} {y : jX} (hj : l[j]? = some x0) (h : y ∈ l.set j x) : y = x ∨ ∃ k, k ≠ j ∧ l[k]? = some y := by
  obtain ⟨k, hk⟩ := List.getElem?_of_mem h
  by_cases e : k = j
  · subst e
    rw [List.getElem?_set_self (List.getElem?_eq_some_iff.mp hj).1] at hk
    exact Or.inl (Option.some.inj hk).symm
  · rw [List.getElem?_set_ne (Ne.symm e)] at hk
    exact Or.inr ⟨k, e, hk⟩
theorem fl_nd {l : va_W} (h : (l.map (fun q => q.1)).Nodup) {i j : Nat} {x y : jX} (hi : l[i]? = some x) (hj : l[j]? = some y) (e : x.1 = y.1) : i = j := by
  have h1 : (l.map (fun q => q.1))[i]? = some x.1 := by rw [List.getElem?_map, hi]; rfl
  have h2 : (l.map (fun q => q.1))[j]? = some x.1 := by rw [List.getElem?_map, hj, e]; rfl
  exact (List.getElem?_inj (List.getElem?_eq_some_iff.mp h1).1 h).mp (h1.trans h2.symm)
/-- one cell of one block is written -/
theorem fH.upd {E : jE} {D : Nat → Prop} {z : jZ} {W : List va_W} {H H1 : Heap} {i j : Nat} {w : va_W} {a : Nat} {e e2 : va_E} (h : fH E D z W H) (hi : W[i]? = some w) (hj : w[j]? = some (a, e)) (hc : va_at E.2.1 vwClX (a, e2) H1) (oq : ∀ q : Nat, q ≠ a → H1[q]? = H[q]?) : fH E D z (W.set i (w.set j (a, e2))) H1 := by
  have hil := (List.getElem?_eq_some_iff.mp hi).1
  have hjl := (List.getElem?_eq_some_iff.mp hj).1
  have hb := h.1 i w hi
  have ha := hb.1 _ (List.mem_of_getElem? hj)
  have key : ∀ k v, (W.set i (w.set j (a, e2)))[k]? = some v → ∃ v0, W[k]? = some v0 ∧ (∀ x ∈ v, ∃ x0 ∈ v0, x0.1 = x.1) ∧ (k ≠ i → v = v0) := by
    intro k v hk
    by_cases ek : k = i
    · subst ek
      rw [List.getElem?_set_self hil] at hk
      cases hk
      refine ⟨w, hi, fun x hx => ?_, fun q => absurd rfl q⟩
      rcases fl_set hj hx with rfl | ⟨k2, -, hk2⟩
      · exact ⟨_, List.mem_of_getElem? hj, rfl⟩
      · exact ⟨x, List.mem_of_getElem? hk2, rfl⟩
    · rw [List.getElem?_set_ne (Ne.symm ek)] at hk
      exact ⟨v, hk, fun x hx => ⟨x, hx, rfl⟩, fun _ => rfl⟩
  refine ⟨fun k v hk => ?_, fun k k2 v v2 hk hk2 hne x hx y hy => ?_, fun x hx => (h.2.2 x hx).kept (oq _ (ha.2.2 x hx))⟩
  · by_cases ek : k = i
    · subst ek
      rw [List.getElem?_set_self hil] at hk
      cases hk
      refine ⟨fun x hx => ?_, ?_⟩
      · rcases fl_set hj hx with rfl | ⟨k2, hne, hk2⟩
        · exact ⟨hc, ha.2⟩
        · have hx0 := hb.1 x (List.mem_of_getElem? hk2)
          exact ⟨hx0.1.kept (oq _ (fun q => hne (fl_nd hb.2 hk2 hj q))), hx0.2⟩
      · rw [List.map_set]
        have : ((w.map (fun q => q.1)).set j a) = w.map (fun q => q.1) := by
          apply List.ext_getElem?
          intro n
          by_cases en : n = j
          · subst en
            rw [List.getElem?_set_self (by simpa using hjl), List.getElem?_map, hj]
            rfl
          · rw [List.getElem?_set_ne (Ne.symm en)]
        show ((w.map (fun q => q.1)).set j a).Nodup
        rw [this]
        exact hb.2
    · rw [List.getElem?_set_ne (Ne.symm ek)] at hk
      have hv := h.1 k v hk
      exact ⟨fun x hx => ⟨((hv.1 x hx).1).kept (oq _ (fun q => h.2.1 k i v w hk hi ek x hx _ (List.mem_of_getElem? hj) q)), (hv.1 x hx).2⟩, hv.2⟩
  · obtain ⟨v0, h1, h2, -⟩ := key k v hk
    obtain ⟨v20, h3, h4, -⟩ := key k2 v2 hk2
    obtain ⟨x0, hx0, ex⟩ := h2 x hx
    obtain ⟨y0, hy0, ey⟩ := h4 y hy
    rw [← ex, ← ey]
    exact h.2.1 k k2 v0 v20 h1 h3 hne x0 hx0 y0 hy0
theorem va_at_size {E : jE} {x : jX} {H : Heap} (h : va_at E.2.1 vwClX x H) : x.1 < H.size := h.lt
/-- a new cell, as a block ahead of the others -/
theorem fH.new {E : jE} {D : Nat → Prop} {z : jZ} {W : List va_W} {H H1 : Heap} {e : va_E} (h : fH E D z W H) (hD : D H.size) (hc : va_at E.2.1 vwClX (H.size, e) H1) (oq : ∀ q : Nat, q < H.size → H1[q]? = H[q]?) : fH E D z ([(H.size, e)] :: W) H1 := by
  refine ⟨fun i w hi => ?_, fun i j w w2 hi hj hne x hx y hy => ?_, fun x hx => (h.2.2 x hx).kept (oq _ (h.2.2 x hx).lt)⟩
  · cases i with
    | zero =>
      cases hi
      refine ⟨fun x hx => ?_, by simp⟩
      rw [List.mem_singleton.mp hx]
      exact ⟨hc, hD, fun y hy => Nat.ne_of_lt (h.2.2 y hy).lt⟩
    | succ i =>
      have hw := h.1 i w hi
      exact ⟨fun x hx => ⟨(hw.1 x hx).1.kept (oq _ (hw.1 x hx).1.lt), (hw.1 x hx).2⟩, hw.2⟩
  · cases i with
    | zero =>
      cases j with
      | zero => exact absurd rfl hne
      | succ j =>
        cases hi
        rw [List.mem_singleton.mp hx]
        exact Ne.symm (Nat.ne_of_lt ((h.1 j w2 hj).1 y hy).1.lt)
    | succ i =>
      cases j with
      | zero =>
        cases hj
        rw [List.mem_singleton.mp hy]
        exact Nat.ne_of_lt ((h.1 i w hi).1 x hx).1.lt
      | succ j => exact h.2.1 i j w w2 hi hj (fun q => hne (by rw [q])) x hx y hy
/-- some of the blocks, in an order -/
theorem fH.sel {E : jE} {D : Nat → Prop} {z : jZ} {W W2 : List va_W} {H : Heap} (h : fH E D z W H) (is : List Nat) (hs : is.map (fun i => W[i]?) = W2.map some) (hn : va_nd is = true) : fH E D z W2 H := by
  have key : ∀ (k : Nat) (w : va_W), W2[k]? = some w → ∃ i, is[k]? = some i ∧ W[i]? = some w := by
    intro k w hk
    have h1 : (is.map (fun i => W[i]?))[k]? = some (some w) := by rw [hs, List.getElem?_map, hk]; rfl
    rw [List.getElem?_map] at h1
    cases hi : is[k]? with
    | none => rw [hi] at h1; cases h1
    | some i => rw [hi] at h1; exact ⟨i, rfl, Option.some.inj h1⟩
  refine ⟨fun i w hi => ?_, fun i j w w2 hi hj hne => ?_, h.2.2⟩
  · obtain ⟨k, -, hk⟩ := key i w hi
    exact h.1 k w hk
  · obtain ⟨k, h1, hk⟩ := key i w hi
    obtain ⟨k2, h2, hk2⟩ := key j w2 hj
    exact h.2.1 k k2 w w2 hk hk2 (fun e => hne (va_nd_inj is hn i j k h1 (by rw [e]; exact h2)))
/-- the first block is frozen -/
theorem fH.freeze {E : jE} {D : Nat → Prop} {z : jZ} {w : va_W} {W : List va_W} {H : Heap} (h : fH E D z (w :: W) H) : fH E D (fun x => z x ∨ x ∈ w) W H := by
  refine ⟨fun i v hi => ?_, fun i j v v2 hi hj hne => h.2.1 (i + 1) (j + 1) v v2 hi hj (fun q => hne (by omega)), fun x hx => ?_⟩
  · have hv := h.1 (i + 1) v hi
    refine ⟨fun x hx => ⟨(hv.1 x hx).1, (hv.1 x hx).2.1, fun y hy => ?_⟩, hv.2⟩
    rcases hy with hy | hy
    · exact (hv.1 x hx).2.2 y hy
    · exact h.2.1 0 (i + 1) w v rfl hi (by omega) y hy x hx
  · rcases hx with hx | hx
    · exact h.2.2 x hx
    · exact ((h.1 0 w rfl).1 x hx).1
/-- two blocks as one -/
theorem fH.glue {E : jE} {D : Nat → Prop} {z : jZ} {w1 w2 : va_W} {W : List va_W} {H : Heap} (h : fH E D z (w1 :: w2 :: W) H) : fH E D z ((w1 ++ w2) :: W) H := by
  refine ⟨fun i v hi => ?_, fun i j v v2 hi hj hne => ?_, h.2.2⟩
  · cases i with
    | zero =>
      cases hi
      refine ⟨fun x hx => ?_, ?_⟩
      · rcases List.mem_append.mp hx with q | q
        · exact (h.1 0 w1 rfl).1 x q
        · exact (h.1 1 w2 rfl).1 x q
      · rw [List.map_append]
        refine List.nodup_append.mpr ⟨(h.1 0 w1 rfl).2, (h.1 1 w2 rfl).2, fun a ha b hb e => ?_⟩
        obtain ⟨x, hx, rfl⟩ := List.mem_map.mp ha
        obtain ⟨y, hy, rfl⟩ := List.mem_map.mp hb
        exact h.2.1 0 1 w1 w2 rfl rfl (by decide) x hx y hy e
    | succ i => exact h.1 (i + 2) v hi
  · cases i with
    | zero =>
      cases j with
      | zero => exact absurd rfl hne
      | succ j =>
        cases hi
        intro x hx y hy
        rcases List.mem_append.mp hx with q | q
        · exact h.2.1 0 (j + 2) w1 v2 rfl hj (by omega) x q y hy
        · exact h.2.1 1 (j + 2) w2 v2 rfl hj (by omega) x q y hy
    | succ i =>
      cases j with
      | zero =>
        cases hj
        intro x hx y hy
        rcases List.mem_append.mp hy with q | q
        · exact h.2.1 (i + 2) 0 v w1 hi rfl (by omega) x hx y q
        · exact h.2.1 (i + 2) 1 v w2 hi rfl (by omega) x hx y q
      | succ j => exact h.2.1 (i + 2) (j + 2) v v2 hi hj (by omega)
/-- one block as two -/
theorem fH.cut {E : jE} {D : Nat → Prop} {z : jZ} {w1 w2 : va_W} {W : List va_W} {H : Heap} (h : fH E D z ((w1 ++ w2) :: W) H) : fH E D z (w1 :: w2 :: W) H := by
  have h0 := h.1 0 _ rfl
  have hnd := List.nodup_append.mp (by have := h0.2; rw [List.map_append] at this; exact this)
  have ap : ∀ x ∈ w1, ∀ y ∈ w2, x.1 ≠ y.1 := fun x hx y hy => hnd.2.2 _ (List.mem_map.mpr ⟨x, hx, rfl⟩) _ (List.mem_map.mpr ⟨y, hy, rfl⟩)
  have l1 : ∀ x ∈ w1, x ∈ w1 ++ w2 := fun x hx => List.mem_append_left _ hx
  have l2 : ∀ x ∈ w2, x ∈ w1 ++ w2 := fun x hx => List.mem_append_right _ hx
  refine ⟨fun i v hi => ?_, fun i j v v2 hi hj hne => ?_, h.2.2⟩
  · match i, hi with
    | 0, hi => cases hi; exact ⟨fun x hx => h0.1 x (l1 x hx), hnd.1⟩
    | 1, hi => cases hi; exact ⟨fun x hx => h0.1 x (l2 x hx), hnd.2.1⟩
    | i + 2, hi => exact h.1 (i + 1) v hi
  · match i, j, hi, hj with
    | 0, 0, _, _ => exact absurd rfl hne
    | 1, 1, _, _ => exact absurd rfl hne
    | 0, 1, hi, hj => cases hi; cases hj; exact ap
    | 1, 0, hi, hj => cases hi; cases hj; exact fun x hx y hy => Ne.symm (ap y hy x hx)
    | 0, j + 2, hi, hj => cases hi; exact fun x hx y hy => h.2.1 0 (j + 1) _ v2 rfl hj (by omega) x (l1 x hx) y hy
    | 1, j + 2, hi, hj => cases hi; exact fun x hx y hy => h.2.1 0 (j + 1) _ v2 rfl hj (by omega) x (l2 x hx) y hy
    | i + 2, 0, hi, hj => cases hj; exact fun x hx y hy => h.2.1 (i + 1) 0 v _ hi rfl (by omega) x hx y (l1 y hy)
    | i + 2, 1, hi, hj => cases hj; exact fun x hx y hy => h.2.1 (i + 1) 0 v _ hi rfl (by omega) x hx y (l2 y hy)
    | i + 2, j + 2, hi, hj => exact h.2.1 (i + 1) (j + 1) v v2 hi hj (by omega)
/-- no block -/
theorem fH.nil {E : jE} {D : Nat → Prop} {z : jZ} {H : Heap} (h : ∀ x, z x → va_at E.2.1 vwClX x H) : fH E D z [] H :=
  ⟨fun i w hi => by simp at hi, fun i j w w2 hi => by simp at hi, h⟩
/-- an address of a list of blocks -/
def wAd (W : List va_W) (q : Nat) : Prop := ∃ w ∈ W, ∃ x ∈ w, x.1 = q
/-- the world of a walk: its entry's frozen cells, those of now, its blocks -/
def fO (K : jK) (E : jE) (z0 z : jZ) (W : List va_W) : Heap → Prop := fun H => fH E (jKA K) z W H ∧ zLe z0 z ∧ ∀ x, z x → z0 x ∨ jKA K x.1 ∨ x.1 < E.1.heap.size
/-- what a call gives back -/
def fPost (E : jE) (H0 : Heap) (z : jZ) (W : List va_W) (post : Option Value → jZ → List va_W → Prop) : Option Value → Heap → Prop := fun v H => ∃ z2 W2, post v z2 W2 ∧ zLe z z2 ∧ fH E (fun q => wAd W q ∨ H0.size ≤ q) z2 W2 H ∧ ∀ x, z2 x → z x ∨ (wAd W x.1 ∨ H0.size ≤ x.1) ∨ x.1 < E.1.heap.size
/-- a contract over frozen cells and blocks -/
def fC (l : Launch) (E : jE) (y : MethodName) (b : ByteArray) (L : Nat) (ret : Option FieldType) (fr lo mc ms : Nat) (as : List Value) (z : jZ) (W : List va_W) (post : Option Value → jZ → List va_W → Prop) : Prop :=
  ∀ H0 : Heap, fH E (fun q => E.1.heap.size ≤ q) z W H0 → jC l E y b L ret fr lo mc ms as (fun X => X = H0) (wAd W) (fPost E H0 z W post)
theorem fO.get {K : jK} {E : jE} {z0 z : jZ} {W : List va_W} {H : Heap} {x : jX} (h : fO K E z0 z W H) (hx : fIn z W x) : va_at E.2.1 vwClX x H := h.1.get hx
