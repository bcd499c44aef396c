/-! P, 2: the state that both sides hold; the reference's picture of it -/
/-- now; kept states; saved; input; line; place of the error -/
abbrev SS : Type := Snap × List Snap × Option Snap × List Nat × List Nat × Int
def txIs (a : Nat → Int) (l : List Nat) (n : Nat) : Prop := l.length ≤ n ∧ ∀ i, i < l.length → a i = ((l.getD i 0 : Nat) : Int) ∧ l.getD i 0 < 65536
/-- all but 'now' -/
def mRo (A : Nat → Nat → Int) (F : Nat → Int) (g : SS) : Prop := (histIs (A 3) g.2.1 ∧ F 5 = ((g.2.1.length : Nat) : Int)) ∧ (F 7 = jB g.2.2.1.isSome ∧ ∀ x, g.2.2.1 = some x → nowIs (A 2) x.1 x.2) ∧ (F 9 = ((g.2.2.2.1.length : Nat) : Int) ∧ txIs (A 8) g.2.2.2.1 60) ∧ (F 36 = ((g.2.2.2.2.1.length : Nat) : Int) ∧ txIs (A 35) g.2.2.2.2.1 80) ∧ F 6 = g.2.2.2.2.2 ∧ -1 ≤ g.2.2.2.2.2 ∧ g.2.2.2.2.2 ≤ 60
def mR (A : Nat → Nat → Int) (F : Nat → Int) (g : SS) : Prop := nowIs (A 0) g.1.1 g.1.2 ∧ mRo A F g
theorem mRo.keep {A B : Nat → Nat → Int} {F G : Nat → Int} {g : SS} {ks js : List Nat} (h : mRo A F g) (hA : kA ks A B) (hF : kF js F G) (h1 : ∀ k ∈ [2, 3, 8, 35], k ∉ ks) (h2 : ∀ k ∈ [5, 6, 7, 9, 36], k ∉ js) : mRo B G g := by
  unfold mRo
  rw [hA 2 (h1 2 (by decide)), hA 3 (h1 3 (by decide)), hA 8 (h1 8 (by decide)), hA 35 (h1 35 (by decide)), hF 5 (h2 5 (by decide)), hF 6 (h2 6 (by decide)), hF 7 (h2 7 (by decide)), hF 9 (h2 9 (by decide)), hF 36 (h2 36 (by decide))]
  exact h
theorem mR.keep {A B : Nat → Nat → Int} {F G : Nat → Int} {g : SS} {ks js : List Nat} (h : mR A F g) (hA : kA ks A B) (hF : kF js F G) (h1 : ∀ k ∈ [0, 2, 3, 8, 35], k ∉ ks) (h2 : ∀ k ∈ [5, 6, 7, 9, 36], k ∉ js) : mR B G g :=
  ⟨by rw [hA 0 (h1 0 (by decide))]; exact h.1, h.2.keep hA hF (fun k hk => h1 k (List.mem_cons_of_mem _ hk)) h2⟩
/-- a new state, the old one kept -/
def gpush (g : SS) (x : Snap) : SS := (x, hpush g.2.1 g.1, g.2.2)
theorem kA.up1 {A : Nat → Nat → Int} {k n : Nat} {v : Int} : kA [k] A (mup A k n v) := fun j hj => mup_n (by simpa using hj)
theorem kF.up1 {A : Nat → Int} {k : Nat} {v : Int} : kF [k] A (iup A k v) := fun j hj => iup_n (by simpa using hj)
theorem kA.cpy {A : Nat → Nat → Int} {k1 f k2 t n : Nat} : kA [k2] A (cpyN A k1 f k2 t n) := fun j hj => cpyN_o (by simpa using hj)
/-- commit, in plain words: the shifted rows, and the new one behind -/
theorem hist_commit {a b : Nat → Int} {hs : List Snap} {x : Snap} (h : histIs a hs) (h8 : hs.length ≠ 8) (hx : nowIs (fun j => b (88 * hs.length + j)) x.1 x.2) (e : ∀ j, j < 88 * hs.length → b j = a j) : histIs b (hpush hs x) := by
  have := h.1
  unfold hpush
  rw [if_neg h8]
  exact h.push (by omega) hx e
theorem hist_shift {a b : Nat → Int} {hs : List Snap} {x : Snap} (h : histIs a hs) (h8 : hs.length = 8) (hx : nowIs (fun j => b (616 + j)) x.1 x.2) (e : ∀ j, j < 616 → b j = a (88 + j)) : histIs b (hpush hs x) := by
  unfold hpush
  rw [if_pos h8]
  have hl : (hs.drop 1).length = 7 := by rw [List.length_drop]; omega
  have hd : histIs (fun j => a (88 + j)) (hs.drop 1) := by
    refine ⟨by omega, fun i hi => ?_⟩
    rw [snAt_drop]
    have := h.2 (i + 1) (by omega)
    exact this.cong (fun y hy => by show a _ = a _; congr 1; omega)
  exact hd.push (by omega) (by rw [hl]; exact hx) (fun j hj => e j (by omega))
theorem hpush_len (hs : List Snap) (x : Snap) (h : hs.length ≤ 8) : (hpush hs x).length = if hs.length = 8 then 8 else hs.length + 1 := by
  unfold hpush
  split
  · rw [List.length_append, List.length_drop]; simp; omega
  · rw [List.length_append]; rfl
/-- isOperation -/
def isOpB (S : Nat → List Op) (s p : Int) : Bool := decide (0 ≤ s ∧ s ≤ 3) && decide (0 ≤ p ∧ p < (((S s.toNat).length : Nat) : Int))
theorem nowIs.add {a : Nat → Int} {S : Nat → List Op} {V : Nat → Nat} {s : Nat} {o : Op} (h : nowIs a S V) (hs : s < 4) (hl : (S s).length < 20) (ho : opOK o) : nowIs (iup (iup a (21 * s + 1 + (S s).length) ((opV o : Nat) : Int)) (21 * s) ((((S s).length : Nat) : Int) + 1)) (sset S s (S s ++ [o])) V := by
  refine h.set hs ⟨?_, fun x hx => ?_⟩ ?_ (fun i hi => ?_) (fun x hx => ?_)
  · rw [List.length_append]; simp; omega
  · rcases List.mem_append.mp hx with q | q
    · exact (h.1 s hs).1.2 x q
    · rw [List.mem_singleton.mp q]; exact ho
  · rw [iup_s, List.length_append]; rfl
  · rw [List.length_append] at hi
    by_cases e : i < (S s).length
    · rw [opAt_append_lt e, iup_n (by omega), iup_n (by omega)]; exact h.code hs e
    · have e : i = (S s).length := by simp at hi; omega
      subst e
      rw [opAt_append_eq, iup_n (by omega), iup_s]
  · rw [iup_n (by omega), iup_n (by omega)]
theorem opAt_erase {l : List Op} {p i : Nat} : opAt (l.eraseIdx p) i = if i < p then opAt l i else opAt l (i + 1) := by
  unfold opAt
  rw [List.getElem?_eraseIdx]
  split <;> rfl
theorem nowIs.erase {a b : Nat → Int} {S : Nat → List Op} {V : Nat → Nat} {s p : Nat} (h : nowIs a S V) (hs : s < 4) (hp : p < (S s).length) (h0 : b (21 * s) = (((S s).length : Nat) : Int) - 1) (h1 : ∀ x, 21 * s + 1 + p ≤ x → x < 21 * s + (S s).length → b x = a (x + 1)) (h2 : ∀ x, x ≠ 21 * s → (x < 21 * s + 1 + p ∨ 21 * s + (S s).length ≤ x) → b x = a x) : nowIs b (sset S s ((S s).eraseIdx p)) V := by
  have hL := h.len hs
  have hlen : ((S s).eraseIdx p).length = (S s).length - 1 := List.length_eraseIdx_of_lt hp
  refine h.set hs ⟨?_, fun x hx => (h.1 s hs).1.2 x (List.mem_of_mem_eraseIdx hx)⟩ ?_ (fun i hi => ?_) (fun x hx => ?_)
  · omega
  · rw [h0, hlen]; omega
  · rw [opAt_erase]
    split
    · rw [h2 _ (by omega) (by omega)]; exact h.code hs (by omega)
    · rw [h1 _ (by omega) (by omega)]; exact h.code hs (i := i + 1) (by omega)
  · exact h2 x (by omega) (by omega)
/-- two places exchanged -/
def opSwap (l : List Op) (p : Nat) : List Op := (l.set p (opAt l (p + 1))).set (p + 1) (opAt l p)
theorem opSwap_len (l : List Op) (p : Nat) : (opSwap l p).length = l.length := by unfold opSwap; rw [List.length_set, List.length_set]
theorem opAt_swap {l : List Op} {p i : Nat} (hp : p + 1 < l.length) : opAt (opSwap l p) i = if i = p then opAt l (p + 1) else if i = p + 1 then opAt l p else opAt l i := by
  unfold opSwap opAt
  rw [List.getElem?_set, List.getElem?_set]
  by_cases h1 : i = p
  · subst h1
    rw [if_neg (by omega), if_pos rfl, if_pos (by omega), if_pos rfl]; rfl
  · by_cases h2 : i = p + 1
    · subst h2
      rw [if_pos rfl, if_pos (by rw [List.length_set]; omega), if_neg (by omega), if_pos rfl]; rfl
    · rw [if_neg (by omega), if_neg (by omega), if_neg h1, if_neg h2]
theorem nowIs.swap {a : Nat → Int} {S : Nat → List Op} {V : Nat → Nat} {s p : Nat} (h : nowIs a S V) (hs : s < 4) (hp : p + 1 < (S s).length) : nowIs (iup (iup a (21 * s + 1 + p) ((opV (opAt (S s) (p + 1)) : Nat) : Int)) (21 * s + 2 + p) ((opV (opAt (S s) p) : Nat) : Int)) (sset S s (opSwap (S s) p)) V := by
  have hL := h.len hs
  refine h.set hs ⟨by rw [opSwap_len]; exact hL, fun x hx => ?_⟩ ?_ (fun i hi => ?_) (fun x hx => ?_)
  · obtain ⟨i, hi⟩ := List.getElem?_of_mem hx
    have hi2 := opAt_of hi
    have hlt : i < (opSwap (S s) p).length := (List.getElem?_eq_some_iff.mp hi).1
    rw [opSwap_len] at hlt
    rw [opAt_swap hp] at hi2
    rw [← hi2]
    split
    · exact h.ok hs (by omega)
    · split
      · exact h.ok hs (by omega)
      · exact h.ok hs hlt
  · rw [iup_n (by omega), iup_n (by omega), opSwap_len]; exact h.cnt hs
  · rw [opSwap_len] at hi
    rw [opAt_swap hp]
    by_cases e2 : i = p + 1
    · subst e2
      rw [if_neg (by omega), if_pos rfl, show 21 * s + 1 + (p + 1) = 21 * s + 2 + p by omega, iup_s]
    · rw [iup_n (by omega)]
      by_cases e1 : i = p
      · subst e1
        rw [if_pos rfl, iup_s]
      · rw [iup_n (by omega), if_neg e1, if_neg e2]; exact h.code hs hi
  · rw [iup_n (by omega), iup_n (by omega)]
theorem nowIs.copy {a b : Nat → Int} {S : Nat → List Op} {V : Nat → Nat} {s t : Nat} (h : nowIs a S V) (hs : s < 4) (ht : t < 4) (h1 : ∀ i, i < 21 → b (21 * t + i) = a (21 * s + i)) (h2 : ∀ x, x < 21 * t ∨ 21 * t + 21 ≤ x → b x = a x) : nowIs b (sset S t (S s)) V := by
  have hL := h.len hs
  refine h.set ht (h.1 s hs).1 ?_ (fun i hi => ?_) h2
  · have := h1 0 (by omega)
    rw [Nat.add_zero, Nat.add_zero] at this
    rw [this]; exact h.cnt hs
  · rw [Nat.add_assoc, h1 _ (by omega), ← Nat.add_assoc]; exact h.code hs hi
theorem nowIs.clear {a : Nat → Int} {S : Nat → List Op} {V : Nat → Nat} {s : Nat} (h : nowIs a S V) (hs : s < 4) : nowIs (iup a (21 * s) 0) (sset S s []) V := h.set hs ⟨by simp, fun _ h => by cases h⟩ (iup_s _ _ _) (fun i hi => by simp at hi) (fun x hx => iup_n (by omega))
theorem nowIs.value {a : Nat → Int} {S : Nat → List Op} {V : Nat → Nat} {i v : Nat} (h : nowIs a S V) (hi : i < 4) (hv : v < 1000) : nowIs (iup a (84 + i) ((v : Nat) : Int)) S (fun j => if j = i then v else V j) := by
  refine ⟨fun s hs => ?_, fun j hj => ?_⟩
  · obtain ⟨h1, h2, h3⟩ := h.1 s hs
    have := h1.1
    exact ⟨h1, by rw [iup_n (by omega)]; exact h2, fun k hk => by rw [iup_n (by omega)]; exact h3 k hk⟩
  · show iup a _ _ (84 + j) = (((if j = i then v else V j) : Nat) : Int) ∧ (if j = i then v else V j) < 1000
    by_cases e : j = i
    · subst e; rw [iup_s, if_pos rfl]; exact ⟨rfl, hv⟩
    · rw [iup_n (by omega), if_neg e]; exact h.2 j hj
theorem mRo.hist {A B : Nat → Nat → Int} {F G : Nat → Int} {g : SS} {x : Snap} {hs : List Snap} (h : mRo A F g) (hA : kA [3] A B) (hF : kF [5] F G) (hh : histIs (B 3) hs) (hd : G 5 = ((hs.length : Nat) : Int)) : mRo B G (x, hs, g.2.2) := by
  refine ⟨⟨hh, hd⟩, ?_⟩
  rw [hA 2 (by decide), hA 8 (by decide), hA 35 (by decide), hF 6 (by decide), hF 7 (by decide), hF 9 (by decide), hF 36 (by decide)]
  exact h.2
theorem mR.up4 {A : Nat → Nat → Int} {F : Nat → Int} {g : SS} {v : Int} (h : mR A F g) : mR A (iup F 4 v) g := h.keep (ks := []) (js := [4]) kA.rf kF.up1 (by decide) (by decide)
/-- setters -/
def gIn (g : SS) (l : List Nat) : SS := (g.1, g.2.1, g.2.2.1, l, g.2.2.2.2)
def gLn (g : SS) (l : List Nat) : SS := (g.1, g.2.1, g.2.2.1, g.2.2.2.1, l, g.2.2.2.2.2)
def gEr (g : SS) (e : Int) : SS := (g.1, g.2.1, g.2.2.1, g.2.2.2.1, g.2.2.2.2.1, e)
theorem getD_app_lt {l : List Nat} {c i : Nat} (h : i < l.length) : (l ++ [c]).getD i 0 = l.getD i 0 := by rw [List.getD_eq_getElem?_getD, List.getD_eq_getElem?_getD, List.getElem?_append_left h]
theorem getD_app_eq {l : List Nat} {c : Nat} : (l ++ [c]).getD l.length 0 = c := by rw [List.getD_eq_getElem?_getD, List.getElem?_append_right (Nat.le_refl _), Nat.sub_self]; rfl
theorem txIs.push {a : Nat → Int} {l : List Nat} {n c : Nat} (h : txIs a l n) (hl : l.length < n) (hc : c < 65536) : txIs (iup a l.length ((c : Nat) : Int)) (l ++ [c]) n := by
  refine ⟨by rw [List.length_append]; simp; omega, fun i hi => ?_⟩
  rw [List.length_append] at hi
  by_cases e : i < l.length
  · rw [getD_app_lt e, iup_n (by omega)]; exact h.2 i e
  · have e : i = l.length := by simp at hi; omega
    subst e
    rw [getD_app_eq, iup_s]; exact ⟨rfl, hc⟩
theorem mR.inp {A B : Nat → Nat → Int} {F G : Nat → Int} {g : SS} {l : List Nat} (h : mR A F g) (hA : kA [8] A B) (hF : kF [4, 9] F G) (h9 : G 9 = ((l.length : Nat) : Int)) (ht : txIs (B 8) l 60) : mR B G (gIn g l) := by
  refine ⟨by rw [hA 0 (by decide)]; exact h.1, ?_⟩
  unfold mRo gIn
  dsimp only
  rw [hA 2 (by decide), hA 3 (by decide), hA 35 (by decide), hF 5 (by decide), hF 6 (by decide), hF 7 (by decide), hF 36 (by decide)]
  exact ⟨h.2.1, h.2.2.1, ⟨h9, ht⟩, h.2.2.2.2⟩
theorem txIs.nil (a : Nat → Int) (n : Nat) : txIs a [] n := ⟨by simp, fun i hi => by simp at hi⟩
theorem mR.inp0 {A : Nat → Nat → Int} {F : Nat → Int} {g : SS} (h : mR A F g) : mR A (iup F 9 0) (gIn g []) := h.inp kA.rf (kF.rf.up (by decide)) (iup_s _ _ _) (txIs.nil _ _)
theorem mR.err {A : Nat → Nat → Int} {F : Nat → Int} {g : SS} {e : Int} (h : mR A F g) (h1 : -1 ≤ e) (h2 : e ≤ 60) : mR A (iup F 6 e) (gEr g e) := by
  refine ⟨h.1, ?_⟩
  have hF : kF [6] F (iup F 6 e) := kF.up1
  unfold mRo gEr
  dsimp only
  rw [hF 5 (by decide), hF 9 (by decide), hF 7 (by decide), hF 36 (by decide), iup_s]
  exact ⟨h.2.1, h.2.2.1, h.2.2.2.1, h.2.2.2.2.1, rfl, h1, h2⟩
