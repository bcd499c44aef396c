/-! G, 2 -/
theorem icmp_l {a b : Nat} (h : icmp ((a : Nat) : Int) ((b : Nat) : Int) < 0) : a < b := by
  unfold icmp at h
  split at h
  · omega
  · split at h <;> omega
theorem icmp_g {a b : Nat} (h : 0 ≤ icmp ((a : Nat) : Int) ((b : Nat) : Int)) : ¬ a < b := by
  unfold icmp at h
  split at h <;> omega
/-- where a node goes -/
def plT (l : List Nat) (t : Nat) : Nat := l.findIdx fun x => !decide (x < t)
def insT (l : List Nat) (t : Nat) : List Nat := if plT l t = l.length ∨ l.getD (plT l t) 0 ≠ t then insAt l (plT l t) t else l
/-- the nodes: in ascending order -/
def gNd (ts : List Nat) : List Nat := ts.foldl insT []
theorem plT_le {l : List Nat} {t : Nat} : plT l t ≤ l.length := List.findIdx_le_length
theorem plT_S {l : List Nat} {t p : Nat} (hp : p < l.length) (h0 : p ≤ plT l t) (h : l.getD p 0 < t) : p + 1 ≤ plT l t := by
  rcases Nat.lt_or_ge p (plT l t) with q | q
  · exact q
  · have e : p = plT l t := by omega
    exfalso
    have hl : plT l t < l.length := by omega
    have h1 : (!decide (l[plT l t] < t)) = true := List.findIdx_getElem (w := hl)
    rw [List.getD_eq_getElem?_getD, e, List.getElem?_eq_getElem hl] at h
    have h : l[plT l t] < t := h
    rw [decide_eq_true h] at h1
    cases h1
theorem plT_ge {l : List Nat} {t p : Nat} (hp : p < l.length) (h : ¬ l.getD p 0 < t) : plT l t ≤ p := by
  have hx : (fun x => !decide (x < t)) l[p] = true := by
    have e : l.getD p 0 = l[p] := by rw [List.getD_eq_getElem?_getD, List.getElem?_eq_getElem hp]; rfl
    rw [e] at h
    show (!decide (l[p] < t)) = true
    rw [decide_eq_false h]
    rfl
  rcases Nat.lt_or_ge p (plT l t) with q | q
  · have := List.not_of_lt_findIdx (p := fun x => !decide (x < t)) (xs := l) q
    have hx : (!decide (l[p] < t)) = true := hx
    rw [hx] at this
    cases this
  · exact q
theorem kIs_ins {E : jE} {l : List Nat} {p t : Nat} : insAt (kIs E l) p (kInt E (128 + t)) = kIs E (insAt l p t) := by
  unfold insAt kIs
  rw [List.map_append, List.map_cons, List.map_take, List.map_drop]
/-- ascending, among one to five -/
def nsOK (l : List Nat) : Prop := l.Pairwise (· < ·) ∧ ∀ t ∈ l, 1 ≤ t ∧ t ≤ 5
theorem nsOK.nd {l : List Nat} (h : nsOK l) : l.Nodup := h.1.imp (fun q => Nat.ne_of_lt q)
theorem nsOK.len {l : List Nat} (h : nsOK l) : l.length ≤ 5 := by
  have := List.Nodup.length_le_of_subset h.nd (l₂ := [1, 2, 3, 4, 5]) (fun t ht => by
    have := h.2 t ht
    simp
    omega)
  simpa using this
theorem insT_ok {l : List Nat} {t : Nat} (h : nsOK l) (ht : 1 ≤ t ∧ t ≤ 5) : nsOK (insT l t) := by
  unfold insT
  split
  · rename_i hc
    unfold insAt
    have hlt : ∀ x ∈ l.take (plT l t), x < t := by
      intro x hx
      obtain ⟨i, hi, rfl⟩ := List.getElem_of_mem hx
      rw [List.length_take] at hi
      rw [List.getElem_take]
      have := List.not_of_lt_findIdx (p := fun x => !decide (x < t)) (xs := l) (show i < _ from Nat.lt_of_lt_of_le hi (Nat.min_le_left _ _))
      simpa using this
    have hgt : ∀ x ∈ l.drop (plT l t), t < x := by
      intro x hx
      rcases Nat.lt_or_ge (plT l t) l.length with q | q
      · rcases hc with hc | hc
        · omega
        · have e : l.getD (plT l t) 0 = l[plT l t] := by rw [List.getD_eq_getElem?_getD, List.getElem?_eq_getElem q]; rfl
          have h1 : (!decide (l[plT l t] < t)) = true := List.findIdx_getElem (w := q)
          have h2 : ¬ l[plT l t] < t := by simpa using h1
          rw [e] at hc
          rw [List.drop_eq_getElem_cons q] at hx
          rcases List.mem_cons.mp hx with hx | hx
          · omega
          · have hp : (l.drop (plT l t)).Pairwise (· < ·) := List.Pairwise.sublist (List.drop_sublist _ _) h.1
            rw [List.drop_eq_getElem_cons q] at hp
            have := (List.pairwise_cons.mp hp).1 x hx
            omega
      · rw [List.drop_eq_nil_of_le q] at hx
        cases hx
    refine ⟨List.pairwise_append.mpr ⟨List.Pairwise.sublist (List.take_sublist _ _) h.1, List.pairwise_cons.mpr ⟨hgt, List.Pairwise.sublist (List.drop_sublist _ _) h.1⟩, fun x hx y hy => ?_⟩, fun x hx => ?_⟩
    · have h1 := hlt x hx
      rcases List.mem_cons.mp hy with rfl | hy
      · exact h1
      · have := hgt y hy
        omega
    · rcases List.mem_append.mp hx with hx | hx
      · exact h.2 x (List.mem_of_mem_take hx)
      · rcases List.mem_cons.mp hx with rfl | hx
        · exact ht
        · exact h.2 x (List.mem_of_mem_drop hx)
  · exact h
theorem gNd_ok {ts : List Nat} (h : ∀ t ∈ ts, 1 ≤ t ∧ t ≤ 5) : nsOK (gNd ts) := by
  unfold gNd
  have key : ∀ (l : List Nat), nsOK l → nsOK (ts.foldl insT l) := by
    induction ts with
    | nil => exact fun l h => h
    | cons t ts ih => exact fun l hl => ih (fun x hx => h x (List.mem_cons_of_mem _ hx)) _ (insT_ok hl (h t List.mem_cons_self))
  exact key [] ⟨List.Pairwise.nil, fun t ht => by cases ht⟩
theorem gNd_S {ts : List Nat} {k : Nat} (hk : k < ts.length) : gNd (ts.take (k + 1)) = insT (gNd (ts.take k)) (ts.getD k 0) := by
  have e : ts[k]? = some (ts.getD k 0) := by rw [List.getD_eq_getElem?_getD, List.getElem?_eq_getElem hk]; rfl
  rw [take_S e]
  unfold gNd
  rw [List.foldl_append]
  rfl
theorem insT_mem {l : List Nat} {t x : Nat} : x ∈ insT l t ↔ x = t ∨ x ∈ l := by
  unfold insT
  split
  · unfold insAt
    rw [List.mem_append, List.mem_cons]
    constructor
    · rintro (h | rfl | h)
      · exact Or.inr (List.mem_of_mem_take h)
      · exact Or.inl rfl
      · exact Or.inr (List.mem_of_mem_drop h)
    · rintro (rfl | h)
      · exact Or.inr (Or.inl rfl)
      · rw [← List.take_append_drop (plT l t) l] at h
        rcases List.mem_append.mp h with h | h
        · exact Or.inl h
        · exact Or.inr (Or.inr h)
  · rename_i hc
    refine ⟨Or.inr, fun h => ?_⟩
    rcases h with rfl | h
    · have hc1 : plT l x ≠ l.length := fun e => hc (Or.inl e)
      have hc2 : l.getD (plT l x) 0 = x := Classical.byContradiction fun e => hc (Or.inr e)
      have hl : plT l x < l.length := Nat.lt_of_le_of_ne plT_le hc1
      rw [← hc2, List.getD_eq_getElem?_getD, List.getElem?_eq_getElem hl]
      exact List.getElem_mem _
    · exact h
theorem gNd_mem {ts : List Nat} {x : Nat} : x ∈ gNd ts ↔ x ∈ ts := by
  unfold gNd
  have key : ∀ (l : List Nat), x ∈ ts.foldl insT l ↔ x ∈ l ∨ x ∈ ts := by
    induction ts with
    | nil => intro l; simp
    | cons t ts ih =>
      intro l
      rw [List.foldl_cons, ih, insT_mem, List.mem_cons]
      constructor
      · rintro ((h | h) | h)
        · exact Or.inr (Or.inl h)
        · exact Or.inl h
        · exact Or.inr (Or.inr h)
      · rintro (h | h | h)
        · exact Or.inl (Or.inr h)
        · exact Or.inl (Or.inl h)
        · exact Or.inr h
  rw [key]
  simp
set_option maxHeartbeats 1500000 in
/-- X7 init(Ljava/util/List;)V -/
theorem fc_X7_init {l : Launch} {E : jE} (hls : l.stackTraces = false) (hE : jSt E) (hN : jCn E) {z : jZ} (hzc : zLe (zS E) z) {a : Nat} {el : Nat} {ts : List Nat} {me : Int} (h : alZ E z el me (kIs E ts)) (hts : ∀ t ∈ ts, 1 ≤ t ∧ t ≤ 5) : fC l E yX7_init cX7_init 5 (none) 6 171 (ts.length + 3) (33 * ts.length + 12) [.ref a, .ref el] z [[(a, .inr (6, [.null, .null]))]] (fun rr z2 W2 => ∃ nl : Nat, ∃ ba : Nat, ∃ mq : Int, ∃ w1 : va_W, rr = none ∧ W2 = [[(a, .inr (6, [.ref nl, .ref ba]))], w1, [(ba, .inl (E.2.2 0, 5, .inl (fun j => jI ((fun j => (((fun _ => 0) j : Nat) : Int)) j))))]] ∧ z = z2 ∧ alW E nl mq (kIs E (gNd ts)) w1) := by
  refine f_start (own := "ScheduleAnalyzer$Graph") (vs := [some (.ref a), some (.ref el), none, none, none]) hls (by decide +kernel) rfl rfl rfl (Nat.le_of_ble_eq_true rfl) ?_
  intro K H0 hk he hl0 hI hA
  have hts8 : ∀ t ∈ ts, t < 128 := fun t ht => by have := hts t ht; omega
  have hkt : (kIs E ts).length = ts.length := kIs_len
  refine j_ald4 hk dX7_init_0 rfl rfl ?_
  refine j_objInit hk q948 q171 q172 ⟨by decide, by decide⟩ dX7_init_1 ?_
  refine j_ald4 hk dX7_init_4 rfl rfl ?_
  refine f_new (fs := [.int (jI 0), .null, .int (jI 0)]) hE hk in_J2 tyJ2 tyJ2_ok q949 q183 q120 (show vwCl[10]? = some (RJ2, TJ2, 3) from rfl) (fun j hj => match j, hj with | 0, _ => rfl | 1, _ => rfl | 2, _ => rfl | j + 3, h => absurd h (by omega)) ⟨by omega, by omega⟩ dX7_init_5 ?_
  intro ad1
  refine j_dup hk rfl dX7_init_8 ?_
  refine f_callI (Wc := [[(ad1, .inr (10, [.int (jI 0), .null, .int (jI 0)]))]]) (Wr := [[(a, .inr (6, [.null, .null]))]]) hk hl0 (fc_J2_init hls hE hN (z := z) hzc (a := ad1) ) (fun _ h => Or.inl h) 0 q186 q120 q950 q185 rfl (by decide +kernel) rfl (by decide) (by omega) rfl (Nat.le_of_ble_eq_true rfl) dX7_init_9 ?_
  refine Or.inl ⟨rfl, ?_⟩
  rintro _ _ _ ⟨w11, rfl, rfl, rfl, hp1_0⟩ -
  refine f_W (W2 := [w11, [(a, .inr (6, [.null, .null]))]]) rfl ?_
  refine f_put (fs := [.null, .null]) (ty := (.object "java/util/List")) (W2 := [w11, [(a, .inr (6, [.ref ad1, .null]))]]) hE hk in_X7 tyX7_ok nmX7 1 0 rfl rfl (show vwCl[6]? = some (RX7, TX7, 2) from rfl) 0 (by decide) q1193 (Or.inl rfl) (Or.inr ⟨rfl, hI, rfl⟩) (by decide +kernel) rfl rfl (show 0 < 2 by decide) rfl dX7_init_12 ?_
  refine j_ald4 hk dX7_init_15 rfl rfl ?_
  refine j_iconst (n := 5) hk dX7_init_16 ?_
  refine f_newI hE hk q211 (5) (by omega) (by omega) ⟨by omega, by omega⟩ dX7_init_17 ?_
  intro ar2
  refine f_W (W2 := [[(ar2, .inl (E.2.2 0, 5, .inl (fun j => jI ((fun _ => 0) j))))], w11, [(a, .inr (6, [.ref ad1, .null]))]]) rfl ?_
  refine f_put (fs := [.ref ad1, .null]) (ty := (.array .int)) (W2 := [[(ar2, .inl (E.2.2 0, 5, .inl (fun j => jI ((fun _ => 0) j))))], w11, [(a, .inr (6, [.ref ad1, .ref ar2]))]]) hE hk in_X7 tyX7_ok nmX7 2 0 rfl rfl (show vwCl[6]? = some (RX7, TX7, 2) from rfl) 1 (by decide) q1194 (Or.inl rfl) (Or.inr ⟨rfl, hI, rfl⟩) (by decide +kernel) rfl rfl (show 1 < 2 by decide) rfl dX7_init_19 ?_
  refine j_ald4 hk dX7_init_22 rfl rfl ?_
  obtain ⟨qo2, capo2, fo2, hc1o2, hc2o2, hl1o2, hl2o2, hfo2⟩ := h.cell hN hzc
  refine f_callF (Wc := []) (Wr := [[(ar2, .inl (E.2.2 0, 5, .inl (fun j => jI ((fun _ => 0) j))))], w11, [(a, .inr (6, [.ref ad1, .ref ar2]))]]) hE hk hl0 (.inl hc1o2) (show vwCl[10]? = some (RJ2, TJ2, 3) from rfl) (fc_J2_iterator hls hE hN (z := z) hzc (a := el) (mc := me) (li := kIs E ts) (h)) (fun _ h => Or.inl h) 0 (lw_Fg q952 q223 q225 q120 q227) q221 q220 q226 q224 q222 (by decide +kernel) rfl (by decide) (by omega) rfl (Nat.le_of_ble_eq_true rfl) dX7_init_23 ?_
  refine Or.inl ⟨rfl, ?_⟩
  rintro _ _ _ ⟨it3, w13, rfl, rfl, rfl, hp3_0⟩ -
  refine f_W (W2 := [w13, [(ar2, .inl (E.2.2 0, 5, .inl (fun j => jI ((fun _ => 0) j))))], w11, [(a, .inr (6, [.ref ad1, .ref ar2]))]]) rfl ?_
  refine j_ast2 hk dX7_init_28 rfl ?_
  have loop29 : ∀ (fuel29 : Nat) (k : Nat) (mv : Int) (l : List Nat) (w1 : va_W) (wi : va_W), ts.length - k < fuel29 → k ≤ ts.length → alW E ad1 mv (kIs E l) w1 → itW it3 k me el wi → l = gNd (ts.take k) → jW K (fO K E z z [[(a, .inr (6, [.ref ad1, .ref ar2]))], w1, wi, [(ar2, .inl (E.2.2 0, 5, .inl (fun j => jI ((fun _ => 0) j))))]]) (3 + k) (12 + 33 * k) 29 [some (.ref a), some (.ref el), some (.ref it3), none, none] [] := by
    intro fuel29
    induction fuel29 with
    | zero => intro k mv l w1 wi hm; exact absurd hm (Nat.not_lt_zero _)
    | succ fuel29 ih29 =>
      intro k mv l w1 wi hm29 hkn hw1 hwi hl
      have hlo : nsOK l := by rw [hl]; exact gNd_ok (fun t ht => hts t (List.mem_of_mem_take ht))
      have hl5 := hlo.len
      have hl8 : ∀ t ∈ l, t < 128 := fun t ht => by have := hlo.2 t ht; omega
      have hkl : (kIs E l).length = l.length := kIs_len
      refine j_ald4 hk dX7_init_29 rfl rfl ?_
      refine f_sel (W2 := [wi, [(a, .inr (6, [.ref ad1, .ref ar2]))], w1, [(ar2, .inl (E.2.2 0, 5, .inl (fun j => jI ((fun _ => 0) j))))]]) [2, 0, 1, 3] rfl rfl ?_
      obtain ⟨rm4, hrm4⟩ := itW.mem hwi
      refine f_callF (Wc := [wi]) (Wr := [[(a, .inr (6, [.ref ad1, .ref ar2]))], w1, [(ar2, .inl (E.2.2 0, 5, .inl (fun j => jI ((fun _ => 0) j))))]]) hE hk hl0 (fIn.of 0 rfl hrm4) (show vwCl[11]? = some (RJ3, TJ3, 4) from rfl) (fc_J3_hasNext hls hE hN (z := z) hzc (it := it3) (k := k) (mc := me) (a := el) (wi := wi) (li := kIs E ts) (h) (hwi) (by first | assumption | omega)) (fun _ h => Or.inl h) 0 (lw_Fg q954 q291 q293 q121 q295) q289 q288 q294 q292 q290 (by decide +kernel) rfl (by decide) (by omega) rfl (Nat.le_of_ble_eq_true rfl) dX7_init_30 ?_
      refine Or.inl ⟨rfl, ?_⟩
      rintro _ _ _ ⟨rfl, rfl, rfl⟩ -
      refine f_W (W2 := [wi, [(a, .inr (6, [.ref ad1, .ref ar2]))], w1, [(ar2, .inl (E.2.2 0, 5, .inl (fun j => jI ((fun _ => 0) j))))]]) rfl ?_
      refine j_ifeqB hk dX7_init_35 rfl (tgt := 146) (fun h35 => ?_) (fun h35 => ?_)
      · have hk9 := of_decide_eq_false h35
        refine f_sel (W2 := [[(a, .inr (6, [.ref ad1, .ref ar2]))], w1, [(ar2, .inl (E.2.2 0, 5, .inl (fun j => jI ((fun _ => 0) j))))]]) [1, 2, 3] rfl rfl ?_
        refine f_vret hk he hA dX7_init_146 (by omega) (by omega) ?_
        exact ⟨_, _, _, _, rfl, rfl, rfl, by rw [hl, List.take_of_length_le (by omega)] at hw1; exact hw1⟩
      · refine j_ald4 hk dX7_init_38 rfl rfl ?_
        have hk9 := of_decide_eq_true h35
        have hko := kIs_at (E := E) (l := ts) (show k < ts.length by omega)
        have htk : ts.getD k 0 < 128 := hts8 _ (by rw [List.getD_eq_getElem?_getD, List.getElem?_eq_getElem (show k < ts.length by omega)]; exact List.getElem_mem _)
        have hki := hN.int hzc htk
        obtain ⟨rm6, hrm6⟩ := itW.mem hwi
        refine f_callF (Wc := [wi]) (Wr := [[(a, .inr (6, [.ref ad1, .ref ar2]))], w1, [(ar2, .inl (E.2.2 0, 5, .inl (fun j => jI ((fun _ => 0) j))))]]) hE hk hl0 (fIn.of 0 rfl hrm6) (show vwCl[11]? = some (RJ3, TJ3, 4) from rfl) (fc_J3_next hls hE hN (z := z) hzc (it := it3) (k := k) (mc := me) (a := el) (wi := wi) (li := kIs E ts) (b := kInt E (128 + ts.getD k 0)) (h) (hwi) (hko)) (fun _ h => Or.inl h) 0 (lw_Fg q956 q306 q308 q121 q310) q305 q304 q309 q307 q290 (by decide +kernel) rfl (by decide) (by omega) rfl (Nat.le_of_ble_eq_true rfl) dX7_init_39 ?_
        refine Or.inl ⟨rfl, ?_⟩
        rintro _ _ _ ⟨w17, rfl, rfl, rfl, hp7_0⟩ -
        refine f_W (W2 := [w17, [(a, .inr (6, [.ref ad1, .ref ar2]))], w1, [(ar2, .inl (E.2.2 0, 5, .inl (fun j => jI ((fun _ => 0) j))))]]) rfl ?_
        refine f_castY hE hk (.inl hki) (show vwCl[17]? = some (RJ22, TJ22, 1) from rfl) q957 q966 dX7_init_44 ?_
        refine j_ast3 hk dX7_init_47 rfl ?_
        refine j_iconst (n := 0) hk dX7_init_48 ?_
        refine j_ist4 hk dX7_init_49 rfl ?_
        have loop51 : ∀ (fuel51 : Nat) (p : Nat), l.length - p < fuel51 → p ≤ l.length → p ≤ plT l (ts.getD k 0) → jW K (fO K E z z [w17, [(a, .inr (6, [.ref ad1, .ref ar2]))], w1, [(ar2, .inl (E.2.2 0, 5, .inl (fun j => jI ((fun _ => 0) j))))]]) (3 + k) (12 + 33 * k) 51 [some (.ref a), some (.ref el), some (.ref it3), some (.ref (kInt E (128 + ts.getD k 0))), some (.int (jI ((p : Nat) : Int)))] [] := by
          intro fuel51
          induction fuel51 with
          | zero => intro p hm; exact absurd hm (Nat.not_lt_zero _)
          | succ fuel51 ih51 =>
            intro p hm51 hpn hpp
            refine j_ild hk dX7_init_51 rfl ?_
            refine j_ald4 hk dX7_init_53 rfl rfl ?_
            refine f_get hE hk in_X7 (fIn.at 1 0 rfl rfl) (show vwCl[6]? = some (RX7, TX7, 2) from rfl) 0 (by decide) q1193 (Or.inl rfl) rfl dX7_init_54 ?_
            obtain ⟨zL8, hlL8, hmL8, hbL8⟩ := f_lend z [w1] [w17, [(a, .inr (6, [.ref ad1, .ref ar2]))], w1, [(ar2, .inl (E.2.2 0, 5, .inl (fun j => jI ((fun _ => 0) j))))]] (by simp)
            obtain ⟨rm9, hrm9⟩ := alW.mem hw1
            refine f_callF (Wc := []) (Wr := [w17, [(a, .inr (6, [.ref ad1, .ref ar2]))], w1, [(ar2, .inl (E.2.2 0, 5, .inl (fun j => jI ((fun _ => 0) j))))]]) hE hk hl0 (fIn.of 2 rfl hrm9) (show vwCl[10]? = some (RJ2, TJ2, 3) from rfl) (fc_J2_size hls hE hN (z := zL8) (hzc.tr hlL8) (a := ad1) (mc := mv) (li := (kIs E l)) ((hw1.z (fun x hx => hmL8 _ (List.mem_cons_self) _ hx)))) (hbL8) 0 (lw_Fg q959 q896 q898 q120 q900) q895 q894 q899 q897 q222 (by decide +kernel) rfl (by decide) (by omega) rfl (Nat.le_of_ble_eq_true rfl) dX7_init_57 ?_
            refine Or.inr ?_
            rintro _ _ _ ⟨rfl, rfl, -⟩ -
            refine f_W (W2 := [w17, [(a, .inr (6, [.ref ad1, .ref ar2]))], w1, [(ar2, .inl (E.2.2 0, 5, .inl (fun j => jI ((fun _ => 0) j))))]]) rfl ?_
            refine j_icmp_ge hk (by omega) (by omega) dX7_init_62 rfl (tgt := 94) (fun h62 => ?_) (fun h62 => ?_)
            · refine j_ild hk dX7_init_94 rfl ?_
              refine j_ald4 hk dX7_init_96 rfl rfl ?_
              refine f_get hE hk in_X7 (fIn.at 1 0 rfl rfl) (show vwCl[6]? = some (RX7, TX7, 2) from rfl) 0 (by decide) q1193 (Or.inl rfl) rfl dX7_init_97 ?_
              obtain ⟨zL11, hlL11, hmL11, hbL11⟩ := f_lend z [w1] [w17, [(a, .inr (6, [.ref ad1, .ref ar2]))], w1, [(ar2, .inl (E.2.2 0, 5, .inl (fun j => jI ((fun _ => 0) j))))]] (by simp)
              obtain ⟨rm12, hrm12⟩ := alW.mem hw1
              refine f_callF (Wc := []) (Wr := [w17, [(a, .inr (6, [.ref ad1, .ref ar2]))], w1, [(ar2, .inl (E.2.2 0, 5, .inl (fun j => jI ((fun _ => 0) j))))]]) hE hk hl0 (fIn.of 2 rfl hrm12) (show vwCl[10]? = some (RJ2, TJ2, 3) from rfl) (fc_J2_size hls hE hN (z := zL11) (hzc.tr hlL11) (a := ad1) (mc := mv) (li := (kIs E l)) ((hw1.z (fun x hx => hmL11 _ (List.mem_cons_self) _ hx)))) (hbL11) 0 (lw_Fg q959 q896 q898 q120 q900) q895 q894 q899 q897 q222 (by decide +kernel) rfl (by decide) (by omega) rfl (Nat.le_of_ble_eq_true rfl) dX7_init_100 ?_
              refine Or.inr ?_
              rintro _ _ _ ⟨rfl, rfl, -⟩ -
              refine f_W (W2 := [w17, [(a, .inr (6, [.ref ad1, .ref ar2]))], w1, [(ar2, .inl (E.2.2 0, 5, .inl (fun j => jI ((fun _ => 0) j))))]]) rfl ?_
              refine j_icmp_eq hk (by omega) (by omega) dX7_init_105 rfl (tgt := 131) (fun h105 => ?_) (fun h105 => ?_)
              · refine j_ald4 hk dX7_init_131 rfl rfl ?_
                refine f_get hE hk in_X7 (fIn.at 1 0 rfl rfl) (show vwCl[6]? = some (RX7, TX7, 2) from rfl) 0 (by decide) q1193 (Or.inl rfl) rfl dX7_init_132 ?_
                refine j_ild hk dX7_init_135 rfl ?_
                refine j_ald4 hk dX7_init_137 rfl rfl ?_
                have hpq := plT_le (l := l) (t := ts.getD k 0)
                have hpe : p = plT l (ts.getD k 0) := Nat.le_antisymm hpp (by omega)
                refine f_sel (W2 := [w1, w17, [(a, .inr (6, [.ref ad1, .ref ar2]))], [(ar2, .inl (E.2.2 0, 5, .inl (fun j => jI ((fun _ => 0) j))))]]) [2, 0, 1, 3] rfl rfl ?_
                obtain ⟨rm14, hrm14⟩ := alW.mem hw1
                refine f_callF (Wc := [w1]) (Wr := [w17, [(a, .inr (6, [.ref ad1, .ref ar2]))], [(ar2, .inl (E.2.2 0, 5, .inl (fun j => jI ((fun _ => 0) j))))]]) hE hk hl0 (fIn.of 0 rfl hrm14) (show vwCl[10]? = some (RJ2, TJ2, 3) from rfl) (fc_J2_add_3 hls hE hN (z := z) hzc (a := ad1) (i := p) (e := (kInt E (128 + ts.getD k 0))) (mc := mv) (li := (kIs E l)) (w0 := w1) (hw1) (kIs_el hN hzc hl8) (okO.int hki) (by omega) (by omega)) (fun _ h => Or.inl h) 2 (lw_Fg q1159 q1162 q1164 q120 q1166) q1161 q1160 q1165 q1163 q222 (by decide +kernel) rfl (by decide) (by omega) rfl (Nat.le_of_ble_eq_true rfl) dX7_init_138 ?_
                refine Or.inl ⟨rfl, ?_⟩
                rintro _ _ _ ⟨w115, rfl, rfl, rfl, hp15_0⟩ -
                refine f_W (W2 := [w115, w17, [(a, .inr (6, [.ref ad1, .ref ar2]))], [(ar2, .inl (E.2.2 0, 5, .inl (fun j => jI ((fun _ => 0) j))))]]) rfl ?_
                have hins : kIs E (insT l (ts.getD k 0)) = insAt (kIs E l) p (kInt E (128 + ts.getD k 0)) := by
                  rw [kIs_ins, hpe]
                  unfold insT
                  rw [if_pos (Or.inl (by omega))]
                refine j_goto (tgt := 29) hk dX7_init_143 rfl ?_
                refine j_forget (i := 3) ?_
                refine j_forget (i := 4) ?_
                refine f_sel (W2 := [[(a, .inr (6, [.ref ad1, .ref ar2]))], w115, w17, [(ar2, .inl (E.2.2 0, 5, .inl (fun j => jI ((fun _ => 0) j))))]]) [2, 0, 1, 3] rfl rfl ?_
                refine j_wide (k2 := 3 + (k + 1)) (n2 := 12 + 33 * (k + 1)) (by omega) (by omega) ?_
                exact ih29 (k + 1) (mv + 1) (insT l (ts.getD k 0)) w115 w17 (by omega) (by omega) (by rw [hins]; exact hp15_0) (hp7_0) (by rw [hl, gNd_S (by omega)])
              · refine j_ald4 hk dX7_init_108 rfl rfl ?_
                refine f_get hE hk in_X7 (fIn.at 1 0 rfl rfl) (show vwCl[6]? = some (RX7, TX7, 2) from rfl) 0 (by decide) q1193 (Or.inl rfl) rfl dX7_init_109 ?_
                refine j_ild hk dX7_init_112 rfl ?_
                have hkoN := kIs_at (E := E) (l := l) (show p < l.length by omega)
                have htkN : l.getD p 0 < 128 := hl8 _ (by rw [List.getD_eq_getElem?_getD, List.getElem?_eq_getElem (show p < l.length by omega)]; exact List.getElem_mem _)
                have hkiN := hN.int hzc htkN
                obtain ⟨zL16, hlL16, hmL16, hbL16⟩ := f_lend z [w1] [w17, [(a, .inr (6, [.ref ad1, .ref ar2]))], w1, [(ar2, .inl (E.2.2 0, 5, .inl (fun j => jI ((fun _ => 0) j))))]] (by simp)
                obtain ⟨rm17, hrm17⟩ := alW.mem hw1
                refine f_callF (Wc := []) (Wr := [w17, [(a, .inr (6, [.ref ad1, .ref ar2]))], w1, [(ar2, .inl (E.2.2 0, 5, .inl (fun j => jI ((fun _ => 0) j))))]]) hE hk hl0 (fIn.of 2 rfl hrm17) (show vwCl[10]? = some (RJ2, TJ2, 3) from rfl) (fc_J2_get hls hE hN (z := zL16) (hzc.tr hlL16) (a := ad1) (i := p) (mc := mv) (li := (kIs E l)) (b := (kInt E (128 + l.getD p 0))) ((hw1.z (fun x hx => hmL16 _ (List.mem_cons_self) _ hx))) (hkoN)) (hbL16) 1 (lw_Fg q961 q393 q395 q120 q397) q392 q391 q396 q394 q222 (by decide +kernel) rfl (by decide) (by omega) rfl (Nat.le_of_ble_eq_true rfl) dX7_init_114 ?_
                refine Or.inr ?_
                rintro _ _ _ ⟨rfl, rfl, -⟩ -
                refine f_W (W2 := [w17, [(a, .inr (6, [.ref ad1, .ref ar2]))], w1, [(ar2, .inl (E.2.2 0, 5, .inl (fun j => jI ((fun _ => 0) j))))]]) rfl ?_
                refine f_castY hE hk (.inl hkiN) (show vwCl[17]? = some (RJ22, TJ22, 1) from rfl) q957 q966 dX7_init_119 ?_
                refine j_ald4 hk dX7_init_122 rfl rfl ?_
                refine f_callF (Wc := []) (Wr := [w17, [(a, .inr (6, [.ref ad1, .ref ar2]))], w1, [(ar2, .inl (E.2.2 0, 5, .inl (fun j => jI ((fun _ => 0) j))))]]) hE hk hl0 (.inl hkiN) (show vwCl[17]? = some (RJ22, TJ22, 1) from rfl) (fc_J22_compareTo hls hE hN (z := z) hzc (a := (kInt E (128 + l.getD p 0))) (b := (kInt E (128 + ts.getD k 0))) (va := ((l.getD p 0 : Nat) : Int)) (vb := ((ts.getD k 0 : Nat) : Int)) (hkiN) (hki) (⟨⟨by omega, by omega⟩, by omega, by omega⟩)) (fun _ h => Or.inl h) 1 (lw_Fg q963 q967 q969 q141 q971) q965 q964 q970 q968 q966 (by decide +kernel) rfl (by decide) (by omega) rfl (Nat.le_of_ble_eq_true rfl) dX7_init_123 ?_
                refine Or.inl ⟨rfl, ?_⟩
                rintro _ _ _ ⟨rfl, rfl, rfl⟩ -
                refine f_W (W2 := [w17, [(a, .inr (6, [.ref ad1, .ref ar2]))], w1, [(ar2, .inl (E.2.2 0, 5, .inl (fun j => jI ((fun _ => 0) j))))]]) rfl ?_
                have hcr := icmp_r ((l.getD p 0 : Nat) : Int) (((ts.getD k 0) : Nat) : Int)
                refine j_if_eq hk (by omega) dX7_init_128 rfl (tgt := 143) (fun h128 => ?_) (fun h128 => ?_)
                · have hins : insT l (ts.getD k 0) = l := by
                    have e9 := icmp_e h128
                    have hpe : p = plT l (ts.getD k 0) := Nat.le_antisymm hpp (plT_ge (by omega) (by omega))
                    unfold insT
                    rw [if_neg]
                    rintro (q | q)
                    · omega
                    · rw [← hpe] at q
                      exact q e9
                  refine j_goto (tgt := 29) hk dX7_init_143 rfl ?_
                  refine j_forget (i := 3) ?_
                  refine j_forget (i := 4) ?_
                  refine f_sel (W2 := [[(a, .inr (6, [.ref ad1, .ref ar2]))], w1, w17, [(ar2, .inl (E.2.2 0, 5, .inl (fun j => jI ((fun _ => 0) j))))]]) [1, 2, 0, 3] rfl rfl ?_
                  refine j_wide (k2 := 3 + (k + 1)) (n2 := 12 + 33 * (k + 1)) (by omega) (by omega) ?_
                  exact ih29 (k + 1) mv l w1 w17 (by omega) (by omega) (hw1) (hp7_0) (by rw [gNd_S (by omega), ← hl]; exact hins.symm)
                · refine j_ald4 hk dX7_init_131 rfl rfl ?_
                  refine f_get hE hk in_X7 (fIn.at 1 0 rfl rfl) (show vwCl[6]? = some (RX7, TX7, 2) from rfl) 0 (by decide) q1193 (Or.inl rfl) rfl dX7_init_132 ?_
                  refine j_ild hk dX7_init_135 rfl ?_
                  refine j_ald4 hk dX7_init_137 rfl rfl ?_
                  have hpq := plT_le (l := l) (t := ts.getD k 0)
                  have hpe : p = plT l (ts.getD k 0) := by first | omega | exact Nat.le_antisymm hpp (plT_ge (by omega) (by have := icmp_g h85; omega))
                  refine f_sel (W2 := [w1, w17, [(a, .inr (6, [.ref ad1, .ref ar2]))], [(ar2, .inl (E.2.2 0, 5, .inl (fun j => jI ((fun _ => 0) j))))]]) [2, 0, 1, 3] rfl rfl ?_
                  obtain ⟨rm20, hrm20⟩ := alW.mem hw1
                  refine f_callF (Wc := [w1]) (Wr := [w17, [(a, .inr (6, [.ref ad1, .ref ar2]))], [(ar2, .inl (E.2.2 0, 5, .inl (fun j => jI ((fun _ => 0) j))))]]) hE hk hl0 (fIn.of 0 rfl hrm20) (show vwCl[10]? = some (RJ2, TJ2, 3) from rfl) (fc_J2_add_3 hls hE hN (z := z) hzc (a := ad1) (i := p) (e := (kInt E (128 + ts.getD k 0))) (mc := mv) (li := (kIs E l)) (w0 := w1) (hw1) (kIs_el hN hzc hl8) (okO.int hki) (by omega) (by omega)) (fun _ h => Or.inl h) 2 (lw_Fg q1159 q1162 q1164 q120 q1166) q1161 q1160 q1165 q1163 q222 (by decide +kernel) rfl (by decide) (by omega) rfl (Nat.le_of_ble_eq_true rfl) dX7_init_138 ?_
                  refine Or.inl ⟨rfl, ?_⟩
                  rintro _ _ _ ⟨w121, rfl, rfl, rfl, hp21_0⟩ -
                  refine f_W (W2 := [w121, w17, [(a, .inr (6, [.ref ad1, .ref ar2]))], [(ar2, .inl (E.2.2 0, 5, .inl (fun j => jI ((fun _ => 0) j))))]]) rfl ?_
                  have hins : kIs E (insT l (ts.getD k 0)) = insAt (kIs E l) p (kInt E (128 + ts.getD k 0)) := by
                    rw [kIs_ins, hpe]
                    unfold insT
                    rw [if_pos (Or.inr (by rw [← hpe]; intro e9; rw [e9] at h128; exact h128 (icmp_0 _)))]
                  refine j_goto (tgt := 29) hk dX7_init_143 rfl ?_
                  refine j_forget (i := 3) ?_
                  refine j_forget (i := 4) ?_
                  refine f_sel (W2 := [[(a, .inr (6, [.ref ad1, .ref ar2]))], w121, w17, [(ar2, .inl (E.2.2 0, 5, .inl (fun j => jI ((fun _ => 0) j))))]]) [2, 0, 1, 3] rfl rfl ?_
                  refine j_wide (k2 := 3 + (k + 1)) (n2 := 12 + 33 * (k + 1)) (by omega) (by omega) ?_
                  exact ih29 (k + 1) (mv + 1) (insT l (ts.getD k 0)) w121 w17 (by omega) (by omega) (by rw [hins]; exact hp21_0) (hp7_0) (by rw [hl, gNd_S (by omega)])
            · refine j_ald4 hk dX7_init_65 rfl rfl ?_
              refine f_get hE hk in_X7 (fIn.at 1 0 rfl rfl) (show vwCl[6]? = some (RX7, TX7, 2) from rfl) 0 (by decide) q1193 (Or.inl rfl) rfl dX7_init_66 ?_
              refine j_ild hk dX7_init_69 rfl ?_
              have hkoN := kIs_at (E := E) (l := l) (show p < l.length by omega)
              have htkN : l.getD p 0 < 128 := hl8 _ (by rw [List.getD_eq_getElem?_getD, List.getElem?_eq_getElem (show p < l.length by omega)]; exact List.getElem_mem _)
              have hkiN := hN.int hzc htkN
              obtain ⟨zL22, hlL22, hmL22, hbL22⟩ := f_lend z [w1] [w17, [(a, .inr (6, [.ref ad1, .ref ar2]))], w1, [(ar2, .inl (E.2.2 0, 5, .inl (fun j => jI ((fun _ => 0) j))))]] (by simp)
              obtain ⟨rm23, hrm23⟩ := alW.mem hw1
              refine f_callF (Wc := []) (Wr := [w17, [(a, .inr (6, [.ref ad1, .ref ar2]))], w1, [(ar2, .inl (E.2.2 0, 5, .inl (fun j => jI ((fun _ => 0) j))))]]) hE hk hl0 (fIn.of 2 rfl hrm23) (show vwCl[10]? = some (RJ2, TJ2, 3) from rfl) (fc_J2_get hls hE hN (z := zL22) (hzc.tr hlL22) (a := ad1) (i := p) (mc := mv) (li := (kIs E l)) (b := (kInt E (128 + l.getD p 0))) ((hw1.z (fun x hx => hmL22 _ (List.mem_cons_self) _ hx))) (hkoN)) (hbL22) 1 (lw_Fg q961 q393 q395 q120 q397) q392 q391 q396 q394 q222 (by decide +kernel) rfl (by decide) (by omega) rfl (Nat.le_of_ble_eq_true rfl) dX7_init_71 ?_
              refine Or.inr ?_
              rintro _ _ _ ⟨rfl, rfl, -⟩ -
              refine f_W (W2 := [w17, [(a, .inr (6, [.ref ad1, .ref ar2]))], w1, [(ar2, .inl (E.2.2 0, 5, .inl (fun j => jI ((fun _ => 0) j))))]]) rfl ?_
              refine f_castY hE hk (.inl hkiN) (show vwCl[17]? = some (RJ22, TJ22, 1) from rfl) q957 q966 dX7_init_76 ?_
              refine j_ald4 hk dX7_init_79 rfl rfl ?_
              refine f_callF (Wc := []) (Wr := [w17, [(a, .inr (6, [.ref ad1, .ref ar2]))], w1, [(ar2, .inl (E.2.2 0, 5, .inl (fun j => jI ((fun _ => 0) j))))]]) hE hk hl0 (.inl hkiN) (show vwCl[17]? = some (RJ22, TJ22, 1) from rfl) (fc_J22_compareTo hls hE hN (z := z) hzc (a := (kInt E (128 + l.getD p 0))) (b := (kInt E (128 + ts.getD k 0))) (va := ((l.getD p 0 : Nat) : Int)) (vb := ((ts.getD k 0 : Nat) : Int)) (hkiN) (hki) (⟨⟨by omega, by omega⟩, by omega, by omega⟩)) (fun _ h => Or.inl h) 1 (lw_Fg q963 q967 q969 q141 q971) q965 q964 q970 q968 q966 (by decide +kernel) rfl (by decide) (by omega) rfl (Nat.le_of_ble_eq_true rfl) dX7_init_80 ?_
              refine Or.inl ⟨rfl, ?_⟩
              rintro _ _ _ ⟨rfl, rfl, rfl⟩ -
              refine f_W (W2 := [w17, [(a, .inr (6, [.ref ad1, .ref ar2]))], w1, [(ar2, .inl (E.2.2 0, 5, .inl (fun j => jI ((fun _ => 0) j))))]]) rfl ?_
              have hcr := icmp_r ((l.getD p 0 : Nat) : Int) (((ts.getD k 0) : Nat) : Int)
              refine j_if_ge hk (by omega) dX7_init_85 rfl (tgt := 94) (fun h85 => ?_) (fun h85 => ?_)
              · refine j_ild hk dX7_init_94 rfl ?_
                refine j_ald4 hk dX7_init_96 rfl rfl ?_
                refine f_get hE hk in_X7 (fIn.at 1 0 rfl rfl) (show vwCl[6]? = some (RX7, TX7, 2) from rfl) 0 (by decide) q1193 (Or.inl rfl) rfl dX7_init_97 ?_
                obtain ⟨zL26, hlL26, hmL26, hbL26⟩ := f_lend z [w1] [w17, [(a, .inr (6, [.ref ad1, .ref ar2]))], w1, [(ar2, .inl (E.2.2 0, 5, .inl (fun j => jI ((fun _ => 0) j))))]] (by simp)
                obtain ⟨rm27, hrm27⟩ := alW.mem hw1
                refine f_callF (Wc := []) (Wr := [w17, [(a, .inr (6, [.ref ad1, .ref ar2]))], w1, [(ar2, .inl (E.2.2 0, 5, .inl (fun j => jI ((fun _ => 0) j))))]]) hE hk hl0 (fIn.of 2 rfl hrm27) (show vwCl[10]? = some (RJ2, TJ2, 3) from rfl) (fc_J2_size hls hE hN (z := zL26) (hzc.tr hlL26) (a := ad1) (mc := mv) (li := (kIs E l)) ((hw1.z (fun x hx => hmL26 _ (List.mem_cons_self) _ hx)))) (hbL26) 0 (lw_Fg q959 q896 q898 q120 q900) q895 q894 q899 q897 q222 (by decide +kernel) rfl (by decide) (by omega) rfl (Nat.le_of_ble_eq_true rfl) dX7_init_100 ?_
                refine Or.inr ?_
                rintro _ _ _ ⟨rfl, rfl, -⟩ -
                refine f_W (W2 := [w17, [(a, .inr (6, [.ref ad1, .ref ar2]))], w1, [(ar2, .inl (E.2.2 0, 5, .inl (fun j => jI ((fun _ => 0) j))))]]) rfl ?_
                refine j_icmp_eq hk (by omega) (by omega) dX7_init_105 rfl (tgt := 131) (fun h105 => ?_) (fun h105 => ?_)
                · refine j_ald4 hk dX7_init_131 rfl rfl ?_
                  refine f_get hE hk in_X7 (fIn.at 1 0 rfl rfl) (show vwCl[6]? = some (RX7, TX7, 2) from rfl) 0 (by decide) q1193 (Or.inl rfl) rfl dX7_init_132 ?_
                  refine j_ild hk dX7_init_135 rfl ?_
                  refine j_ald4 hk dX7_init_137 rfl rfl ?_
                  have hpq := plT_le (l := l) (t := ts.getD k 0)
                  have hpe : p = plT l (ts.getD k 0) := Nat.le_antisymm hpp (by omega)
                  refine f_sel (W2 := [w1, w17, [(a, .inr (6, [.ref ad1, .ref ar2]))], [(ar2, .inl (E.2.2 0, 5, .inl (fun j => jI ((fun _ => 0) j))))]]) [2, 0, 1, 3] rfl rfl ?_
                  obtain ⟨rm29, hrm29⟩ := alW.mem hw1
                  refine f_callF (Wc := [w1]) (Wr := [w17, [(a, .inr (6, [.ref ad1, .ref ar2]))], [(ar2, .inl (E.2.2 0, 5, .inl (fun j => jI ((fun _ => 0) j))))]]) hE hk hl0 (fIn.of 0 rfl hrm29) (show vwCl[10]? = some (RJ2, TJ2, 3) from rfl) (fc_J2_add_3 hls hE hN (z := z) hzc (a := ad1) (i := p) (e := (kInt E (128 + ts.getD k 0))) (mc := mv) (li := (kIs E l)) (w0 := w1) (hw1) (kIs_el hN hzc hl8) (okO.int hki) (by omega) (by omega)) (fun _ h => Or.inl h) 2 (lw_Fg q1159 q1162 q1164 q120 q1166) q1161 q1160 q1165 q1163 q222 (by decide +kernel) rfl (by decide) (by omega) rfl (Nat.le_of_ble_eq_true rfl) dX7_init_138 ?_
                  refine Or.inl ⟨rfl, ?_⟩
                  rintro _ _ _ ⟨w130, rfl, rfl, rfl, hp30_0⟩ -
                  refine f_W (W2 := [w130, w17, [(a, .inr (6, [.ref ad1, .ref ar2]))], [(ar2, .inl (E.2.2 0, 5, .inl (fun j => jI ((fun _ => 0) j))))]]) rfl ?_
                  have hins : kIs E (insT l (ts.getD k 0)) = insAt (kIs E l) p (kInt E (128 + ts.getD k 0)) := by
                    rw [kIs_ins, hpe]
                    unfold insT
                    rw [if_pos (Or.inl (by omega))]
                  refine j_goto (tgt := 29) hk dX7_init_143 rfl ?_
                  refine j_forget (i := 3) ?_
                  refine j_forget (i := 4) ?_
                  refine f_sel (W2 := [[(a, .inr (6, [.ref ad1, .ref ar2]))], w130, w17, [(ar2, .inl (E.2.2 0, 5, .inl (fun j => jI ((fun _ => 0) j))))]]) [2, 0, 1, 3] rfl rfl ?_
                  refine j_wide (k2 := 3 + (k + 1)) (n2 := 12 + 33 * (k + 1)) (by omega) (by omega) ?_
                  exact ih29 (k + 1) (mv + 1) (insT l (ts.getD k 0)) w130 w17 (by omega) (by omega) (by rw [hins]; exact hp30_0) (hp7_0) (by rw [hl, gNd_S (by omega)])
                · refine j_ald4 hk dX7_init_108 rfl rfl ?_
                  refine f_get hE hk in_X7 (fIn.at 1 0 rfl rfl) (show vwCl[6]? = some (RX7, TX7, 2) from rfl) 0 (by decide) q1193 (Or.inl rfl) rfl dX7_init_109 ?_
                  refine j_ild hk dX7_init_112 rfl ?_
                  have hkoN := kIs_at (E := E) (l := l) (show p < l.length by omega)
                  have htkN : l.getD p 0 < 128 := hl8 _ (by rw [List.getD_eq_getElem?_getD, List.getElem?_eq_getElem (show p < l.length by omega)]; exact List.getElem_mem _)
                  have hkiN := hN.int hzc htkN
                  obtain ⟨zL31, hlL31, hmL31, hbL31⟩ := f_lend z [w1] [w17, [(a, .inr (6, [.ref ad1, .ref ar2]))], w1, [(ar2, .inl (E.2.2 0, 5, .inl (fun j => jI ((fun _ => 0) j))))]] (by simp)
                  obtain ⟨rm32, hrm32⟩ := alW.mem hw1
                  refine f_callF (Wc := []) (Wr := [w17, [(a, .inr (6, [.ref ad1, .ref ar2]))], w1, [(ar2, .inl (E.2.2 0, 5, .inl (fun j => jI ((fun _ => 0) j))))]]) hE hk hl0 (fIn.of 2 rfl hrm32) (show vwCl[10]? = some (RJ2, TJ2, 3) from rfl) (fc_J2_get hls hE hN (z := zL31) (hzc.tr hlL31) (a := ad1) (i := p) (mc := mv) (li := (kIs E l)) (b := (kInt E (128 + l.getD p 0))) ((hw1.z (fun x hx => hmL31 _ (List.mem_cons_self) _ hx))) (hkoN)) (hbL31) 1 (lw_Fg q961 q393 q395 q120 q397) q392 q391 q396 q394 q222 (by decide +kernel) rfl (by decide) (by omega) rfl (Nat.le_of_ble_eq_true rfl) dX7_init_114 ?_
                  refine Or.inr ?_
                  rintro _ _ _ ⟨rfl, rfl, -⟩ -
                  refine f_W (W2 := [w17, [(a, .inr (6, [.ref ad1, .ref ar2]))], w1, [(ar2, .inl (E.2.2 0, 5, .inl (fun j => jI ((fun _ => 0) j))))]]) rfl ?_
                  refine f_castY hE hk (.inl hkiN) (show vwCl[17]? = some (RJ22, TJ22, 1) from rfl) q957 q966 dX7_init_119 ?_
                  refine j_ald4 hk dX7_init_122 rfl rfl ?_
                  refine f_callF (Wc := []) (Wr := [w17, [(a, .inr (6, [.ref ad1, .ref ar2]))], w1, [(ar2, .inl (E.2.2 0, 5, .inl (fun j => jI ((fun _ => 0) j))))]]) hE hk hl0 (.inl hkiN) (show vwCl[17]? = some (RJ22, TJ22, 1) from rfl) (fc_J22_compareTo hls hE hN (z := z) hzc (a := (kInt E (128 + l.getD p 0))) (b := (kInt E (128 + ts.getD k 0))) (va := ((l.getD p 0 : Nat) : Int)) (vb := ((ts.getD k 0 : Nat) : Int)) (hkiN) (hki) (⟨⟨by omega, by omega⟩, by omega, by omega⟩)) (fun _ h => Or.inl h) 1 (lw_Fg q963 q967 q969 q141 q971) q965 q964 q970 q968 q966 (by decide +kernel) rfl (by decide) (by omega) rfl (Nat.le_of_ble_eq_true rfl) dX7_init_123 ?_
                  refine Or.inl ⟨rfl, ?_⟩
                  rintro _ _ _ ⟨rfl, rfl, rfl⟩ -
                  refine f_W (W2 := [w17, [(a, .inr (6, [.ref ad1, .ref ar2]))], w1, [(ar2, .inl (E.2.2 0, 5, .inl (fun j => jI ((fun _ => 0) j))))]]) rfl ?_
                  have hcr := icmp_r ((l.getD p 0 : Nat) : Int) (((ts.getD k 0) : Nat) : Int)
                  refine j_if_eq hk (by omega) dX7_init_128 rfl (tgt := 143) (fun h128 => ?_) (fun h128 => ?_)
                  · have hins : insT l (ts.getD k 0) = l := by
                      have e9 := icmp_e h128
                      have hpe : p = plT l (ts.getD k 0) := Nat.le_antisymm hpp (plT_ge (by omega) (by omega))
                      unfold insT
                      rw [if_neg]
                      rintro (q | q)
                      · omega
                      · rw [← hpe] at q
                        exact q e9
                    refine j_goto (tgt := 29) hk dX7_init_143 rfl ?_
                    refine j_forget (i := 3) ?_
                    refine j_forget (i := 4) ?_
                    refine f_sel (W2 := [[(a, .inr (6, [.ref ad1, .ref ar2]))], w1, w17, [(ar2, .inl (E.2.2 0, 5, .inl (fun j => jI ((fun _ => 0) j))))]]) [1, 2, 0, 3] rfl rfl ?_
                    refine j_wide (k2 := 3 + (k + 1)) (n2 := 12 + 33 * (k + 1)) (by omega) (by omega) ?_
                    exact ih29 (k + 1) mv l w1 w17 (by omega) (by omega) (hw1) (hp7_0) (by rw [gNd_S (by omega), ← hl]; exact hins.symm)
                  · refine j_ald4 hk dX7_init_131 rfl rfl ?_
                    refine f_get hE hk in_X7 (fIn.at 1 0 rfl rfl) (show vwCl[6]? = some (RX7, TX7, 2) from rfl) 0 (by decide) q1193 (Or.inl rfl) rfl dX7_init_132 ?_
                    refine j_ild hk dX7_init_135 rfl ?_
                    refine j_ald4 hk dX7_init_137 rfl rfl ?_
                    have hpq := plT_le (l := l) (t := ts.getD k 0)
                    have hpe : p = plT l (ts.getD k 0) := by first | omega | exact Nat.le_antisymm hpp (plT_ge (by omega) (by have := icmp_g h85; omega))
                    refine f_sel (W2 := [w1, w17, [(a, .inr (6, [.ref ad1, .ref ar2]))], [(ar2, .inl (E.2.2 0, 5, .inl (fun j => jI ((fun _ => 0) j))))]]) [2, 0, 1, 3] rfl rfl ?_
                    obtain ⟨rm35, hrm35⟩ := alW.mem hw1
                    refine f_callF (Wc := [w1]) (Wr := [w17, [(a, .inr (6, [.ref ad1, .ref ar2]))], [(ar2, .inl (E.2.2 0, 5, .inl (fun j => jI ((fun _ => 0) j))))]]) hE hk hl0 (fIn.of 0 rfl hrm35) (show vwCl[10]? = some (RJ2, TJ2, 3) from rfl) (fc_J2_add_3 hls hE hN (z := z) hzc (a := ad1) (i := p) (e := (kInt E (128 + ts.getD k 0))) (mc := mv) (li := (kIs E l)) (w0 := w1) (hw1) (kIs_el hN hzc hl8) (okO.int hki) (by omega) (by omega)) (fun _ h => Or.inl h) 2 (lw_Fg q1159 q1162 q1164 q120 q1166) q1161 q1160 q1165 q1163 q222 (by decide +kernel) rfl (by decide) (by omega) rfl (Nat.le_of_ble_eq_true rfl) dX7_init_138 ?_
                    refine Or.inl ⟨rfl, ?_⟩
                    rintro _ _ _ ⟨w136, rfl, rfl, rfl, hp36_0⟩ -
                    refine f_W (W2 := [w136, w17, [(a, .inr (6, [.ref ad1, .ref ar2]))], [(ar2, .inl (E.2.2 0, 5, .inl (fun j => jI ((fun _ => 0) j))))]]) rfl ?_
                    have hins : kIs E (insT l (ts.getD k 0)) = insAt (kIs E l) p (kInt E (128 + ts.getD k 0)) := by
                      rw [kIs_ins, hpe]
                      unfold insT
                      rw [if_pos (Or.inr (by rw [← hpe]; intro e9; rw [e9] at h128; exact h128 (icmp_0 _)))]
                    refine j_goto (tgt := 29) hk dX7_init_143 rfl ?_
                    refine j_forget (i := 3) ?_
                    refine j_forget (i := 4) ?_
                    refine f_sel (W2 := [[(a, .inr (6, [.ref ad1, .ref ar2]))], w136, w17, [(ar2, .inl (E.2.2 0, 5, .inl (fun j => jI ((fun _ => 0) j))))]]) [2, 0, 1, 3] rfl rfl ?_
                    refine j_wide (k2 := 3 + (k + 1)) (n2 := 12 + 33 * (k + 1)) (by omega) (by omega) ?_
                    exact ih29 (k + 1) (mv + 1) (insT l (ts.getD k 0)) w136 w17 (by omega) (by omega) (by rw [hins]; exact hp36_0) (hp7_0) (by rw [hl, gNd_S (by omega)])
              · refine j_iinc4 hk dX7_init_88 rfl ?_
                refine j_goto (tgt := 51) hk dX7_init_91 rfl ?_
                exact ih51 (p + 1) (by omega) (by omega) (plT_S (by omega) hpp (by have := icmp_l h85; omega))
        exact loop51 _ 0 (Nat.lt_succ_self _) (Nat.zero_le _) (Nat.zero_le _)
  refine f_sel (W2 := [[(a, .inr (6, [.ref ad1, .ref ar2]))], w11, w13, [(ar2, .inl (E.2.2 0, 5, .inl (fun j => jI ((fun _ => 0) j))))]]) [3, 2, 0, 1] rfl rfl ?_
  refine j_wide (k2 := 3 + 0) (n2 := 12 + 33 * 0) (by omega) (by omega) ?_
  exact loop29 _ 0 0 ([]) w11 w13 (Nat.lt_succ_self _) (Nat.zero_le _) (hp1_0) (hp3_0) (rfl)
