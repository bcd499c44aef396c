/-! S, 9 -/
theorem ntl_lt {z : jZ} {li : List Nat} {s : List Op} (h : opsZ z li s) : ∀ t ∈ ntl s, t < 128 := by
  intro t ht
  obtain ⟨o, ho, rfl⟩ := List.mem_map.mp ht
  have := h.ok o ho
  unfold opOK at this
  omega
theorem mem_tk {α : Type} {l : List α} {k : Nat} {p : α → Prop} (h : ∀ x ∈ l, p x) : ∀ x ∈ l.take k, p x := fun x hx => h x (List.mem_of_mem_take hx)
/-- operations by their places -/
def adL (li ix : List Nat) : List Nat := ix.map (fun i => li.getD i 0)
def opL (s : List Op) (ix : List Nat) : List Op := ix.map (opAt s)
theorem adL_at {li : List Nat} {i b : Nat} (h : li[i]? = some b) : li.getD i 0 = b := by rw [List.getD_eq_getElem?_getD, h]; rfl
theorem adL_ops {z : jZ} {li : List Nat} {s : List Op} (h : opsZ z li s) {ix : List Nat} (hx : ∀ i ∈ ix, i < s.length) : opsZ z (adL li ix) (opL s ix) := by
  induction ix with
  | nil => trivial
  | cons i ix ih =>
    obtain ⟨b, h1, h2, h3⟩ := h.at (hx i List.mem_cons_self)
    have e : li.getD i 0 = b := adL_at h1
    show z (li.getD i 0, _) ∧ _ ∧ _
    rw [e]
    exact ⟨h2, h3, ih (fun j hj => hx j (List.mem_cons_of_mem _ hj))⟩
theorem adL_nd {li ix : List Nat} (h : li.Nodup) (hn : ix.Nodup) (hx : ∀ i ∈ ix, i < li.length) : (adL li ix).Nodup := by
  induction ix with
  | nil => exact List.nodup_nil
  | cons i ix ih =>
    have hc := List.nodup_cons.mp hn
    refine List.nodup_cons.mpr ⟨fun hm => ?_, ih hc.2 (fun j hj => hx j (List.mem_cons_of_mem _ hj))⟩
    obtain ⟨j, hj, e⟩ := List.mem_map.mp hm
    have hi := hx i List.mem_cons_self
    have hj2 := hx j (List.mem_cons_of_mem _ hj)
    have e1 : li.getD i 0 = li[i] := adL_at (List.getElem?_eq_getElem hi)
    have e2 : li.getD j 0 = li[j] := adL_at (List.getElem?_eq_getElem hj2)
    have : j = i := (List.getElem_inj h).mp (by rw [← e1, ← e2]; exact e)
    subst this
    exact hc.1 hj
theorem opL_app {s : List Op} {a b : List Nat} : opL s (a ++ b) = opL s a ++ opL s b := List.map_append
theorem adL_app {li a b : List Nat} : adL li (a ++ b) = adL li a ++ adL li b := List.map_append
theorem opL_f {s : List Op} {t : Nat} : ∀ {k}, k ≤ s.length → opL s ((List.range k).filter (sqP s t)) = (s.take k).filter fun x => oT x == t := by
  intro k
  induction k with
  | zero => intro _; rfl
  | succ k ih =>
    intro h
    rw [sq_s, opL_app, ih (by omega), take_S (opAt_eq (by omega)), List.filter_append]
    congr 1
    by_cases e : oT (opAt s k) = t <;> simp [sqP, List.filter_cons, e, opL]
theorem opL_sq {s : List Op} {os : List Nat} : opL s (sqL s os) = arrL s os := by
  unfold sqL arrL
  induction os with
  | nil => rfl
  | cons t os ih => rw [List.flatMap_cons, List.flatMap_cons, opL_app, ih, opL_f (Nat.le_refl _), List.take_length]
/-- the places taken up so far -/
def ixJ (s : List Op) (os : List Nat) (k j : Nat) : List Nat := sqL s (os.take k) ++ (List.range j).filter (sqP s (os.getD k 0))
theorem ixJ_0 {s : List Op} {os : List Nat} {k : Nat} : ixJ s os k 0 = sqL s (os.take k) := by unfold ixJ; simp
theorem ixJ_end {s : List Op} {os : List Nat} {k : Nat} (hk : k < os.length) : ixJ s os k s.length = sqL s (os.take (k + 1)) := by
  have e : os[k]? = some (os.getD k 0) := by rw [List.getD_eq_getElem?_getD, List.getElem?_eq_getElem hk]; rfl
  rw [take_S e, sqL_push]
  rfl
theorem ixJ_sub {s : List Op} {os : List Nat} {k j : Nat} (hj : j ≤ s.length) : (ixJ s os k j).Sublist (ixJ s os k s.length) := by
  unfold ixJ
  refine (List.Sublist.refl _).append (List.Sublist.filter _ ?_)
  have : List.range j = (List.range s.length).take j := by rw [List.take_range]; congr 1; omega
  rw [this]
  exact List.take_sublist _ _
theorem ixJ_lt {s : List Op} {os : List Nat} {k j : Nat} (hj : j ≤ s.length) : ∀ i ∈ ixJ s os k j, i < s.length := by
  intro i hi
  rcases List.mem_append.mp hi with h | h
  · exact (sqL_mem.mp h).1
  · have := List.mem_range.mp (List.mem_filter.mp h).1
    omega
theorem ixJ_nd {s : List Op} {os : List Nat} {k j : Nat} (ho : os.Nodup) (hk : k < os.length) (hj : j ≤ s.length) : (ixJ s os k j).Nodup := by
  refine List.Nodup.sublist (ixJ_sub hj) ?_
  rw [ixJ_end hk]
  exact sqL_nd (List.Nodup.sublist (List.take_sublist _ _) ho)
theorem ixJ_len {s : List Op} {os : List Nat} {k j : Nat} (hl : s.length ≤ 20) (ho : os.Nodup) (hk : k < os.length) (hj : j < s.length) (e : oT (opAt s j) = os.getD k 0) : (ixJ s os k j).length < 20 := sq_lt hl ho hk hj e
theorem ixJ_le {s : List Op} {os : List Nat} {k j : Nat} (ho : os.Nodup) (hk : k < os.length) (hj : j ≤ s.length) : (ixJ s os k j).length ≤ s.length := by
  have := List.Nodup.length_le_of_subset (ixJ_nd ho hk hj) (l₂ := List.range s.length) (fun i hi => List.mem_range.mpr (ixJ_lt hj i hi))
  simpa using this
theorem sqL_le {s : List Op} {os : List Nat} (ho : os.Nodup) : (sqL s os).length ≤ s.length := by
  rw [sqL_len]
  exact arrL_len ho
theorem ixJ_S {s : List Op} {os : List Nat} {k j : Nat} : ixJ s os k (j + 1) = ixJ s os k j ++ (if sqP s (os.getD k 0) j then [j] else []) := by
  unfold ixJ
  rw [sq_s, List.append_assoc]
theorem adL_one {li : List Nat} {i b : Nat} (h : li[i]? = some b) : adL li [i] = [b] := by
  show [li.getD i 0] = [b]
  rw [adL_at h]
theorem adL_len {li ix : List Nat} : (adL li ix).length = ix.length := List.length_map _
set_option maxHeartbeats 1500000 in
/-- X3 transactions()Ljava/util/List; -/
theorem fc_X3_transactions {l : Launch} {E : jE} (hls : l.stackTraces = false) (hE : jSt E) (hN : jCn E) {z : jZ} (hzc : zLe (zS E) z) {a : Nat} {s : List Op} (h : schZ E z a s) : fC l E yX3_transactions cX3_transactions 4 (some (.object "java/util/List")) 7 191 (s.length + 2) (33 * s.length + 7) [.ref a] z [] (fun rr z2 W2 => ∃ q : Nat, ∃ mq : Int, ∃ w1 : va_W, rr = some (.ref q) ∧ W2 = [w1] ∧ z = z2 ∧ alW E q mq (kIs E (ntl s)) w1) := by
  refine f_start (own := "ScheduleAnalyzer$Schedule") (vs := [some (.ref a), none, none, none]) hls (by decide +kernel) rfl rfl rfl (Nat.le_of_ble_eq_true rfl) ?_
  intro K H0 hk he hl0 hI hA
  have hsl33 := h.len
  refine f_new (fs := [.int (jI 0), .null, .int (jI 0)]) hE hk in_J2 tyJ2 tyJ2_ok q216 q183 q120 (show vwCl[10]? = some (RJ2, TJ2, 3) from rfl) (fun j hj => match j, hj with | 0, _ => rfl | 1, _ => rfl | 2, _ => rfl | j + 3, h => absurd h (by omega)) ⟨by omega, by omega⟩ dX3_transactions_0 ?_
  intro ad1
  refine j_dup hk rfl dX3_transactions_3 ?_
  refine f_callI (Wc := [[(ad1, .inr (10, [.int (jI 0), .null, .int (jI 0)]))]]) (Wr := []) hk hl0 (fc_J2_init hls hE hN (z := z) hzc (a := ad1) ) (fun _ h => Or.inl h) 0 q186 q120 q217 q185 rfl (by decide +kernel) rfl (by decide) (by omega) rfl (Nat.le_of_ble_eq_true rfl) dX3_transactions_4 ?_
  refine Or.inl ⟨rfl, ?_⟩
  rintro _ _ _ ⟨w11, rfl, rfl, rfl, hp1_0⟩ -
  refine f_W (W2 := [w11]) rfl ?_
  refine j_ast1 hk dX3_transactions_7 rfl ?_
  refine j_ald4 hk dX3_transactions_8 rfl rfl ?_
  obtain ⟨lss2, mss2, lis2, hzs2, hals2, hops2, hnds2⟩ := id h
  have hll := (hops2).len
  refine f_get hE hk in_X3 (.inl hzs2) (show vwCl[2]? = some (RX3, TX3, 1) from rfl) 0 (by decide) q803 (Or.inl rfl) rfl dX3_transactions_9 ?_
  obtain ⟨qo3, capo3, fo3, hc1o3, hc2o3, hl1o3, hl2o3, hfo3⟩ := hals2.cell hN hzc
  refine f_callF (Wc := []) (Wr := [w11]) hE hk hl0 (.inl hc1o3) (show vwCl[10]? = some (RJ2, TJ2, 3) from rfl) (fc_J2_iterator hls hE hN (z := z) hzc (a := lss2) (mc := mss2) (li := lis2) (hals2)) (fun _ h => Or.inl h) 0 (lw_Fg q219 q223 q225 q120 q227) q221 q220 q226 q224 q222 (by decide +kernel) rfl (by decide) (by omega) rfl (Nat.le_of_ble_eq_true rfl) dX3_transactions_12 ?_
  refine Or.inl ⟨rfl, ?_⟩
  rintro _ _ _ ⟨it4, w14, rfl, rfl, rfl, hp4_0⟩ -
  refine f_W (W2 := [w14, w11]) rfl ?_
  refine j_ast2 hk dX3_transactions_17 rfl ?_
  have loop18 : ∀ (fuel18 : Nat) (k : Nat) (mv : Int) (l2 : List Nat) (w1 : va_W) (wik : va_W), lis2.length - k < fuel18 → k ≤ lis2.length → alW E ad1 mv l2 w1 → l2 = kIs E ((ntl s).take k) → itW it4 k mss2 lss2 wik → jW K (fO K E z z [w1, wik]) (k + 2) (33 * k + 7) 18 [some (.ref a), some (.ref ad1), some (.ref it4), none] [] := by
    intro fuel18
    induction fuel18 with
    | zero => intro k mv l2 w1 wik hm; exact absurd hm (Nat.not_lt_zero _)
    | succ fuel18 ih18 =>
      intro k mv l2 w1 wik hm18 hknk hw1 hl2 hwik
      refine j_ald4 hk dX3_transactions_18 rfl rfl ?_
      refine f_sel (W2 := [wik, w1]) [1, 0] rfl rfl ?_
      obtain ⟨rm5, hrm5⟩ := itW.mem hwik
      refine f_callF (Wc := [wik]) (Wr := [w1]) hE hk hl0 (fIn.of 0 rfl hrm5) (show vwCl[11]? = some (RJ3, TJ3, 4) from rfl) (fc_J3_hasNext hls hE hN (z := z) hzc (it := it4) (k := k) (mc := mss2) (a := lss2) (wi := wik) (li := lis2) (hals2) (hwik) (by first | assumption | omega)) (fun _ h => Or.inl h) 0 (lw_Fg q287 q291 q293 q121 q295) q289 q288 q294 q292 q290 (by decide +kernel) rfl (by decide) (by omega) rfl (Nat.le_of_ble_eq_true rfl) dX3_transactions_19 ?_
      refine Or.inl ⟨rfl, ?_⟩
      rintro _ _ _ ⟨rfl, rfl, rfl⟩ -
      refine f_W (W2 := [wik, w1]) rfl ?_
      refine j_ifeqB hk dX3_transactions_24 rfl (tgt := 54) (fun h24 => ?_) (fun h24 => ?_)
      · have hk9 := of_decide_eq_false h24
        refine j_ald4 hk dX3_transactions_54 rfl rfl ?_
        refine f_sel (W2 := [w1]) [1] rfl rfl ?_
        refine f_aret hk he hA (Or.inl ⟨_, rfl⟩) (Or.inr ⟨_, rfl⟩) dX3_transactions_55 (by omega) (by omega) ?_
        exact ⟨_, _, _, rfl, rfl, rfl, by rw [hl2, List.take_of_length_le (by unfold ntl; rw [List.length_map]; omega)] at hw1; exact hw1⟩
      · have hk9 := of_decide_eq_true h24
        obtain ⟨b, hb, hob, hok⟩ := hops2.at (i := k) (by omega)
        obtain ⟨o1, o2, o3, o4, o5⟩ := id hok
        have lk := letK_c hok
        refine j_ald4 hk dX3_transactions_27 rfl rfl ?_
        obtain ⟨rm7, hrm7⟩ := itW.mem hwik
        refine f_callF (Wc := [wik]) (Wr := [w1]) hE hk hl0 (fIn.of 0 rfl hrm7) (show vwCl[11]? = some (RJ3, TJ3, 4) from rfl) (fc_J3_next hls hE hN (z := z) hzc (it := it4) (k := k) (mc := mss2) (a := lss2) (wi := wik) (li := lis2) (b := b) (hals2) (hwik) (hb)) (fun _ h => Or.inl h) 0 (lw_Fg q303 q306 q308 q121 q310) q305 q304 q309 q307 q290 (by decide +kernel) rfl (by decide) (by omega) rfl (Nat.le_of_ble_eq_true rfl) dX3_transactions_28 ?_
        refine Or.inl ⟨rfl, ?_⟩
        rintro _ _ _ ⟨w18, rfl, rfl, rfl, hp8_0⟩ -
        refine f_W (W2 := [w18, w1]) rfl ?_
        refine f_castS hE hk (.inl hob) (show vwCl[5]? = some (RX6, TX6, 3) from rfl) q712 dX3_transactions_33 ?_
        refine j_ast3 hk dX3_transactions_36 rfl ?_
        refine j_ald4 hk dX3_transactions_37 rfl rfl ?_
        refine j_ald4 hk dX3_transactions_38 rfl rfl ?_
        refine f_getN hE hk in_X6 (.inl hob) (show vwCl[5]? = some (RX6, TX6, 3) from rfl) 1 (by decide) q1667 rfl rfl dX3_transactions_39 ?_
        refine j_top (z2 := ((oT (opAt s (k)) : Nat) : Int)) (rfl) ?_
        refine f_callS (Wc := []) (Wr := [w18, w1]) hk hl0 (fc_J22_valueOf hls hE hN (z := z) hzc (n := oT (opAt s (k))) (by omega)) (fun _ h => Or.inl h) 1 (lw_S q925 q926 q141 q927) (by decide +kernel) rfl (by decide) (by omega) rfl (Nat.le_of_ble_eq_true rfl) dX3_transactions_42 ?_
        refine Or.inl ⟨rfl, ?_⟩
        rintro _ _ _ ⟨rfl, rfl, rfl⟩ -
        refine f_W (W2 := [w18, w1]) rfl ?_
        have hl2l : l2.length ≤ k := by rw [hl2]; unfold kIs ntl; rw [List.length_map, List.length_take]; omega
        refine f_sel (W2 := [w1, w18]) [1, 0] rfl rfl ?_
        obtain ⟨rm10, hrm10⟩ := alW.mem hw1
        refine f_callF (Wc := [w1]) (Wr := [w18]) hE hk hl0 (fIn.of 0 rfl hrm10) (show vwCl[10]? = some (RJ2, TJ2, 3) from rfl) (fc_J2_add hls hE hN (z := z) hzc (a := ad1) (e := kInt E (128 + (oT (opAt s (k))))) (mc := mv) (li := l2) (w0 := w1) (hw1) (by rw [hl2]; exact kIs_el hN hzc (mem_tk (ntl_lt (hops2)))) (okO.int (hN.int hzc (by omega))) (by omega)) (fun _ h => Or.inl h) 1 (lw_Fg q714 q717 q719 q120 q721) q716 q715 q720 q718 q222 (by decide +kernel) rfl (by decide) (by omega) rfl (Nat.le_of_ble_eq_true rfl) dX3_transactions_45 ?_
        refine Or.inl ⟨rfl, ?_⟩
        rintro _ _ _ ⟨w111, rfl, rfl, rfl, hp11_0⟩ -
        refine f_W (W2 := [w111, w18]) rfl ?_
        refine j_pop hk rfl dX3_transactions_50 ?_
        refine j_goto (tgt := 18) hk dX3_transactions_51 rfl ?_
        refine j_forget (i := 3) ?_
        refine j_wide (k2 := (k + 1) + 2) (n2 := 33 * (k + 1) + 7) (by omega) (by omega) ?_
        exact ih18 (k + 1) (mv + 1) (l2 ++ [kInt E (128 + oT (opAt s (k)))]) w111 w18 (by omega) (by omega) (hp11_0) (by rw [hl2, ntl_take (by omega), kIs_app]; rfl) (hp8_0)
  refine f_sel (W2 := [w11, w14]) [1, 0] rfl rfl ?_
  refine j_wide (k2 := 0 + 2) (n2 := 33 * 0 + 7) (by omega) (by omega) ?_
  exact loop18 _ 0 0 ([]) w11 w14 (Nat.lt_succ_self _) (Nat.zero_le _) (hp1_0) (rfl) (hp4_0)
set_option maxHeartbeats 1500000 in
/-- X3 arranged(Ljava/util/List;)LScheduleAnalyzer$Schedule; -/
theorem fc_X3_arranged {l : Launch} {E : jE} (hls : l.stackTraces = false) (hE : jSt E) (hN : jCn E) {z : jZ} (hzc : zLe (zS E) z) {a : Nat} {ol : Nat} {s : List Op} {os : List Nat} {mo : Int} (h : schZ E z a s) (ho : alZ E z ol mo (kIs E os)) (hos : ∀ t ∈ os, t < 128) (hnd : os.Nodup) (hl20 : s.length ≤ 20) : fC l E yX3_arranged cX3_arranged 7 (some (.object "ScheduleAnalyzer$Schedule")) 8 214 (os.length + 2 * s.length + 6) (4 * os.length + 66 * s.length + 20) [.ref a, .ref ol] z [] (fun rr z2 W2 => ∃ r : Nat, rr = some (.ref r) ∧ W2 = [] ∧ schZ E z2 r (arrL s os)) := by
  refine f_start (own := "ScheduleAnalyzer$Schedule") (vs := [some (.ref a), some (.ref ol), none, none, none, none, none]) hls (by decide +kernel) rfl rfl rfl (Nat.le_of_ble_eq_true rfl) ?_
  intro K H0 hk he hl0 hI hA
  have hsl33 := h.len
  have hkl : (kIs E os).length = os.length := by unfold kIs; rw [List.length_map]
  refine f_new (fs := [.int (jI 0), .null, .int (jI 0)]) hE hk in_J2 tyJ2 tyJ2_ok q216 q183 q120 (show vwCl[10]? = some (RJ2, TJ2, 3) from rfl) (fun j hj => match j, hj with | 0, _ => rfl | 1, _ => rfl | 2, _ => rfl | j + 3, h => absurd h (by omega)) ⟨by omega, by omega⟩ dX3_arranged_0 ?_
  intro ad1
  refine j_dup hk rfl dX3_arranged_3 ?_
  refine f_callI (Wc := [[(ad1, .inr (10, [.int (jI 0), .null, .int (jI 0)]))]]) (Wr := []) hk hl0 (fc_J2_init hls hE hN (z := z) hzc (a := ad1) ) (fun _ h => Or.inl h) 0 q186 q120 q217 q185 rfl (by decide +kernel) rfl (by decide) (by omega) rfl (Nat.le_of_ble_eq_true rfl) dX3_arranged_4 ?_
  refine Or.inl ⟨rfl, ?_⟩
  rintro _ _ _ ⟨w11, rfl, rfl, rfl, hp1_0⟩ -
  refine f_W (W2 := [w11]) rfl ?_
  refine j_ast2 hk dX3_arranged_7 rfl ?_
  refine j_ald4 hk dX3_arranged_8 rfl rfl ?_
  obtain ⟨lss2, mss2, lis2, hzs2, hals2, hops2, hnds2⟩ := id h
  have hll := (hops2).len
  obtain ⟨qo3, capo3, fo3, hc1o3, hc2o3, hl1o3, hl2o3, hfo3⟩ := ho.cell hN hzc
  refine f_callF (Wc := []) (Wr := [w11]) hE hk hl0 (.inl hc1o3) (show vwCl[10]? = some (RJ2, TJ2, 3) from rfl) (fc_J2_iterator hls hE hN (z := z) hzc (a := ol) (mc := mo) (li := kIs E os) (ho)) (fun _ h => Or.inl h) 0 (lw_Fg q219 q223 q225 q120 q227) q221 q220 q226 q224 q222 (by decide +kernel) rfl (by decide) (by omega) rfl (Nat.le_of_ble_eq_true rfl) dX3_arranged_9 ?_
  refine Or.inl ⟨rfl, ?_⟩
  rintro _ _ _ ⟨it4, w14, rfl, rfl, rfl, hp4_0⟩ -
  refine f_W (W2 := [w14, w11]) rfl ?_
  refine j_ast3 hk dX3_arranged_14 rfl ?_
  have loop15 : ∀ (fuel15 : Nat) (k : Nat) (mv : Int) (l2 : List Nat) (w1 : va_W) (wi : va_W), os.length - k < fuel15 → k ≤ os.length → alW E ad1 mv l2 w1 → l2 = adL lis2 (sqL s (os.take k)) → itW it4 k mo ol wi → jW K (fO K E z z [w1, wi]) (2 + k + l2.length) (7 + 4 * k + 33 * l2.length) 15 [some (.ref a), some (.ref ol), some (.ref ad1), some (.ref it4), none, none, none] [] := by
    intro fuel15
    induction fuel15 with
    | zero => intro k mv l2 w1 wi hm; exact absurd hm (Nat.not_lt_zero _)
    | succ fuel15 ih15 =>
      intro k mv l2 w1 wi hm15 hkn hw1 hl2 hwi
      have hl2len : l2.length ≤ s.length := by rw [hl2, adL_len]; exact sqL_le (List.Nodup.sublist (List.take_sublist _ _) hnd)
      refine j_ald4 hk dX3_arranged_15 rfl rfl ?_
      refine f_sel (W2 := [wi, w1]) [1, 0] rfl rfl ?_
      obtain ⟨rm5, hrm5⟩ := itW.mem hwi
      refine f_callF (Wc := [wi]) (Wr := [w1]) hE hk hl0 (fIn.of 0 rfl hrm5) (show vwCl[11]? = some (RJ3, TJ3, 4) from rfl) (fc_J3_hasNext hls hE hN (z := z) hzc (it := it4) (k := k) (mc := mo) (a := ol) (wi := wi) (li := kIs E os) (ho) (hwi) (by first | assumption | omega)) (fun _ h => Or.inl h) 0 (lw_Fg q287 q291 q293 q121 q295) q289 q288 q294 q292 q290 (by decide +kernel) rfl (by decide) (by omega) rfl (Nat.le_of_ble_eq_true rfl) dX3_arranged_16 ?_
      refine Or.inl ⟨rfl, ?_⟩
      rintro _ _ _ ⟨rfl, rfl, rfl⟩ -
      refine f_W (W2 := [wi, w1]) rfl ?_
      refine j_ifeqB hk dX3_arranged_21 rfl (tgt := 96) (fun h21 => ?_) (fun h21 => ?_)
      · have hk9 := of_decide_eq_false h21
        refine f_new (fs := [.null]) hE hk in_X3 tyX3 tyX3_ok q917 q181 q117 (show vwCl[2]? = some (RX3, TX3, 1) from rfl) (fun j hj => match j, hj with | 0, _ => rfl | j + 1, h => absurd h (by omega)) ⟨by omega, by omega⟩ dX3_arranged_96 ?_
        intro ad2
        refine j_dup hk rfl dX3_arranged_99 ?_
        refine j_ald4 hk dX3_arranged_100 rfl rfl ?_
        rw [List.take_of_length_le (show os.length ≤ k by omega)] at hl2
        have hsq := sqL_le (s := s) hnd
        have hll2 : l2.length = (sqL s os).length := by rw [hl2, adL_len]
        have hs2 := adL_ops (hops2) (ix := sqL s os) (fun i hi => (sqL_mem.mp hi).1)
        rw [← hl2, opL_sq] at hs2
        obtain ⟨zL7, hlL7, hmL7, hbL7⟩ := f_lend z [w1] [wi, w1] (by simp)
        refine f_callI (Wc := [[(ad2, .inr (2, [.null]))]]) (Wr := [wi, w1]) hk hl0 (fc_X3_init hls hE hN (z := zL7) (hzc.tr hlL7) (a := ad2) (ls := ad1) (mc := mv) (li := l2) (s := (arrL s os)) (hw1.z (fun x hx => hmL7 _ (List.mem_cons_self) _ hx)) (hs2.up hlL7)) (hbL7) 1 q214 q117 q918 q213 rfl (by decide +kernel) rfl (by decide) (by omega) rfl (Nat.le_of_ble_eq_true rfl) dX3_arranged_101 ?_
        refine Or.inr ?_
        rintro _ _ _ ⟨q8, mq8, w18, rfl, rfl, hp8_0⟩ -
        refine f_W (W2 := [[(ad2, .inr (2, [.ref q8]))], w18, wi, w1]) rfl ?_
        refine f_freeze hk ?_
        intro z1 zl1 hm1
        have hzc := hzc.tr zl1
        have h := h.up zl1
        have ho := ho.up zl1
        have hzs2 := zl1 _ hzs2
        have hals2 := hals2.up zl1
        have hops2 := hops2.up zl1
        have hc1o3 := zl1 _ hc1o3
        have hc2o3 := zl1 _ hc2o3
        have hs2 := hs2.up zl1
        have hzF := hm1 _ (List.mem_cons_self)
        refine f_freeze hk ?_
        intro z2 zl2 hm2
        have hzc := hzc.tr zl2
        have h := h.up zl2
        have ho := ho.up zl2
        have hzs2 := zl2 _ hzs2
        have hals2 := hals2.up zl2
        have hops2 := hops2.up zl2
        have hc1o3 := zl2 _ hc1o3
        have hc2o3 := zl2 _ hc2o3
        have hs2 := hs2.up zl2
        have hzF := zl2 _ hzF
        have halF := alW.z hp8_0 hm2
        refine f_sel (W2 := []) [] rfl rfl ?_
        refine f_aret hk he hA (Or.inl ⟨_, rfl⟩) (Or.inr ⟨_, rfl⟩) dX3_arranged_104 (by omega) (by omega) ?_
        exact ⟨ad2, rfl, rfl, _, _, _, hzF, halF, hs2, (by rw [hl2]; exact adL_nd hnds2 (sqL_nd hnd) (fun i hi => by have := (sqL_mem.mp hi).1; omega))⟩
      · refine j_ald4 hk dX3_arranged_24 rfl rfl ?_
        have hk9 := of_decide_eq_true h21
        have hko := kIs_at (E := E) (show k < os.length by omega)
        have htk : os.getD k 0 < 128 := hos _ (by rw [List.getD_eq_getElem?_getD, List.getElem?_eq_getElem (show k < os.length by omega)]; exact List.getElem_mem _)
        have hki1 := hN.int hzc htk
        obtain ⟨rm9, hrm9⟩ := itW.mem hwi
        refine f_callF (Wc := [wi]) (Wr := [w1]) hE hk hl0 (fIn.of 0 rfl hrm9) (show vwCl[11]? = some (RJ3, TJ3, 4) from rfl) (fc_J3_next hls hE hN (z := z) hzc (it := it4) (k := k) (mc := mo) (a := ol) (wi := wi) (li := kIs E os) (b := kInt E (128 + os.getD k 0)) (ho) (hwi) (hko)) (fun _ h => Or.inl h) 0 (lw_Fg q303 q306 q308 q121 q310) q305 q304 q309 q307 q290 (by decide +kernel) rfl (by decide) (by omega) rfl (Nat.le_of_ble_eq_true rfl) dX3_arranged_25 ?_
        refine Or.inl ⟨rfl, ?_⟩
        rintro _ _ _ ⟨w110, rfl, rfl, rfl, hp10_0⟩ -
        refine f_W (W2 := [w110, w1]) rfl ?_
        refine f_castS hE hk (.inl hki1) (show vwCl[17]? = some (RJ22, TJ22, 1) from rfl) q1943 dX3_arranged_30 ?_
        refine f_callV (Wc := []) (Wr := [w110, w1]) hE hk hl0 (.inl hki1) (show vwCl[17]? = some (RJ22, TJ22, 1) from rfl) (fc_J22_intValue hls hE hN (z := z) hzc (a := (kInt E (128 + os.getD k 0))) (va := ((os.getD k 0 : Nat) : Int)) (hki1)) (fun _ h => Or.inl h) 0 (lw_V q1944 q1432 q1433 q141 q1434) (by decide +kernel) rfl (by decide) (by omega) rfl (Nat.le_of_ble_eq_true rfl) dX3_arranged_33 ?_
        refine Or.inl ⟨rfl, ?_⟩
        rintro _ _ _ ⟨rfl, rfl, rfl⟩ -
        refine f_W (W2 := [w110, w1]) rfl ?_
        refine j_ist4 hk dX3_arranged_36 rfl ?_
        refine j_loc (i := 4) (z2 := ((os.getD k 0 : Nat) : Int)) rfl (rfl) ?_
        refine j_ald4 hk dX3_arranged_38 rfl rfl ?_
        refine f_get hE hk in_X3 (.inl hzs2) (show vwCl[2]? = some (RX3, TX3, 1) from rfl) 0 (by decide) q803 (Or.inl rfl) rfl dX3_arranged_39 ?_
        obtain ⟨qo12, capo12, fo12, hc1o12, hc2o12, hl1o12, hl2o12, hfo12⟩ := hals2.cell hN hzc
        refine f_callF (Wc := []) (Wr := [w110, w1]) hE hk hl0 (.inl hc1o12) (show vwCl[10]? = some (RJ2, TJ2, 3) from rfl) (fc_J2_iterator hls hE hN (z := z) hzc (a := lss2) (mc := mss2) (li := lis2) (hals2)) (fun _ h => Or.inl h) 0 (lw_Fg q219 q223 q225 q120 q227) q221 q220 q226 q224 q222 (by decide +kernel) rfl (by decide) (by omega) rfl (Nat.le_of_ble_eq_true rfl) dX3_arranged_42 ?_
        refine Or.inl ⟨rfl, ?_⟩
        rintro _ _ _ ⟨it13, w113, rfl, rfl, rfl, hp13_0⟩ -
        refine f_W (W2 := [w113, w110, w1]) rfl ?_
        refine j_ast5 hk dX3_arranged_47 rfl ?_
        have loop49 : ∀ (fuel49 : Nat) (j : Nat) (mv1 : Int) (l3 : List Nat) (w3 : va_W) (wj : va_W), lis2.length - j < fuel49 → j ≤ lis2.length → alW E ad1 mv1 l3 w3 → l3 = adL lis2 (ixJ s os k j) → itW it13 j mss2 lss2 wj → jW K (fO K E z z [w3, wj, w110]) (3 + k + l3.length) (11 + 4 * k + 33 * l3.length) 49 [some (.ref a), some (.ref ol), some (.ref ad1), some (.ref it4), some (.int (jI ((os.getD k 0 : Nat) : Int))), some (.ref it13), none] [] := by
          intro fuel49
          induction fuel49 with
          | zero => intro j mv1 l3 w3 wj hm; exact absurd hm (Nat.not_lt_zero _)
          | succ fuel49 ih49 =>
            intro j mv1 l3 w3 wj hm49 hjn hw3 hl3 hwj
            have hl3len : l3.length ≤ s.length := by rw [hl3, adL_len]; exact ixJ_le hnd (by omega) (by omega)
            refine j_ald hk dX3_arranged_49 rfl ?_
            refine f_sel (W2 := [wj, w3, w110]) [1, 0, 2] rfl rfl ?_
            obtain ⟨rm14, hrm14⟩ := itW.mem hwj
            refine f_callF (Wc := [wj]) (Wr := [w3, w110]) hE hk hl0 (fIn.of 0 rfl hrm14) (show vwCl[11]? = some (RJ3, TJ3, 4) from rfl) (fc_J3_hasNext hls hE hN (z := z) hzc (it := it13) (k := j) (mc := mss2) (a := lss2) (wi := wj) (li := lis2) (hals2) (hwj) (by first | assumption | omega)) (fun _ h => Or.inl h) 0 (lw_Fg q287 q291 q293 q121 q295) q289 q288 q294 q292 q290 (by decide +kernel) rfl (by decide) (by omega) rfl (Nat.le_of_ble_eq_true rfl) dX3_arranged_51 ?_
            refine Or.inl ⟨rfl, ?_⟩
            rintro _ _ _ ⟨rfl, rfl, rfl⟩ -
            refine f_W (W2 := [wj, w3, w110]) rfl ?_
            refine j_ifeqB hk dX3_arranged_56 rfl (tgt := 93) (fun h56 => ?_) (fun h56 => ?_)
            · have hj9 := of_decide_eq_false h56
              refine j_goto (tgt := 15) hk dX3_arranged_93 rfl ?_
              refine j_forget (i := 4) ?_
              refine j_forget (i := 5) ?_
              refine f_sel (W2 := [w3, w110]) [1, 2] rfl rfl ?_
              refine j_wide (k2 := 2 + (k + 1) + l3.length) (n2 := 7 + 4 * (k + 1) + 33 * l3.length) (by first | omega | (simp; done) | (simp; omega)) (by first | omega | (simp; done) | (simp; omega)) ?_
              exact ih15 (k + 1) mv1 l3 w3 w110 (by omega) (by omega) (hw3) (by rw [hl3, show j = s.length by omega, ixJ_end (by omega)]) (hp10_0)
            · refine j_ald hk dX3_arranged_59 rfl ?_
              have hj9 := of_decide_eq_true h56
              obtain ⟨b, hb, hob, hok⟩ := hops2.at (i := j) (by omega)
              obtain ⟨o1, o2, o3, o4, o5⟩ := id hok
              have lk := letK_c hok
              obtain ⟨rm16, hrm16⟩ := itW.mem hwj
              refine f_callF (Wc := [wj]) (Wr := [w3, w110]) hE hk hl0 (fIn.of 0 rfl hrm16) (show vwCl[11]? = some (RJ3, TJ3, 4) from rfl) (fc_J3_next hls hE hN (z := z) hzc (it := it13) (k := j) (mc := mss2) (a := lss2) (wi := wj) (li := lis2) (b := b) (hals2) (hwj) (hb)) (fun _ h => Or.inl h) 0 (lw_Fg q303 q306 q308 q121 q310) q305 q304 q309 q307 q290 (by decide +kernel) rfl (by decide) (by omega) rfl (Nat.le_of_ble_eq_true rfl) dX3_arranged_61 ?_
              refine Or.inl ⟨rfl, ?_⟩
              rintro _ _ _ ⟨w117, rfl, rfl, rfl, hp17_0⟩ -
              refine f_W (W2 := [w117, w3, w110]) rfl ?_
              refine f_castS hE hk (.inl hob) (show vwCl[5]? = some (RX6, TX6, 3) from rfl) q712 dX3_arranged_66 ?_
              refine j_ast6 hk dX3_arranged_69 rfl ?_
              refine j_ald hk dX3_arranged_71 rfl ?_
              refine f_getN hE hk in_X6 (.inl hob) (show vwCl[5]? = some (RX6, TX6, 3) from rfl) 1 (by decide) q1667 rfl rfl dX3_arranged_73 ?_
              refine j_ild hk dX3_arranged_76 rfl ?_
              refine j_icmp_ne hk (by omega) (by omega) dX3_arranged_78 rfl (tgt := 90) (fun h78 => ?_) (fun h78 => ?_)
              · refine j_goto (tgt := 49) hk dX3_arranged_90 rfl ?_
                refine j_forget (i := 6) ?_
                refine f_sel (W2 := [w3, w117, w110]) [1, 0, 2] rfl rfl ?_
                exact ih49 (j + 1) mv1 l3 w3 w117 (by omega) (by omega) (hw3) (by rw [hl3, ixJ_S, if_neg (by unfold sqP; rw [decide_eq_false (show ¬ oT (opAt s j) = os.getD k 0 by omega)]; decide), List.append_nil]) (hp17_0)
              · refine j_ald4 hk dX3_arranged_81 rfl rfl ?_
                refine j_ald hk dX3_arranged_82 rfl ?_
                have hix := ixJ_len hl20 hnd (show k < os.length by omega) (show j < s.length by omega) (show oT (opAt s j) = os.getD k 0 by omega)
                have hixl : l3.length = (ixJ s os k j).length := by rw [hl3, adL_len]
                refine f_sel (W2 := [w3, w117, w110]) [1, 0, 2] rfl rfl ?_
                obtain ⟨rm18, hrm18⟩ := alW.mem hw3
                refine f_callF (Wc := [w3]) (Wr := [w117, w110]) hE hk hl0 (fIn.of 0 rfl hrm18) (show vwCl[10]? = some (RJ2, TJ2, 3) from rfl) (fc_J2_add hls hE hN (z := z) hzc (a := ad1) (e := b) (mc := mv1) (li := l3) (w0 := w3) (hw3) (by rw [hl3]; exact (adL_ops (hops2) (ixJ_lt (by omega))).el) (okO.op hob) (by omega)) (fun _ h => Or.inl h) 1 (lw_Fg q714 q717 q719 q120 q721) q716 q715 q720 q718 q222 (by decide +kernel) rfl (by decide) (by omega) rfl (Nat.le_of_ble_eq_true rfl) dX3_arranged_84 ?_
                refine Or.inl ⟨rfl, ?_⟩
                rintro _ _ _ ⟨w119, rfl, rfl, rfl, hp19_0⟩ -
                refine f_W (W2 := [w119, w117, w110]) rfl ?_
                refine j_pop hk rfl dX3_arranged_89 ?_
                refine j_goto (tgt := 49) hk dX3_arranged_90 rfl ?_
                refine j_forget (i := 6) ?_
                have hla : (l3 ++ [b]).length = l3.length + 1 := by simp
                refine j_wide (k2 := 3 + k + (l3 ++ [b]).length) (n2 := 11 + 4 * k + 33 * (l3 ++ [b]).length) (by omega) (by omega) ?_
                exact ih49 (j + 1) (mv1 + 1) (l3 ++ [b]) w119 w117 (by omega) (by omega) (hp19_0) (by rw [hl3, ixJ_S, if_pos (show sqP s (os.getD k 0) j = true from decide_eq_true (show oT (opAt s j) = os.getD k 0 by omega)), adL_app, adL_one hb]) (hp17_0)
        refine f_sel (W2 := [w1, w113, w110]) [2, 0, 1] rfl rfl ?_
        refine j_wide (k2 := 3 + k + l2.length) (n2 := 11 + 4 * k + 33 * l2.length) (by omega) (by omega) ?_
        exact loop49 _ 0 mv l2 w1 w113 (Nat.lt_succ_self _) (Nat.zero_le _) (hw1) (by rw [hl2, ixJ_0]) (hp13_0)
  refine f_sel (W2 := [w11, w14]) [1, 0] rfl rfl ?_
  refine j_wide (k2 := 2 + 0 + ([] : List Nat).length) (n2 := 7 + 4 * 0 + 33 * ([] : List Nat).length) (by first | omega | (simp; done) | (simp; omega)) (by first | omega | (simp; done) | (simp; omega)) ?_
  exact loop15 _ 0 0 ([] : List Nat) w11 w14 (Nat.lt_succ_self _) (Nat.zero_le _) (hp1_0) (rfl) (hp4_0)
