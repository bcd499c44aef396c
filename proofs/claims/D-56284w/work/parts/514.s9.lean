/-! S, 9 -/
theorem ntl_lt {z : jZ} {li : List Nat} {s : List Op} (h : opsZ z li s) : ∀ t ∈ ntl s, t < 128 := by
  intro t ht
  obtain ⟨o, ho, rfl⟩ := List.mem_map.mp ht
  have := h.ok o ho
  unfold opOK at this
  omega
theorem mem_tk {α : Type} {l : List α} {k : Nat} {p : α → Prop} (h : ∀ x ∈ l, p x) : ∀ x ∈ l.take k, p x := fun x hx => h x (List.mem_of_mem_take hx)
/-- operations by their places -/
def adL (li ix : List Nat) : List Nat := ix.map (fun i => li.getD i 0)
def opL (s : List Op) (ix : List Nat) : List Op := ix.map (opAt s)
theorem adL_at {li : List Nat} {i b : Nat} (h : li[i]? = some b) : li.getD i 0 = b := by rw [List.getD_eq_getElem?_getD, h]; rfl
theorem adL_ops {z : jZ} {li : List Nat} {s : List Op} (h : opsZ z li s) {ix : List Nat} (hx : ∀ i ∈ ix, i < s.length) : opsZ z (adL li ix) (opL s ix) := by
  induction ix with
  | nil => trivial
  | cons i ix ih =>
    obtain ⟨b, h1, h2, h3⟩ := h.at (hx i List.mem_cons_self)
    have e : li.getD i 0 = b := adL_at h1
    show z (li.getD i 0, _) ∧ _ ∧ _
    rw [e]
    exact ⟨h2, h3, ih (fun j hj => hx j (List.mem_cons_of_mem _ hj))⟩
theorem adL_nd {li ix : List Nat} (h : li.Nodup) (hn : ix.Nodup) (hx : ∀ i ∈ ix, i < li.length) : (adL li ix).Nodup := by
  induction ix with
  | nil => exact List.nodup_nil
  | cons i ix ih =>
    have hc := List.nodup_cons.mp hn
    refine List.nodup_cons.mpr ⟨fun hm => ?_, ih hc.2 (fun j hj => hx j (List.mem_cons_of_mem _ hj))⟩
    obtain ⟨j, hj, e⟩ := List.mem_map.mp hm
    have hi := hx i List.mem_cons_self
    have hj2 := hx j (List.mem_cons_of_mem _ hj)
    have e1 : li.getD i 0 = li[i] := adL_at (List.getElem?_eq_getElem hi)
    have e2 : li.getD j 0 = li[j] := adL_at (List.getElem?_eq_getElem hj2)
    have : j = i := (List.getElem_inj h).mp (by rw [← e1, ← e2]; exact e)
    subst this
    exact hc.1 hj
theorem opL_app {s : List Op} {a b : List Nat} : opL s (a ++ b) = opL s a ++ opL s b := List.map_append
theorem adL_app {li a b : List Nat} : adL li (a ++ b) = adL li a ++ adL li b := List.map_append
theorem opL_f {s : List Op} {t : Nat} : ∀ {k}, k ≤ s.length → opL s ((List.range k).filter (sqP s t)) = (s.take k).filter fun x => oT x == t := by
  intro k
  induction k with
  | zero => intro _; rfl
  | succ k ih =>
    intro h
    rw [sq_s, opL_app, ih (by omega), take_S (opAt_eq (by omega)), List.filter_append]
    congr 1
    by_cases e : oT (opAt s k) = t <;> simp [sqP, List.filter_cons, e, opL]
theorem opL_sq {s : List Op} {os : List Nat} : opL s (sqL s os) = arrL s os := by
  unfold sqL arrL
  induction os with
  | nil => rfl
  | cons t os ih => rw [List.flatMap_cons, List.flatMap_cons, opL_app, ih, opL_f (Nat.le_refl _), List.take_length]
/-- the places taken up so far -/
def ixJ (s : List Op) (os : List Nat) (k j : Nat) : List Nat := sqL s (os.take k) ++ (List.range j).filter (sqP s (os.getD k 0))
theorem ixJ_0 {s : List Op} {os : List Nat} {k : Nat} : ixJ s os k 0 = sqL s (os.take k) := by unfold ixJ; simp
theorem ixJ_end {s : List Op} {os : List Nat} {k : Nat} (hk : k < os.length) : ixJ s os k s.length = sqL s (os.take (k + 1)) := by
  have e : os[k]? = some (os.getD k 0) := by rw [List.getD_eq_getElem?_getD, List.getElem?_eq_getElem hk]; rfl
  rw [take_S e, sqL_push]
  rfl
theorem ixJ_sub {s : List Op} {os : List Nat} {k j : Nat} (hj : j ≤ s.length) : (ixJ s os k j).Sublist (ixJ s os k s.length) := by
  unfold ixJ
  refine (List.Sublist.refl _).append (List.Sublist.filter _ ?_)
  have : List.range j = (List.range s.length).take j := by rw [List.take_range]; congr 1; omega
  rw [this]
  exact List.take_sublist _ _
theorem ixJ_lt {s : List Op} {os : List Nat} {k j : Nat} (hj : j ≤ s.length) : ∀ i ∈ ixJ s os k j, i < s.length := by
  intro i hi
  rcases List.mem_append.mp hi with h | h
  · exact (sqL_mem.mp h).1
  · have := List.mem_range.mp (List.mem_filter.mp h).1
    omega
theorem ixJ_nd {s : List Op} {os : List Nat} {k j : Nat} (ho : os.Nodup) (hk : k < os.length) (hj : j ≤ s.length) : (ixJ s os k j).Nodup := by
  refine List.Nodup.sublist (ixJ_sub hj) ?_
  rw [ixJ_end hk]
  exact sqL_nd (List.Nodup.sublist (List.take_sublist _ _) ho)
theorem ixJ_len {s : List Op} {os : List Nat} {k j : Nat} (hl : s.length ≤ 20) (ho : os.Nodup) (hk : k < os.length) (hj : j < s.length) (e : oT (opAt s j) = os.getD k 0) : (ixJ s os k j).length < 20 := sq_lt hl ho hk hj e
theorem ixJ_le {s : List Op} {os : List Nat} {k j : Nat} (ho : os.Nodup) (hk : k < os.length) (hj : j ≤ s.length) : (ixJ s os k j).length ≤ s.length := by
  have := List.Nodup.length_le_of_subset (ixJ_nd ho hk hj) (l₂ := List.range s.length) (fun i hi => List.mem_range.mpr (ixJ_lt hj i hi))
  simpa using this
theorem sqL_le {s : List Op} {os : List Nat} (ho : os.Nodup) : (sqL s os).length ≤ s.length := by
  rw [sqL_len]
  exact arrL_len ho
theorem ixJ_S {s : List Op} {os : List Nat} {k j : Nat} : ixJ s os k (j + 1) = ixJ s os k j ++ (if sqP s (os.getD k 0) j then [j] else []) := by
  unfold ixJ
  rw [sq_s, List.append_assoc]
theorem adL_one {li : List Nat} {i b : Nat} (h : li[i]? = some b) : adL li [i] = [b] := by
  show [li.getD i 0] = [b]
  rw [adL_at h]
theorem adL_len {li ix : List Nat} : (adL li ix).length = ix.length := List.length_map _
set_option maxHeartbeats 1500000 in
/-- X3 transactions()Ljava/util/List; -/
theorem fc_X3_transactions {l : Launch} {E : jE} (hls : l.stackTraces = false) (hE : jSt E) (hN : jCn E) {z : jZ} (hzc : zLe (zS E) z) {a : Nat} {s : List Op} (h : schZ E z a s) : fC l E yX3_transactions cX3_transactions 4 (some (.object "java/util/List")) 7 191 (s.length + 2) (33 * s.length + 7) [.ref a] z [] (fun rr z2 W2 => ∃ q : Nat, ∃ mq : Int, ∃ w1 : va_W, rr = some (.ref q) ∧ W2 = [w1] ∧ z = z2 ∧ alW E q mq (kIs E (ntl s)) w1) := by
  refine f_start (own := "ScheduleAnalyzer$Schedule") (vs := [some (.ref a), none, none, none]) hls (by decide +kernel) rfl rfl rfl (Nat.le_of_ble_eq_true rfl) ?_
  intro K H0 hk he hl0 hI hA
  have hsl33 := h.len
  refine f_new (fs := [.int (jI 0), .null, .int (jI 0)]) hE hk in_J2 tyJ2 tyJ2_ok q216 q183 q120 (show vwCl[10]? = some (RJ2, TJ2, 3) from rfl) (fun j hj => match j, hj with | 0, _ => rfl | 1, _ => rfl | 2, _ => rfl | j + 3, h => absurd h (by omega)) ⟨by omega, by omega⟩ dX3_transactions_0 ?_
  intro ad1
  refine j_dup hk rfl dX3_transactions_3 ?_
  refine f_callI (Wc := [[(ad1, .inr (10, [.int (jI 0), .null, .int (jI 0)]))]]) (Wr := []) hk hl0 (fc_J2_init hls hE hN (z := z) hzc (a := ad1) ) (fun _ h => Or.inl h) 0 q186 q120 q217 q185 rfl (by decide +kernel) rfl (by decide) (by omega) rfl (Nat.le_of_ble_eq_true rfl) dX3_transactions_4 ?_
  refine Or.inl ⟨rfl, ?_⟩
  rintro _ _ _ ⟨w11, rfl, rfl, rfl, hp1_0⟩ -
  refine f_W (W2 := [w11]) rfl ?_
  refine j_ast1 hk dX3_transactions_7 rfl ?_
  refine j_ald4 hk dX3_transactions_8 rfl rfl ?_
  obtain ⟨lss2, mss2, lis2, hzs2, hals2, hops2, hnds2⟩ := id h
  have hll := (hops2).len
  refine f_get hE hk in_X3 (.inl hzs2) (show vwCl[2]? = some (RX3, TX3, 1) from rfl) 0 (by decide) q803 (Or.inl rfl) rfl dX3_transactions_9 ?_
  obtain ⟨qo3, capo3, fo3, hc1o3, hc2o3, hl1o3, hl2o3, hfo3⟩ := hals2.cell hN hzc
  refine f_callF (Wc := []) (Wr := [w11]) hE hk hl0 (.inl hc1o3) (show vwCl[10]? = some (RJ2, TJ2, 3) from rfl) (fc_J2_iterator hls hE hN (z := z) hzc (a := lss2) (mc := mss2) (li := lis2) (hals2)) (fun _ h => Or.inl h) 0 (lw_Fg q219 q223 q225 q120 q227) q221 q220 q226 q224 q222 (by decide +kernel) rfl (by decide) (by omega) rfl (Nat.le_of_ble_eq_true rfl) dX3_transactions_12 ?_
  refine Or.inl ⟨rfl, ?_⟩
  rintro _ _ _ ⟨it4, w14, rfl, rfl, rfl, hp4_0⟩ -
  refine f_W (W2 := [w14, w11]) rfl ?_
  refine j_ast2 hk dX3_transactions_17 rfl ?_
  have loop18 : ∀ (fuel18 : Nat) (k : Nat) (mv : Int) (l2 : List Nat) (w1 : va_W) (wik : va_W), lis2.length - k < fuel18 → k ≤ lis2.length → alW E ad1 mv l2 w1 → l2 = kIs E ((ntl s).take k) → itW it4 k mss2 lss2 wik → jW K (fO K E z z [w1, wik]) (k + 2) (33 * k + 7) 18 [some (.ref a), some (.ref ad1), some (.ref it4), none] [] := by
    intro fuel18
    induction fuel18 with
    | zero => intro k mv l2 w1 wik hm; exact absurd hm (Nat.not_lt_zero _)
    | succ fuel18 ih18 =>
      intro k mv l2 w1 wik hm18 hknk hw1 hl2 hwik
      refine j_ald4 hk dX3_transactions_18 rfl rfl ?_
      refine f_sel (W2 := [wik, w1]) [1, 0] rfl rfl ?_
      obtain ⟨rm5, hrm5⟩ := itW.mem hwik
      refine f_callF (Wc := [wik]) (Wr := [w1]) hE hk hl0 (fIn.of 0 rfl hrm5) (show vwCl[11]? = some (RJ3, TJ3, 4) from rfl) (fc_J3_hasNext hls hE hN (z := z) hzc (it := it4) (a := lss2) (mc := mss2) (li := lis2) (k := k) (wi := wik) (hals2) (hwik) (by first | assumption | omega)) (fun _ h => Or.inl h) 0 (lw_Fg q287 q291 q293 q121 q295) q289 q288 q294 q292 q290 (by decide +kernel) rfl (by decide) (by omega) rfl (Nat.le_of_ble_eq_true rfl) dX3_transactions_19 ?_
      refine Or.inl ⟨rfl, ?_⟩
      rintro _ _ _ ⟨rfl, rfl, rfl⟩ -
      refine f_W (W2 := [wik, w1]) rfl ?_
      refine j_ifeqB hk dX3_transactions_24 rfl (tgt := 54) (fun h24 => ?_) (fun h24 => ?_)
      · have hk9 := of_decide_eq_false h24
        refine j_ald4 hk dX3_transactions_54 rfl rfl ?_
        refine f_sel (W2 := [w1]) [1] rfl rfl ?_
        refine f_aret hk he hA (Or.inl ⟨_, rfl⟩) (Or.inr ⟨_, rfl⟩) dX3_transactions_55 (by omega) (by omega) ?_
        exact ⟨_, _, _, rfl, rfl, rfl, by rw [hl2, List.take_of_length_le (by unfold ntl; rw [List.length_map]; omega)] at hw1; exact hw1⟩
      · have hk9 := of_decide_eq_true h24
        obtain ⟨b, hb, hob, hok⟩ := hops2.at (i := k) (by omega)
        obtain ⟨o1, o2, o3, o4, o5⟩ := id hok
        have lk := letK_c hok
        refine j_ald4 hk dX3_transactions_27 rfl rfl ?_
        obtain ⟨rm7, hrm7⟩ := itW.mem hwik
        refine f_callF (Wc := [wik]) (Wr := [w1]) hE hk hl0 (fIn.of 0 rfl hrm7) (show vwCl[11]? = some (RJ3, TJ3, 4) from rfl) (fc_J3_next hls hE hN (z := z) hzc (it := it4) (a := lss2) (mc := mss2) (li := lis2) (k := k) (wi := wik) (b := b) (hals2) (hwik) (hb)) (fun _ h => Or.inl h) 0 (lw_Fg q303 q306 q308 q121 q310) q305 q304 q309 q307 q290 (by decide +kernel) rfl (by decide) (by omega) rfl (Nat.le_of_ble_eq_true rfl) dX3_transactions_28 ?_
        refine Or.inl ⟨rfl, ?_⟩
        rintro _ _ _ ⟨w18, rfl, rfl, rfl, hp8_0⟩ -
        refine f_W (W2 := [w18, w1]) rfl ?_
        refine f_castS hE hk (.inl hob) (show vwCl[5]? = some (RX6, TX6, 3) from rfl) q712 dX3_transactions_33 ?_
        refine j_ast3 hk dX3_transactions_36 rfl ?_
        refine j_ald4 hk dX3_transactions_37 rfl rfl ?_
        refine j_ald4 hk dX3_transactions_38 rfl rfl ?_
        refine f_getN hE hk in_X6 (.inl hob) (show vwCl[5]? = some (RX6, TX6, 3) from rfl) 1 (by decide) q1667 rfl rfl dX3_transactions_39 ?_
        refine j_top (z2 := ((oT (opAt s (k)) : Nat) : Int)) (rfl) ?_
        refine f_callS (Wc := []) (Wr := [w18, w1]) hk hl0 (fc_J22_valueOf hls hE hN (z := z) hzc (n := oT (opAt s (k))) (by omega)) (fun _ h => Or.inl h) 1 (lw_S q925 q926 q141 q927) (by decide +kernel) rfl (by decide) (by omega) rfl (Nat.le_of_ble_eq_true rfl) dX3_transactions_42 ?_
        refine Or.inl ⟨rfl, ?_⟩
        rintro _ _ _ ⟨rfl, rfl, rfl⟩ -
        refine f_W (W2 := [w18, w1]) rfl ?_
        have hl2l : l2.length ≤ k := by rw [hl2]; unfold kIs ntl; rw [List.length_map, List.length_take]; omega
        refine f_sel (W2 := [w1, w18]) [1, 0] rfl rfl ?_
        obtain ⟨rm10, hrm10⟩ := alW.mem hw1
        refine f_callF (Wc := [w1]) (Wr := [w18]) hE hk hl0 (fIn.of 0 rfl hrm10) (show vwCl[10]? = some (RJ2, TJ2, 3) from rfl) (fc_J2_add hls hE hN (z := z) hzc (a := ad1) (e := kInt E (128 + (oT (opAt s (k))))) (mc := mv) (li := l2) (w0 := w1) (hw1) (by rw [hl2]; exact kIs_el hN hzc (mem_tk (ntl_lt (hops2)))) (okO.int (hN.int hzc (by omega))) (by omega)) (fun _ h => Or.inl h) 1 (lw_Fg q714 q717 q719 q120 q721) q716 q715 q720 q718 q222 (by decide +kernel) rfl (by decide) (by omega) rfl (Nat.le_of_ble_eq_true rfl) dX3_transactions_45 ?_
        refine Or.inl ⟨rfl, ?_⟩
        rintro _ _ _ ⟨w111, rfl, rfl, rfl, hp11_0⟩ -
        refine f_W (W2 := [w111, w18]) rfl ?_
        refine j_pop hk rfl dX3_transactions_50 ?_
        refine j_goto (tgt := 18) hk dX3_transactions_51 rfl ?_
        refine j_forget (i := 3) ?_
        refine j_wide (k2 := (k + 1) + 2) (n2 := 33 * (k + 1) + 7) (by omega) (by omega) ?_
        exact ih18 (k + 1) (mv + 1) (l2 ++ [kInt E (128 + oT (opAt s (k)))]) w111 w18 (by omega) (by omega) (hp11_0) (by rw [hl2, ntl_take (by omega), kIs_app]; rfl) (hp8_0)
  refine f_sel (W2 := [w11, w14]) [1, 0] rfl rfl ?_
  refine j_wide (k2 := 0 + 2) (n2 := 33 * 0 + 7) (by omega) (by omega) ?_
  exact loop18 _ 0 0 ([]) w11 w14 (Nat.lt_succ_self _) (Nat.zero_le _) (hp1_0) (rfl) (hp4_0)
