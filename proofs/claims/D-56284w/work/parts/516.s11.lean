/-! S, 11 -/
/-- where a transaction's n-th operation stands -/
def plC (M : List Op) (t n : Nat) : Nat := ((List.range M.length).find? fun i => sqP M t i && decide (cN (sqP M t) i = n)).getD 0
theorem cN_up {p : Nat → Bool} {i j : Nat} (h : i < j) (hp : p i = true) : cN p i + 1 ≤ cN p j := by
  induction j with
  | zero => omega
  | succ j ih =>
    rw [cN_S]
    by_cases e : i = j
    · subst e
      rw [if_pos hp]
      omega
    · have := ih (by omega)
      split <;> omega
theorem plC_eq {M : List Op} {t n r : Nat} (h1 : r < M.length) (h2 : oT (opAt M r) = t) (h3 : cN (sqP M t) r = n) : plC M t n = r := by
  have hr : sqP M t r = true := decide_eq_true h2
  unfold plC
  rw [List.find?_range_eq_some.mpr ⟨by rw [hr, decide_eq_true h3]; rfl, List.mem_range.mpr h1, fun j hj => by
    cases hp : sqP M t j with
    | false => rfl
    | true =>
      have := cN_up hj hp
      rw [decide_eq_false (by omega)]
      rfl⟩]
  rfl
def eqI (A B : List Op) (i : Nat) : Bool := decide (opV (opAt A i) = opV (opAt B i))
/-- the same operations in the same order -/
def smT (s m : List Op) (t : Nat) : Bool := decide ((arrL s [t]).length = (arrL m [t]).length) && (List.range (arrL s [t]).length).all (eqI (arrL s [t]) (arrL m [t]))
def smC (s m : List Op) (n : Nat) : Bool := decide (s.length = m.length) && (List.range n).all (fun t => smT s m (t + 1))
theorem smC_S {s m : List Op} {n : Nat} : smC s m (n + 1) = (smC s m n && smT s m (n + 1)) := by
  unfold smC
  rw [all_S, Bool.and_assoc]
theorem all_le {p : Nat → Bool} {i n : Nat} (h : i ≤ n) (hf : (List.range i).all p = false) : (List.range n).all p = false := by
  cases hn : (List.range n).all p with
  | false => rfl
  | true =>
    have : (List.range i).all p = true := List.all_eq_true.mpr (fun x hx => List.all_eq_true.mp hn x (List.mem_range.mpr (by have := List.mem_range.mp hx; omega)))
    rw [hf] at this
    cases this
theorem sm_f {a b : Bool} {p : Nat → Bool} {i n : Nat} (h : i ≤ n) (hf : (a && (b && (List.range i).all p)) = false) : (a && (b && (List.range i).all p)) = (a && (b && (List.range n).all p)) := by
  cases a with
  | false => rfl
  | true => cases b with
    | false => rfl
    | true =>
      have hf : (List.range i).all p = false := hf
      show (List.range i).all p = (List.range n).all p
      rw [hf, all_le h hf]
theorem arr1_len {s : List Op} {t : Nat} : (arrL s [t]).length ≤ s.length := by
  unfold arrL
  rw [List.flatMap_cons, List.flatMap_nil, List.append_nil]
  exact len_f
theorem arr1_cN {s : List Op} {t : Nat} : (arrL s [t]).length = cN (sqP s t) s.length := by
  have h : ∀ k, k ≤ s.length → ((s.take k).filter fun x => oT x == t).length = cN (sqP s t) k := by
    intro k
    induction k with
    | zero => intro _; rfl
    | succ k ih =>
      intro hk
      rw [take_Sf (by omega), List.length_append, ih (by omega), cN_S]
      unfold sqP
      by_cases e : oT (opAt s k) = t <;> simp [e]
  unfold arrL
  rw [List.flatMap_cons, List.flatMap_nil, List.append_nil, ← h _ (Nat.le_refl _), List.take_length]
/-- places in the other schedule are there -/
theorem sm_pl {s m : List Op} (h : smC s m 5 = true) {k : Nat} (hk : k < s.length) (ho : opOK (opAt s k)) : cN (sqP s (oT (opAt s k))) k < cN (sqP m (oT (opAt s k))) m.length := by
  unfold smC at h
  have h2 := List.all_eq_true.mp (Bool.and_eq_true_iff.mp h).2 (oT (opAt s k) - 1) (List.mem_range.mpr (by unfold opOK at ho; omega))
  rw [show oT (opAt s k) - 1 + 1 = oT (opAt s k) by (unfold opOK at ho; omega)] at h2
  unfold smT at h2
  have h3 := of_decide_eq_true (Bool.and_eq_true_iff.mp h2).1
  rw [arr1_cN, arr1_cN] at h3
  rw [← h3]
  exact cN_up hk (decide_eq_true rfl)
/-- the equivalence -/
def eqAt (s m : List Op) (l i : Nat) : Bool := !opConf (opAt s i) (opAt s l) || decide (plC m (oT (opAt s i)) (cN (sqP s (oT (opAt s i))) i) < plC m (oT (opAt s l)) (cN (sqP s (oT (opAt s l))) l))
def eqvC (s m : List Op) : Bool := smC s m 5 && (List.range s.length).all (fun l => (List.range l).all (eqAt s m l))
set_option maxHeartbeats 1500000 in
/-- X3 placeIn(LScheduleAnalyzer$Schedule;I)I -/
theorem fc_X3_placeIn {l : Launch} {E : jE} (hls : l.stackTraces = false) (hE : jSt E) (hN : jCn E) {z : jZ} (hzc : zLe (zS E) z) {a : Nat} {c : Nat} {k : Nat} {s : List Op} {m : List Op} (h : schZ E z a s) (h2 : schZ E z c m) (hk_ : k < s.length) (hc : cN (sqP s (oT (opAt s k))) k < cN (sqP m (oT (opAt s k))) m.length) : fC l E yX3_placeIn cX3_placeIn 6 (some .int) 7 3092 (1) (1) [.ref a, .ref c, .int (jI ((k : Nat) : Int))] z [] (fun rr z2 W2 => rr = some (.int (jI ((plC m (oT (opAt s k)) (cN (sqP s (oT (opAt s k))) k) : Nat) : Int))) ∧ W2 = [] ∧ z = z2) := by
  refine f_startM (own := "ScheduleAnalyzer$Schedule") (vs := [some (.ref a), some (.ref c), some (.int (jI ((k : Nat) : Int))), none, none, none]) hls (by decide +kernel) rfl rfl rfl (Nat.le_of_ble_eq_true rfl) ?_
  intro K H0 hk he hl0 hI hM hA
  have hsl33 := h.len
  have hm33 := h2.len
  refine j_ald4 hk dX3_placeIn_0 rfl rfl ?_
  obtain ⟨lss1, mss1, lis1, hzs1, hals1, hops1, hnds1⟩ := id h
  refine f_get hE hk in_X3 (.inl hzs1) (show vwCl[2]? = some (RX3, TX3, 1) from rfl) 0 (by decide) q803 (Or.inl rfl) rfl dX3_placeIn_1 ?_
  refine j_ild4 hk dX3_placeIn_4 rfl rfl ?_
  have hll := (hops1).len
  obtain ⟨b, hb, hob, hok⟩ := hops1.at (i := k) (by omega)
  obtain ⟨o1, o2, o3, o4, o5⟩ := id hok
  have lk := letK_c hok
  obtain ⟨qo2, capo2, fo2, hc1o2, hc2o2, hl1o2, hl2o2, hfo2⟩ := hals1.cell hN hzc
  refine f_callF (Wc := []) (Wr := []) hE hk hl0 (.inl hc1o2) (show vwCl[10]? = some (RJ2, TJ2, 3) from rfl) (fc_J2_get hls hE hN (z := z) hzc (a := lss1) (i := k) (mc := mss1) (li := lis1) (b := b) (hals1) (hb)) (fun _ h => Or.inl h) 1 (lw_Fg q1201 q393 q395 q120 q397) q392 q391 q396 q394 q222 (by decide +kernel) rfl (by decide) (by omega) rfl (Nat.le_of_ble_eq_true rfl) dX3_placeIn_5 ?_
  refine Or.inl ⟨rfl, ?_⟩
  rintro _ _ _ ⟨rfl, rfl, rfl⟩ -
  refine f_W (W2 := []) rfl ?_
  refine f_castS hE hk (.inl hob) (show vwCl[5]? = some (RX6, TX6, 3) from rfl) q712 dX3_placeIn_10 ?_
  refine f_getN hE hk in_X6 (.inl hob) (show vwCl[5]? = some (RX6, TX6, 3) from rfl) 1 (by decide) q1667 rfl rfl dX3_placeIn_13 ?_
  refine j_ist3 hk dX3_placeIn_16 rfl ?_
  refine j_ald4 hk dX3_placeIn_17 rfl rfl ?_
  refine f_get hE hk in_X3 (.inl hzs1) (show vwCl[2]? = some (RX3, TX3, 1) from rfl) 0 (by decide) q803 (Or.inl rfl) rfl dX3_placeIn_18 ?_
  refine j_ild4 hk dX3_placeIn_21 rfl rfl ?_
  refine j_ild4 hk dX3_placeIn_22 rfl rfl ?_
  refine f_indy (vals := [.int (jI ((oT (opAt s k) : Nat) : Int))]) (N := 1) hN.lam hk 9 rfl rfl hM rfl rfl (by decide) ⟨rfl, rfl, trivial⟩ (by simp [Value.category]) (by omega) ⟨by omega, by omega⟩ rfl rfl dX3_placeIn_23 ?_
  intro lm1
  refine f_W (W2 := [[(lm1, .inr (27, [.int (jI ((oT (opAt s k) : Nat) : Int))]))]]) rfl ?_
  obtain ⟨zL4, hlL4, hmL4, hbL4⟩ := f_lend z [[(lm1, .inr (27, [.int (jI ((oT (opAt s k) : Nat) : Int))]))]] [[(lm1, .inr (27, [.int (jI ((oT (opAt s k) : Nat) : Int))]))]] (by simp)
  refine f_callSN (Wc := []) (Wr := [[(lm1, .inr (27, [.int (jI ((oT (opAt s k) : Nat) : Int))]))]]) hE hk hl0 (fc_X1_countBefore hls hE hN (z := zL4) (hzc.tr hlL4) (a := lss1) (n := k) (t := lm1) (p := (pTr (oT (opAt s k)))) (mc := mss1) (li := lis1) (s := s) (hals1.up hlL4) (hops1.up hlL4) (by omega) (fun b o hb ho => tc_9 hls hE hN (hzc.tr hlL4) (hmL4 _ (List.mem_cons_self) _ (List.mem_cons_self)) hb ho (by omega))) (hbL4) 3 q1265 q115 q1263 q1264 (by decide +kernel) rfl (by decide) (by omega) rfl (Nat.le_of_ble_eq_true rfl) dX3_placeIn_28 ?_
  refine Or.inr ?_
  rintro _ _ _ ⟨rfl, rfl, -⟩ -
  refine f_W (W2 := [[(lm1, .inr (27, [.int (jI ((oT (opAt s k) : Nat) : Int))]))]]) rfl ?_
  have rf6 := cN_le (fun i => (pTr (oT (opAt s k))) (opAt s i)) k
  refine j_ist4 hk dX3_placeIn_31 rfl ?_
  refine j_loc (i := 4) (z2 := ((cN (sqP s (oT (opAt s k))) k : Nat) : Int)) rfl (rfl) ?_
  refine j_iconst (n := 0) hk dX3_placeIn_33 ?_
  refine j_ist5 hk dX3_placeIn_34 rfl ?_
  have loop36 : ∀ (fuel36 : Nat) (f : Nat) (n : Nat), m.length - f < fuel36 → f ≤ m.length → n + cN (sqP m (oT (opAt s k))) f = cN (sqP s (oT (opAt s k))) k → jW K (fO K E z z []) (1) (1) 36 [some (.ref a), some (.ref c), some (.int (jI ((k : Nat) : Int))), some (.int (jI ((oT (opAt s k) : Nat) : Int))), some (.int (jI ((n : Nat) : Int))), some (.int (jI ((f : Nat) : Int)))] [] := by
    intro fuel36
    induction fuel36 with
    | zero => intro f n hm; exact absurd hm (Nat.not_lt_zero _)
    | succ fuel36 ih36 =>
      intro f n hm36 hfm hnn
      have hfl : f < m.length := Nat.lt_of_le_of_ne hfm (fun e => by rw [e] at hnn; omega)
      have hcl := cN_le (sqP s (oT (opAt s k))) k
      refine j_ald4 hk dX3_placeIn_36 rfl rfl ?_
      obtain ⟨lss7, mss7, lis7, hzs7, hals7, hops7, hnds7⟩ := id h2
      refine f_get hE hk in_X3 (.inl hzs7) (show vwCl[2]? = some (RX3, TX3, 1) from rfl) 0 (by decide) q803 (Or.inl rfl) rfl dX3_placeIn_37 ?_
      refine j_ild hk dX3_placeIn_40 rfl ?_
      obtain ⟨bM, hbM, hobM, hokM⟩ := hops7.at (i := f) (by omega)
      obtain ⟨o1M, o2M, o3M, o4M, o5M⟩ := id hokM
      have lkM := letK_c hokM
      obtain ⟨qo8, capo8, fo8, hc1o8, hc2o8, hl1o8, hl2o8, hfo8⟩ := hals7.cell hN hzc
      refine f_callF (Wc := []) (Wr := []) hE hk hl0 (.inl hc1o8) (show vwCl[10]? = some (RJ2, TJ2, 3) from rfl) (fc_J2_get hls hE hN (z := z) hzc (a := lss7) (i := f) (mc := mss7) (li := lis7) (b := bM) (hals7) (hbM)) (fun _ h => Or.inl h) 1 (lw_Fg q1201 q393 q395 q120 q397) q392 q391 q396 q394 q222 (by decide +kernel) rfl (by decide) (by omega) rfl (Nat.le_of_ble_eq_true rfl) dX3_placeIn_42 ?_
      refine Or.inl ⟨rfl, ?_⟩
      rintro _ _ _ ⟨rfl, rfl, rfl⟩ -
      refine f_W (W2 := []) rfl ?_
      refine f_castS hE hk (.inl hobM) (show vwCl[5]? = some (RX6, TX6, 3) from rfl) q712 dX3_placeIn_47 ?_
      refine f_getN hE hk in_X6 (.inl hobM) (show vwCl[5]? = some (RX6, TX6, 3) from rfl) 1 (by decide) q1667 rfl rfl dX3_placeIn_50 ?_
      refine j_ild4 hk dX3_placeIn_53 rfl rfl ?_
      refine j_icmp_ne hk (by omega) (by omega) dX3_placeIn_54 rfl (tgt := 62) (fun h54 => ?_) (fun h54 => ?_)
      · refine j_ild hk dX3_placeIn_62 rfl ?_
        refine j_ald4 hk dX3_placeIn_64 rfl rfl ?_
        refine f_get hE hk in_X3 (.inl hzs7) (show vwCl[2]? = some (RX3, TX3, 1) from rfl) 0 (by decide) q803 (Or.inl rfl) rfl dX3_placeIn_65 ?_
        refine j_ild hk dX3_placeIn_68 rfl ?_
        refine f_callF (Wc := []) (Wr := []) hE hk hl0 (.inl hc1o8) (show vwCl[10]? = some (RJ2, TJ2, 3) from rfl) (fc_J2_get hls hE hN (z := z) hzc (a := lss7) (i := f) (mc := mss7) (li := lis7) (b := bM) (hals7) (hbM)) (fun _ h => Or.inl h) 1 (lw_Fg q1201 q393 q395 q120 q397) q392 q391 q396 q394 q222 (by decide +kernel) rfl (by decide) (by omega) rfl (Nat.le_of_ble_eq_true rfl) dX3_placeIn_70 ?_
        refine Or.inl ⟨rfl, ?_⟩
        rintro _ _ _ ⟨rfl, rfl, rfl⟩ -
        refine f_W (W2 := []) rfl ?_
        refine f_castS hE hk (.inl hobM) (show vwCl[5]? = some (RX6, TX6, 3) from rfl) q712 dX3_placeIn_75 ?_
        refine f_getN hE hk in_X6 (.inl hobM) (show vwCl[5]? = some (RX6, TX6, 3) from rfl) 1 (by decide) q1667 rfl rfl dX3_placeIn_78 ?_
        refine j_ild4 hk dX3_placeIn_81 rfl rfl ?_
        refine j_icmp_ne hk (by omega) (by omega) dX3_placeIn_82 rfl (tgt := 89) (fun h82 => ?_) (fun h82 => ?_)
        · refine j_iconst (n := 0) hk dX3_placeIn_89 ?_
          refine j_isub hk dX3_placeIn_90 ?_
          refine j_ist4 hk dX3_placeIn_91 rfl ?_
          refine j_iinc5 hk dX3_placeIn_93 rfl ?_
          refine j_loc (i := 4) (z2 := ((n : Nat) : Int)) rfl (by omega) ?_
          refine j_goto (tgt := 36) hk dX3_placeIn_96 rfl ?_
          exact ih36 (f + 1) n (by omega) (by omega) (by rw [cN_S]; rw [if_neg (by unfold sqP; rw [decide_eq_false (by omega)]; decide)]; omega)
        · refine j_iconst (n := 1) hk dX3_placeIn_85 ?_
          refine j_goto (tgt := 90) hk dX3_placeIn_86 rfl ?_
          refine j_isub hk dX3_placeIn_90 ?_
          refine j_ist4 hk dX3_placeIn_91 rfl ?_
          refine j_iinc5 hk dX3_placeIn_93 rfl ?_
          refine j_loc (i := 4) (z2 := ((n - 1 : Nat) : Int)) rfl (by omega) ?_
          refine j_goto (tgt := 36) hk dX3_placeIn_96 rfl ?_
          exact ih36 (f + 1) (n - 1) (by omega) (by omega) (by rw [cN_S]; rw [if_pos (show sqP m (oT (opAt s k)) f = true from decide_eq_true (by omega))]; omega)
      · refine j_ild hk dX3_placeIn_57 rfl ?_
        refine j_if_le hk (by omega) dX3_placeIn_59 rfl (tgt := 99) (fun h59 => ?_) (fun h59 => ?_)
        · refine j_ild hk dX3_placeIn_99 rfl ?_
          refine f_iret hk he hA rfl dX3_placeIn_101 (by omega) (by omega) ?_
          exact ⟨congrArg (fun z => some (Value.int (jI z))) (by rw [plC_eq hfl (by omega) (by omega)]), rfl, rfl⟩
        · refine j_ild hk dX3_placeIn_62 rfl ?_
          refine j_ald4 hk dX3_placeIn_64 rfl rfl ?_
          refine f_get hE hk in_X3 (.inl hzs7) (show vwCl[2]? = some (RX3, TX3, 1) from rfl) 0 (by decide) q803 (Or.inl rfl) rfl dX3_placeIn_65 ?_
          refine j_ild hk dX3_placeIn_68 rfl ?_
          refine f_callF (Wc := []) (Wr := []) hE hk hl0 (.inl hc1o8) (show vwCl[10]? = some (RJ2, TJ2, 3) from rfl) (fc_J2_get hls hE hN (z := z) hzc (a := lss7) (i := f) (mc := mss7) (li := lis7) (b := bM) (hals7) (hbM)) (fun _ h => Or.inl h) 1 (lw_Fg q1201 q393 q395 q120 q397) q392 q391 q396 q394 q222 (by decide +kernel) rfl (by decide) (by omega) rfl (Nat.le_of_ble_eq_true rfl) dX3_placeIn_70 ?_
          refine Or.inl ⟨rfl, ?_⟩
          rintro _ _ _ ⟨rfl, rfl, rfl⟩ -
          refine f_W (W2 := []) rfl ?_
          refine f_castS hE hk (.inl hobM) (show vwCl[5]? = some (RX6, TX6, 3) from rfl) q712 dX3_placeIn_75 ?_
          refine f_getN hE hk in_X6 (.inl hobM) (show vwCl[5]? = some (RX6, TX6, 3) from rfl) 1 (by decide) q1667 rfl rfl dX3_placeIn_78 ?_
          refine j_ild4 hk dX3_placeIn_81 rfl rfl ?_
          refine j_icmp_ne hk (by omega) (by omega) dX3_placeIn_82 rfl (tgt := 89) (fun h82 => ?_) (fun h82 => ?_)
          · refine j_iconst (n := 0) hk dX3_placeIn_89 ?_
            refine j_isub hk dX3_placeIn_90 ?_
            refine j_ist4 hk dX3_placeIn_91 rfl ?_
            refine j_iinc5 hk dX3_placeIn_93 rfl ?_
            refine j_loc (i := 4) (z2 := ((n : Nat) : Int)) rfl (by omega) ?_
            refine j_goto (tgt := 36) hk dX3_placeIn_96 rfl ?_
            exact ih36 (f + 1) n (by omega) (by omega) (by rw [cN_S]; rw [if_neg (by unfold sqP; rw [decide_eq_false (by omega)]; decide)]; omega)
          · refine j_iconst (n := 1) hk dX3_placeIn_85 ?_
            refine j_goto (tgt := 90) hk dX3_placeIn_86 rfl ?_
            refine j_isub hk dX3_placeIn_90 ?_
            refine j_ist4 hk dX3_placeIn_91 rfl ?_
            refine j_iinc5 hk dX3_placeIn_93 rfl ?_
            refine j_loc (i := 4) (z2 := ((n - 1 : Nat) : Int)) rfl (by omega) ?_
            refine j_goto (tgt := 36) hk dX3_placeIn_96 rfl ?_
            exact ih36 (f + 1) (n - 1) (by omega) (by omega) (by rw [cN_S]; rw [if_pos (show sqP m (oT (opAt s k)) f = true from decide_eq_true (by omega))]; omega)
  have hcl := cN_le (sqP s (oT (opAt s k))) k
  refine f_sel (W2 := []) [] rfl rfl ?_
  refine j_wide (k2 := 1) (n2 := 1) (by omega) (by omega) ?_
  exact loop36 _ 0 (cN (sqP s (oT (opAt s k))) k) (Nat.lt_succ_self _) (Nat.zero_le _) (rfl)
set_option maxHeartbeats 1500000 in
/-- X3 hasSameOperations(LScheduleAnalyzer$Schedule;)Z -/
theorem fc_X3_hasSameOperations {l : Launch} {E : jE} (hls : l.stackTraces = false) (hE : jSt E) (hN : jCn E) {z : jZ} (hzc : zLe (zS E) z) {a : Nat} {c : Nat} {s : List Op} {m : List Op} (h : schZ E z a s) (h2 : schZ E z c m) (hl20 : s.length ≤ 20) (hm20 : m.length ≤ 20) : fC l E yX3_hasSameOperations cX3_hasSameOperations 8 (some .boolean) 9 240 (700) (20000) [.ref a, .ref c] z [] (fun rr z2 W2 => rr = some (.int (jI (jB (smC s m 5)))) ∧ W2 = []) := by
  refine f_start (own := "ScheduleAnalyzer$Schedule") (vs := [some (.ref a), some (.ref c), none, none, none, none, none, none]) hls (by decide +kernel) rfl rfl rfl (Nat.le_of_ble_eq_true rfl) ?_
  intro K H0 hk he hl0 hI hA
  have hsl33 := h.len
  refine j_ald4 hk dX3_hasSameOperations_0 rfl rfl ?_
  obtain ⟨lss1, mss1, lis1, hzs1, hals1, hops1, hnds1⟩ := id h
  refine f_callV (Wc := []) (Wr := []) hE hk hl0 (.inl hzs1) (show vwCl[2]? = some (RX3, TX3, 1) from rfl) (fc_X3_size hls hE hN (z := z) hzc (a := a) (s := s) (h)) (fun _ h => Or.inl h) 0 (lw_V q888 q889 q890 q117 q891) (by decide +kernel) rfl (by decide) (by omega) rfl (Nat.le_of_ble_eq_true rfl) dX3_hasSameOperations_1 ?_
  refine Or.inl ⟨rfl, ?_⟩
  rintro _ _ _ ⟨rfl, rfl, rfl⟩ -
  refine f_W (W2 := []) rfl ?_
  refine j_ald4 hk dX3_hasSameOperations_4 rfl rfl ?_
  obtain ⟨lss3, mss3, lis3, hzs3, hals3, hops3, hnds3⟩ := id h2
  refine f_callV (Wc := []) (Wr := []) hE hk hl0 (.inl hzs3) (show vwCl[2]? = some (RX3, TX3, 1) from rfl) (fc_X3_size hls hE hN (z := z) hzc (a := c) (s := m) (h2)) (fun _ h => Or.inl h) 0 (lw_V q888 q889 q890 q117 q891) (by decide +kernel) rfl (by decide) (by omega) rfl (Nat.le_of_ble_eq_true rfl) dX3_hasSameOperations_5 ?_
  refine Or.inl ⟨rfl, ?_⟩
  rintro _ _ _ ⟨rfl, rfl, rfl⟩ -
  refine f_W (W2 := []) rfl ?_
  refine j_icmp_ne hk (by omega) (by omega) dX3_hasSameOperations_8 rfl (tgt := 15) (fun h8 => ?_) (fun h8 => ?_)
  · refine j_iconst (n := 0) hk dX3_hasSameOperations_15 ?_
    refine j_ist2 hk dX3_hasSameOperations_16 rfl ?_
    refine j_loc (i := 2) (z2 := jB (smC s m 0)) rfl (by first | (rw [show smC s m 0 = true by unfold smC; rw [decide_eq_true (show s.length = m.length by omega)]; rfl]; rfl) | (rw [show smC s m 0 = false by unfold smC; rw [decide_eq_false (show ¬ s.length = m.length by omega)]; rfl]; rfl)) ?_
    refine j_iconst (n := 1) hk dX3_hasSameOperations_17 ?_
    refine j_ist3 hk dX3_hasSameOperations_18 rfl ?_
    have loop19 : ∀ (fuel19 : Nat) (zq19 : jZ) (t : Nat), 5 - t < fuel19 → zLe z zq19 → t ≤ 5 → jW K (fO K E z zq19 []) (100 * t) (2800 * t) 19 [some (.ref a), some (.ref c), some (.int (jI (jB (smC s m t)))), some (.int (jI ((t + 1 : Nat) : Int))), none, none, none, none] [] := by
      intro fuel19
      induction fuel19 with
      | zero => intro zq19 t hm; exact absurd hm (Nat.not_lt_zero _)
      | succ fuel19 ih19 =>
        intro zq19 t hm19 zlq19 ht5
        have hzc := hzc.tr zlq19
        have h := h.up zlq19
        have h2 := h2.up zlq19
        have hzs1 := zlq19 _ hzs1
        have hals1 := hals1.up zlq19
        have hops1 := hops1.up zlq19
        have hzs3 := zlq19 _ hzs3
        have hals3 := hals3.up zlq19
        have hops3 := hops3.up zlq19
        refine j_ild4 hk dX3_hasSameOperations_19 rfl rfl ?_
        refine j_iconst (n := 5) hk dX3_hasSameOperations_20 ?_
        refine j_icmp_gt hk (by omega) (by omega) dX3_hasSameOperations_21 rfl (tgt := 151) (fun h21 => ?_) (fun h21 => ?_)
        · refine j_ild4 hk dX3_hasSameOperations_151 rfl rfl ?_
          refine f_iret hk he hA (jn_bool _) dX3_hasSameOperations_152 (by omega) (by omega) ?_
          exact ⟨congrArg (fun z => some (Value.int (jI z))) (by rw [show t = 5 by omega]), rfl⟩
        · refine f_new (fs := [.int (jI 0), .null, .int (jI 0)]) hE hk in_J2 tyJ2 tyJ2_ok q216 q183 q120 (show vwCl[10]? = some (RJ2, TJ2, 3) from rfl) (fun j hj => match j, hj with | 0, _ => rfl | 1, _ => rfl | 2, _ => rfl | j + 3, h => absurd h (by omega)) ⟨by omega, by omega⟩ dX3_hasSameOperations_24 ?_
          intro ad1
          refine j_dup hk rfl dX3_hasSameOperations_27 ?_
          refine f_callI (Wc := [[(ad1, .inr (10, [.int (jI 0), .null, .int (jI 0)]))]]) (Wr := []) hk hl0 (fc_J2_init hls hE hN (z := zq19) hzc (a := ad1) ) (fun _ h => Or.inl h) 0 q186 q120 q217 q185 rfl (by decide +kernel) rfl (by decide) (by omega) rfl (Nat.le_of_ble_eq_true rfl) dX3_hasSameOperations_28 ?_
          refine Or.inl ⟨rfl, ?_⟩
          rintro _ _ _ ⟨w15, rfl, rfl, rfl, hp5_0⟩ -
          refine f_W (W2 := [w15]) rfl ?_
          refine j_ast4 hk dX3_hasSameOperations_31 rfl ?_
          refine j_ald hk dX3_hasSameOperations_33 rfl ?_
          refine j_ild4 hk dX3_hasSameOperations_35 rfl rfl ?_
          refine j_top (z2 := ((t + 1 : Nat) : Int)) (by omega) ?_
          refine f_callS (Wc := []) (Wr := [w15]) hk hl0 (fc_J22_valueOf hls hE hN (z := zq19) hzc (n := t + 1) (by first | assumption | omega)) (fun _ h => Or.inl h) 1 (lw_S q925 q926 q141 q927) (by decide +kernel) rfl (by decide) (by omega) rfl (Nat.le_of_ble_eq_true rfl) dX3_hasSameOperations_36 ?_
          refine Or.inl ⟨rfl, ?_⟩
          rintro _ _ _ ⟨rfl, rfl, rfl⟩ -
          refine f_W (W2 := [w15]) rfl ?_
          obtain ⟨rm7, hrm7⟩ := alW.mem hp5_0
          refine f_callF (Wc := [w15]) (Wr := []) hE hk hl0 (fIn.of 0 rfl hrm7) (show vwCl[10]? = some (RJ2, TJ2, 3) from rfl) (fc_J2_add hls hE hN (z := zq19) hzc (a := ad1) (e := kInt E (128 + (t + 1))) (mc := 0) (li := []) (w0 := w15) (hp5_0) (elZ.nil) (okO.int (hN.int hzc (show t + 1 < 128 by omega))) (by show 0 < 33; omega)) (fun _ h => Or.inl h) 1 (lw_Fg q714 q717 q719 q120 q721) q716 q715 q720 q718 q222 (by decide +kernel) rfl (by decide) (by omega) rfl (Nat.le_of_ble_eq_true rfl) dX3_hasSameOperations_39 ?_
          refine Or.inl ⟨rfl, ?_⟩
          rintro _ _ _ ⟨w18, rfl, rfl, rfl, hp8_0⟩ -
          refine f_W (W2 := [w18]) rfl ?_
          refine j_pop hk rfl dX3_hasSameOperations_44 ?_
          refine j_ald4 hk dX3_hasSameOperations_45 rfl rfl ?_
          have h1l : ([t + 1] : List Nat).length = 1 := rfl
          refine f_freeze hk ?_
          intro z1 zl1 hm1
          have hzc := hzc.tr zl1
          have h := h.up zl1
          have h2 := h2.up zl1
          have hzs1 := zl1 _ hzs1
          have hals1 := hals1.up zl1
          have hops1 := hops1.up zl1
          have hzs3 := zl1 _ hzs3
          have hals3 := hals3.up zl1
          have hops3 := hops3.up zl1
          have hfz9 : alZ E z1 ad1 (0 + 1) (kIs E [t + 1]) := by
            have e9 : ([] ++ [(kInt E (128 + (t + 1)))]) = kIs E [t + 1] := rfl
            rw [← e9]
            exact alW.z hp8_0 hm1
          refine j_ald hk dX3_hasSameOperations_46 rfl ?_
          refine f_callV (Wc := []) (Wr := []) hE hk hl0 (.inl hzs1) (show vwCl[2]? = some (RX3, TX3, 1) from rfl) (fc_X3_arranged hls hE hN (z := z1) hzc (a := a) (ol := ad1) (s := s) (os := [t + 1]) (mo := 0 + 1) (h) (hfz9) (fun x hx => by rw [List.mem_singleton.mp hx]; omega) (by simp) (hl20)) (fun _ h => Or.inl h) 1 (lw_V q2237 q1940 q1941 q117 q1942) (by decide +kernel) rfl (by decide) (by omega) rfl (Nat.le_of_ble_eq_true rfl) dX3_hasSameOperations_48 ?_
          refine Or.inl ⟨rfl, ?_⟩
          rintro _ z2 _ ⟨r10, rfl, rfl, hp10_0⟩ zl2
          refine f_W (W2 := []) rfl ?_
          have hzc := hzc.tr zl2
          have h := h.up zl2
          have h2 := h2.up zl2
          have hzs1 := zl2 _ hzs1
          have hals1 := hals1.up zl2
          have hops1 := hops1.up zl2
          have hzs3 := zl2 _ hzs3
          have hals3 := hals3.up zl2
          have hops3 := hops3.up zl2
          have hfz9 := hfz9.up zl2
          obtain ⟨lss11, mss11, lis11, hzs11, hals11, hops11, hnds11⟩ := id hp10_0
          refine f_get hE hk in_X3 (.inl hzs11) (show vwCl[2]? = some (RX3, TX3, 1) from rfl) 0 (by decide) q803 (Or.inl rfl) rfl dX3_hasSameOperations_51 ?_
          refine j_ast5 hk dX3_hasSameOperations_54 rfl ?_
          refine j_ald4 hk dX3_hasSameOperations_56 rfl rfl ?_
          refine j_ald hk dX3_hasSameOperations_57 rfl ?_
          refine f_callV (Wc := []) (Wr := []) hE hk hl0 (.inl hzs3) (show vwCl[2]? = some (RX3, TX3, 1) from rfl) (fc_X3_arranged hls hE hN (z := z2) hzc (a := c) (ol := ad1) (s := m) (os := [t + 1]) (mo := 0 + 1) (h2) (hfz9) (fun x hx => by rw [List.mem_singleton.mp hx]; omega) (by simp) (hm20)) (fun _ h => Or.inl h) 1 (lw_V q2237 q1940 q1941 q117 q1942) (by decide +kernel) rfl (by decide) (by omega) rfl (Nat.le_of_ble_eq_true rfl) dX3_hasSameOperations_59 ?_
          refine Or.inl ⟨rfl, ?_⟩
          rintro _ z3 _ ⟨r12, rfl, rfl, hp12_0⟩ zl3
          refine f_W (W2 := []) rfl ?_
          have hzc := hzc.tr zl3
          have h := h.up zl3
          have h2 := h2.up zl3
          have hzs1 := zl3 _ hzs1
          have hals1 := hals1.up zl3
          have hops1 := hops1.up zl3
          have hzs3 := zl3 _ hzs3
          have hals3 := hals3.up zl3
          have hops3 := hops3.up zl3
          have hfz9 := hfz9.up zl3
          have hp10_0 := hp10_0.up zl3
          have hzs11 := zl3 _ hzs11
          have hals11 := hals11.up zl3
          have hops11 := hops11.up zl3
          obtain ⟨lss13, mss13, lis13, hzs13, hals13, hops13, hnds13⟩ := id hp12_0
          refine f_get hE hk in_X3 (.inl hzs13) (show vwCl[2]? = some (RX3, TX3, 1) from rfl) 0 (by decide) q803 (Or.inl rfl) rfl dX3_hasSameOperations_62 ?_
          refine j_ast6 hk dX3_hasSameOperations_65 rfl ?_
          refine j_ild4 hk dX3_hasSameOperations_67 rfl rfl ?_
          refine j_ald hk dX3_hasSameOperations_68 rfl ?_
          have hlA := (hops11).len
          have hlB := (hops13).len
          have hA1 := arr1_len (s := s) (t := t + 1)
          have hB1 := arr1_len (s := m) (t := t + 1)
          obtain ⟨qo14, capo14, fo14, hc1o14, hc2o14, hl1o14, hl2o14, hfo14⟩ := hals11.cell hN hzc
          refine f_callF (Wc := []) (Wr := []) hE hk hl0 (.inl hc1o14) (show vwCl[10]? = some (RJ2, TJ2, 3) from rfl) (fc_J2_size hls hE hN (z := z3) hzc (a := lss11) (mc := mss11) (li := lis11) (hals11)) (fun _ h => Or.inl h) 0 (lw_Fg q893 q896 q898 q120 q900) q895 q894 q899 q897 q222 (by decide +kernel) rfl (by decide) (by omega) rfl (Nat.le_of_ble_eq_true rfl) dX3_hasSameOperations_70 ?_
          refine Or.inl ⟨rfl, ?_⟩
          rintro _ _ _ ⟨rfl, rfl, rfl⟩ -
          refine f_W (W2 := []) rfl ?_
          refine j_ald hk dX3_hasSameOperations_75 rfl ?_
          obtain ⟨qo16, capo16, fo16, hc1o16, hc2o16, hl1o16, hl2o16, hfo16⟩ := hals13.cell hN hzc
          refine f_callF (Wc := []) (Wr := []) hE hk hl0 (.inl hc1o16) (show vwCl[10]? = some (RJ2, TJ2, 3) from rfl) (fc_J2_size hls hE hN (z := z3) hzc (a := lss13) (mc := mss13) (li := lis13) (hals13)) (fun _ h => Or.inl h) 0 (lw_Fg q893 q896 q898 q120 q900) q895 q894 q899 q897 q222 (by decide +kernel) rfl (by decide) (by omega) rfl (Nat.le_of_ble_eq_true rfl) dX3_hasSameOperations_77 ?_
          refine Or.inl ⟨rfl, ?_⟩
          rintro _ _ _ ⟨rfl, rfl, rfl⟩ -
          refine f_W (W2 := []) rfl ?_
          refine j_icmp_ne hk (by omega) (by omega) dX3_hasSameOperations_82 rfl (tgt := 89) (fun h82 => ?_) (fun h82 => ?_)
          · refine j_iconst (n := 0) hk dX3_hasSameOperations_89 ?_
            refine j_top (z2 := jB (decide ((arrL s [t + 1]).length = (arrL m [t + 1]).length))) (by first | (rw [decide_eq_true (show (arrL s [t + 1]).length = (arrL m [t + 1]).length by omega)]; rfl) | (rw [decide_eq_false (show ¬ (arrL s [t + 1]).length = (arrL m [t + 1]).length by omega)]; rfl)) ?_
            refine j_iandB hk dX3_hasSameOperations_90 ?_
            refine j_ist2 hk dX3_hasSameOperations_91 rfl ?_
            refine j_iconst (n := 0) hk dX3_hasSameOperations_92 ?_
            refine j_ist7 hk dX3_hasSameOperations_93 rfl ?_
            have loop95 : ∀ (fuel95 : Nat) (i : Nat) (x : Bool), (arrL s [t + 1]).length - i < fuel95 → i ≤ (arrL s [t + 1]).length → x = (smC s m t && (decide ((arrL s [t + 1]).length = (arrL m [t + 1]).length) && (List.range i).all (eqI (arrL s [t + 1]) (arrL m [t + 1])))) → jW K (fO K E z z3 []) (100 * t + 1 + 1 + (([t + 1]).length + 2 * s.length + 6) + (([t + 1]).length + 2 * m.length + 6)) (2800 * t + 3 + 33 + (4 * ([t + 1]).length + 66 * s.length + 20) + (4 * ([t + 1]).length + 66 * m.length + 20)) 95 [some (.ref a), some (.ref c), some (.int (jI (jB x))), some (.int (jI ((t + 1 : Nat) : Int))), some (.ref ad1), some (.ref lss11), some (.ref lss13), some (.int (jI ((i : Nat) : Int)))] [] := by
              intro fuel95
              induction fuel95 with
              | zero => intro i x hm; exact absurd hm (Nat.not_lt_zero _)
              | succ fuel95 ih95 =>
                intro i x hm95 hin hx
                refine j_ild4 hk dX3_hasSameOperations_95 rfl rfl ?_
                refine j_ifeqB hk dX3_hasSameOperations_96 rfl (tgt := 145) (fun h96 => ?_) (fun h96 => ?_)
                · refine j_iinc3 hk dX3_hasSameOperations_145 rfl ?_
                  refine j_loc (i := 2) (z2 := jB (smC s m (t + 1))) rfl (by rw [smC_S, hx]; unfold smT; first | (rw [show i = (arrL s [t + 1]).length by omega]) | (congr 1; exact sm_f hin (by rw [← hx]; exact h96))) ?_
                  refine j_goto (tgt := 19) hk dX3_hasSameOperations_148 rfl ?_
                  refine j_forget (i := 4) ?_
                  refine j_forget (i := 5) ?_
                  refine j_forget (i := 6) ?_
                  refine j_forget (i := 7) ?_
                  refine j_wide (k2 := 100 * (t + 1)) (n2 := 2800 * (t + 1)) (by omega) (by omega) ?_
                  exact ih19 z3 (t + 1) (by omega) (zlq19.tr (((zl1).tr zl2).tr zl3)) (by omega)
                · refine j_ild hk dX3_hasSameOperations_99 rfl ?_
                  refine j_ald hk dX3_hasSameOperations_101 rfl ?_
                  refine f_callF (Wc := []) (Wr := []) hE hk hl0 (.inl hc1o14) (show vwCl[10]? = some (RJ2, TJ2, 3) from rfl) (fc_J2_size hls hE hN (z := z3) hzc (a := lss11) (mc := mss11) (li := lis11) (hals11)) (fun _ h => Or.inl h) 0 (lw_Fg q893 q896 q898 q120 q900) q895 q894 q899 q897 q222 (by decide +kernel) rfl (by decide) (by omega) rfl (Nat.le_of_ble_eq_true rfl) dX3_hasSameOperations_103 ?_
                  refine Or.inl ⟨rfl, ?_⟩
                  rintro _ _ _ ⟨rfl, rfl, rfl⟩ -
                  refine f_W (W2 := []) rfl ?_
                  refine j_icmp_ge hk (by omega) (by omega) dX3_hasSameOperations_108 rfl (tgt := 145) (fun h108 => ?_) (fun h108 => ?_)
                  · refine j_iinc3 hk dX3_hasSameOperations_145 rfl ?_
                    refine j_loc (i := 2) (z2 := jB (smC s m (t + 1))) rfl (by rw [smC_S, hx]; unfold smT; first | (rw [show i = (arrL s [t + 1]).length by omega]) | (congr 1; exact sm_f hin (by rw [← hx]; exact h96))) ?_
                    refine j_goto (tgt := 19) hk dX3_hasSameOperations_148 rfl ?_
                    refine j_forget (i := 4) ?_
                    refine j_forget (i := 5) ?_
                    refine j_forget (i := 6) ?_
                    refine j_forget (i := 7) ?_
                    refine j_wide (k2 := 100 * (t + 1)) (n2 := 2800 * (t + 1)) (by omega) (by omega) ?_
                    exact ih19 z3 (t + 1) (by omega) (zlq19.tr (((zl1).tr zl2).tr zl3)) (by omega)
                  · have hxt := h96
                    rw [hx] at hxt
                    obtain ⟨hxt1, hxt2⟩ := Bool.and_eq_true_iff.mp hxt
                    obtain ⟨hxt2, hxt3⟩ := Bool.and_eq_true_iff.mp hxt2
                    have hle := of_decide_eq_true hxt2
                    obtain ⟨bA, hbA, hobA, hokA⟩ := hops11.at (i := i) (by omega)
                    obtain ⟨bB, hbB, hobB, hokB⟩ := hops13.at (i := i) (by omega)
                    refine j_ald hk dX3_hasSameOperations_111 rfl ?_
                    refine j_ild hk dX3_hasSameOperations_113 rfl ?_
                    refine f_callF (Wc := []) (Wr := []) hE hk hl0 (.inl hc1o14) (show vwCl[10]? = some (RJ2, TJ2, 3) from rfl) (fc_J2_get hls hE hN (z := z3) hzc (a := lss11) (i := i) (mc := mss11) (li := lis11) (b := bA) (hals11) (hbA)) (fun _ h => Or.inl h) 1 (lw_Fg q1201 q393 q395 q120 q397) q392 q391 q396 q394 q222 (by decide +kernel) rfl (by decide) (by omega) rfl (Nat.le_of_ble_eq_true rfl) dX3_hasSameOperations_115 ?_
                    refine Or.inl ⟨rfl, ?_⟩
                    rintro _ _ _ ⟨rfl, rfl, rfl⟩ -
                    refine f_W (W2 := []) rfl ?_
                    refine f_castS hE hk (.inl hobA) (show vwCl[5]? = some (RX6, TX6, 3) from rfl) q712 dX3_hasSameOperations_120 ?_
                    refine j_ald hk dX3_hasSameOperations_123 rfl ?_
                    refine j_ild hk dX3_hasSameOperations_125 rfl ?_
                    refine f_callF (Wc := []) (Wr := []) hE hk hl0 (.inl hc1o16) (show vwCl[10]? = some (RJ2, TJ2, 3) from rfl) (fc_J2_get hls hE hN (z := z3) hzc (a := lss13) (i := i) (mc := mss13) (li := lis13) (b := bB) (hals13) (hbB)) (fun _ h => Or.inl h) 1 (lw_Fg q1201 q393 q395 q120 q397) q392 q391 q396 q394 q222 (by decide +kernel) rfl (by decide) (by omega) rfl (Nat.le_of_ble_eq_true rfl) dX3_hasSameOperations_127 ?_
                    refine Or.inl ⟨rfl, ?_⟩
                    rintro _ _ _ ⟨rfl, rfl, rfl⟩ -
                    refine f_W (W2 := []) rfl ?_
                    refine f_castS hE hk (.inl hobB) (show vwCl[5]? = some (RX6, TX6, 3) from rfl) q712 dX3_hasSameOperations_132 ?_
                    refine f_callV (Wc := []) (Wr := []) hE hk hl0 (.inl hobA) (show vwCl[5]? = some (RX6, TX6, 3) from rfl) (fc_X6_isEqual hls hE hN (z := z3) hzc (a := bA) (b := bB) (o := opAt (arrL s [t + 1]) i) (o2 := opAt (arrL m [t + 1]) i) (hobA) (hokA) (hobB) (hokB)) (fun _ h => Or.inl h) 1 (lw_V q2238 q2239 q2240 q149 q2241) (by decide +kernel) rfl (by decide) (by omega) rfl (Nat.le_of_ble_eq_true rfl) dX3_hasSameOperations_135 ?_
                    refine Or.inl ⟨rfl, ?_⟩
                    rintro _ _ _ ⟨rfl, rfl, rfl⟩ -
                    refine f_W (W2 := []) rfl ?_
                    refine j_ist2 hk dX3_hasSameOperations_138 rfl ?_
                    have hx2 : eqI (arrL s [t + 1]) (arrL m [t + 1]) i = (smC s m t && (decide ((arrL s [t + 1]).length = (arrL m [t + 1]).length) && (List.range (i + 1)).all (eqI (arrL s [t + 1]) (arrL m [t + 1])))) := by rw [hxt1, hxt2, all_S, hxt3]; rfl
                    refine j_iinc7 hk dX3_hasSameOperations_139 rfl ?_
                    refine j_goto (tgt := 95) hk dX3_hasSameOperations_142 rfl ?_
                    exact ih95 (i + 1) (eqI (arrL s [t + 1]) (arrL m [t + 1]) i) (by omega) (by omega) (hx2)
            exact loop95 _ 0 (smC s m t && decide ((arrL s [t + 1]).length = (arrL m [t + 1]).length)) (Nat.lt_succ_self _) (Nat.zero_le _) (by simp)
          · refine j_iconst (n := 1) hk dX3_hasSameOperations_85 ?_
            refine j_goto (tgt := 90) hk dX3_hasSameOperations_86 rfl ?_
            refine j_top (z2 := jB (decide ((arrL s [t + 1]).length = (arrL m [t + 1]).length))) (by first | (rw [decide_eq_true (show (arrL s [t + 1]).length = (arrL m [t + 1]).length by omega)]; rfl) | (rw [decide_eq_false (show ¬ (arrL s [t + 1]).length = (arrL m [t + 1]).length by omega)]; rfl)) ?_
            refine j_iandB hk dX3_hasSameOperations_90 ?_
            refine j_ist2 hk dX3_hasSameOperations_91 rfl ?_
            refine j_iconst (n := 0) hk dX3_hasSameOperations_92 ?_
            refine j_ist7 hk dX3_hasSameOperations_93 rfl ?_
            have loop95 : ∀ (fuel95 : Nat) (i : Nat) (x : Bool), (arrL s [t + 1]).length - i < fuel95 → i ≤ (arrL s [t + 1]).length → x = (smC s m t && (decide ((arrL s [t + 1]).length = (arrL m [t + 1]).length) && (List.range i).all (eqI (arrL s [t + 1]) (arrL m [t + 1])))) → jW K (fO K E z z3 []) (100 * t + 1 + 1 + (([t + 1]).length + 2 * s.length + 6) + (([t + 1]).length + 2 * m.length + 6)) (2800 * t + 3 + 33 + (4 * ([t + 1]).length + 66 * s.length + 20) + (4 * ([t + 1]).length + 66 * m.length + 20)) 95 [some (.ref a), some (.ref c), some (.int (jI (jB x))), some (.int (jI ((t + 1 : Nat) : Int))), some (.ref ad1), some (.ref lss11), some (.ref lss13), some (.int (jI ((i : Nat) : Int)))] [] := by
              intro fuel95
              induction fuel95 with
              | zero => intro i x hm; exact absurd hm (Nat.not_lt_zero _)
              | succ fuel95 ih95 =>
                intro i x hm95 hin hx
                refine j_ild4 hk dX3_hasSameOperations_95 rfl rfl ?_
                refine j_ifeqB hk dX3_hasSameOperations_96 rfl (tgt := 145) (fun h96 => ?_) (fun h96 => ?_)
                · refine j_iinc3 hk dX3_hasSameOperations_145 rfl ?_
                  refine j_loc (i := 2) (z2 := jB (smC s m (t + 1))) rfl (by rw [smC_S, hx]; unfold smT; first | (rw [show i = (arrL s [t + 1]).length by omega]) | (congr 1; exact sm_f hin (by rw [← hx]; exact h96))) ?_
                  refine j_goto (tgt := 19) hk dX3_hasSameOperations_148 rfl ?_
                  refine j_forget (i := 4) ?_
                  refine j_forget (i := 5) ?_
                  refine j_forget (i := 6) ?_
                  refine j_forget (i := 7) ?_
                  refine j_wide (k2 := 100 * (t + 1)) (n2 := 2800 * (t + 1)) (by omega) (by omega) ?_
                  exact ih19 z3 (t + 1) (by omega) (zlq19.tr (((zl1).tr zl2).tr zl3)) (by omega)
                · refine j_ild hk dX3_hasSameOperations_99 rfl ?_
                  refine j_ald hk dX3_hasSameOperations_101 rfl ?_
                  refine f_callF (Wc := []) (Wr := []) hE hk hl0 (.inl hc1o14) (show vwCl[10]? = some (RJ2, TJ2, 3) from rfl) (fc_J2_size hls hE hN (z := z3) hzc (a := lss11) (mc := mss11) (li := lis11) (hals11)) (fun _ h => Or.inl h) 0 (lw_Fg q893 q896 q898 q120 q900) q895 q894 q899 q897 q222 (by decide +kernel) rfl (by decide) (by omega) rfl (Nat.le_of_ble_eq_true rfl) dX3_hasSameOperations_103 ?_
                  refine Or.inl ⟨rfl, ?_⟩
                  rintro _ _ _ ⟨rfl, rfl, rfl⟩ -
                  refine f_W (W2 := []) rfl ?_
                  refine j_icmp_ge hk (by omega) (by omega) dX3_hasSameOperations_108 rfl (tgt := 145) (fun h108 => ?_) (fun h108 => ?_)
                  · refine j_iinc3 hk dX3_hasSameOperations_145 rfl ?_
                    refine j_loc (i := 2) (z2 := jB (smC s m (t + 1))) rfl (by rw [smC_S, hx]; unfold smT; first | (rw [show i = (arrL s [t + 1]).length by omega]) | (congr 1; exact sm_f hin (by rw [← hx]; exact h96))) ?_
                    refine j_goto (tgt := 19) hk dX3_hasSameOperations_148 rfl ?_
                    refine j_forget (i := 4) ?_
                    refine j_forget (i := 5) ?_
                    refine j_forget (i := 6) ?_
                    refine j_forget (i := 7) ?_
                    refine j_wide (k2 := 100 * (t + 1)) (n2 := 2800 * (t + 1)) (by omega) (by omega) ?_
                    exact ih19 z3 (t + 1) (by omega) (zlq19.tr (((zl1).tr zl2).tr zl3)) (by omega)
                  · have hxt := h96
                    rw [hx] at hxt
                    obtain ⟨hxt1, hxt2⟩ := Bool.and_eq_true_iff.mp hxt
                    obtain ⟨hxt2, hxt3⟩ := Bool.and_eq_true_iff.mp hxt2
                    have hle := of_decide_eq_true hxt2
                    obtain ⟨bA, hbA, hobA, hokA⟩ := hops11.at (i := i) (by omega)
                    obtain ⟨bB, hbB, hobB, hokB⟩ := hops13.at (i := i) (by omega)
                    refine j_ald hk dX3_hasSameOperations_111 rfl ?_
                    refine j_ild hk dX3_hasSameOperations_113 rfl ?_
                    refine f_callF (Wc := []) (Wr := []) hE hk hl0 (.inl hc1o14) (show vwCl[10]? = some (RJ2, TJ2, 3) from rfl) (fc_J2_get hls hE hN (z := z3) hzc (a := lss11) (i := i) (mc := mss11) (li := lis11) (b := bA) (hals11) (hbA)) (fun _ h => Or.inl h) 1 (lw_Fg q1201 q393 q395 q120 q397) q392 q391 q396 q394 q222 (by decide +kernel) rfl (by decide) (by omega) rfl (Nat.le_of_ble_eq_true rfl) dX3_hasSameOperations_115 ?_
                    refine Or.inl ⟨rfl, ?_⟩
                    rintro _ _ _ ⟨rfl, rfl, rfl⟩ -
                    refine f_W (W2 := []) rfl ?_
                    refine f_castS hE hk (.inl hobA) (show vwCl[5]? = some (RX6, TX6, 3) from rfl) q712 dX3_hasSameOperations_120 ?_
                    refine j_ald hk dX3_hasSameOperations_123 rfl ?_
                    refine j_ild hk dX3_hasSameOperations_125 rfl ?_
                    refine f_callF (Wc := []) (Wr := []) hE hk hl0 (.inl hc1o16) (show vwCl[10]? = some (RJ2, TJ2, 3) from rfl) (fc_J2_get hls hE hN (z := z3) hzc (a := lss13) (i := i) (mc := mss13) (li := lis13) (b := bB) (hals13) (hbB)) (fun _ h => Or.inl h) 1 (lw_Fg q1201 q393 q395 q120 q397) q392 q391 q396 q394 q222 (by decide +kernel) rfl (by decide) (by omega) rfl (Nat.le_of_ble_eq_true rfl) dX3_hasSameOperations_127 ?_
                    refine Or.inl ⟨rfl, ?_⟩
                    rintro _ _ _ ⟨rfl, rfl, rfl⟩ -
                    refine f_W (W2 := []) rfl ?_
                    refine f_castS hE hk (.inl hobB) (show vwCl[5]? = some (RX6, TX6, 3) from rfl) q712 dX3_hasSameOperations_132 ?_
                    refine f_callV (Wc := []) (Wr := []) hE hk hl0 (.inl hobA) (show vwCl[5]? = some (RX6, TX6, 3) from rfl) (fc_X6_isEqual hls hE hN (z := z3) hzc (a := bA) (b := bB) (o := opAt (arrL s [t + 1]) i) (o2 := opAt (arrL m [t + 1]) i) (hobA) (hokA) (hobB) (hokB)) (fun _ h => Or.inl h) 1 (lw_V q2238 q2239 q2240 q149 q2241) (by decide +kernel) rfl (by decide) (by omega) rfl (Nat.le_of_ble_eq_true rfl) dX3_hasSameOperations_135 ?_
                    refine Or.inl ⟨rfl, ?_⟩
                    rintro _ _ _ ⟨rfl, rfl, rfl⟩ -
                    refine f_W (W2 := []) rfl ?_
                    refine j_ist2 hk dX3_hasSameOperations_138 rfl ?_
                    have hx2 : eqI (arrL s [t + 1]) (arrL m [t + 1]) i = (smC s m t && (decide ((arrL s [t + 1]).length = (arrL m [t + 1]).length) && (List.range (i + 1)).all (eqI (arrL s [t + 1]) (arrL m [t + 1])))) := by rw [hxt1, hxt2, all_S, hxt3]; rfl
                    refine j_iinc7 hk dX3_hasSameOperations_139 rfl ?_
                    refine j_goto (tgt := 95) hk dX3_hasSameOperations_142 rfl ?_
                    exact ih95 (i + 1) (eqI (arrL s [t + 1]) (arrL m [t + 1]) i) (by omega) (by omega) (hx2)
            exact loop95 _ 0 (smC s m t && decide ((arrL s [t + 1]).length = (arrL m [t + 1]).length)) (Nat.lt_succ_self _) (Nat.zero_le _) (by simp)
    refine j_wide (k2 := 100 * 0) (n2 := 2800 * 0) (by omega) (by omega) ?_
    exact loop19 _ z 0 (Nat.lt_succ_self _) (zLe.rf) (Nat.zero_le _)
  · refine j_iconst (n := 1) hk dX3_hasSameOperations_11 ?_
    refine j_goto (tgt := 16) hk dX3_hasSameOperations_12 rfl ?_
    refine j_ist2 hk dX3_hasSameOperations_16 rfl ?_
    refine j_loc (i := 2) (z2 := jB (smC s m 0)) rfl (by first | (rw [show smC s m 0 = true by unfold smC; rw [decide_eq_true (show s.length = m.length by omega)]; rfl]; rfl) | (rw [show smC s m 0 = false by unfold smC; rw [decide_eq_false (show ¬ s.length = m.length by omega)]; rfl]; rfl)) ?_
    refine j_iconst (n := 1) hk dX3_hasSameOperations_17 ?_
    refine j_ist3 hk dX3_hasSameOperations_18 rfl ?_
    have loop19 : ∀ (fuel19 : Nat) (zq19 : jZ) (t : Nat), 5 - t < fuel19 → zLe z zq19 → t ≤ 5 → jW K (fO K E z zq19 []) (100 * t) (2800 * t) 19 [some (.ref a), some (.ref c), some (.int (jI (jB (smC s m t)))), some (.int (jI ((t + 1 : Nat) : Int))), none, none, none, none] [] := by
      intro fuel19
      induction fuel19 with
      | zero => intro zq19 t hm; exact absurd hm (Nat.not_lt_zero _)
      | succ fuel19 ih19 =>
        intro zq19 t hm19 zlq19 ht5
        have hzc := hzc.tr zlq19
        have h := h.up zlq19
        have h2 := h2.up zlq19
        have hzs1 := zlq19 _ hzs1
        have hals1 := hals1.up zlq19
        have hops1 := hops1.up zlq19
        have hzs3 := zlq19 _ hzs3
        have hals3 := hals3.up zlq19
        have hops3 := hops3.up zlq19
        refine j_ild4 hk dX3_hasSameOperations_19 rfl rfl ?_
        refine j_iconst (n := 5) hk dX3_hasSameOperations_20 ?_
        refine j_icmp_gt hk (by omega) (by omega) dX3_hasSameOperations_21 rfl (tgt := 151) (fun h21 => ?_) (fun h21 => ?_)
        · refine j_ild4 hk dX3_hasSameOperations_151 rfl rfl ?_
          refine f_iret hk he hA (jn_bool _) dX3_hasSameOperations_152 (by omega) (by omega) ?_
          exact ⟨congrArg (fun z => some (Value.int (jI z))) (by rw [show t = 5 by omega]), rfl⟩
        · refine f_new (fs := [.int (jI 0), .null, .int (jI 0)]) hE hk in_J2 tyJ2 tyJ2_ok q216 q183 q120 (show vwCl[10]? = some (RJ2, TJ2, 3) from rfl) (fun j hj => match j, hj with | 0, _ => rfl | 1, _ => rfl | 2, _ => rfl | j + 3, h => absurd h (by omega)) ⟨by omega, by omega⟩ dX3_hasSameOperations_24 ?_
          intro ad2
          refine j_dup hk rfl dX3_hasSameOperations_27 ?_
          refine f_callI (Wc := [[(ad2, .inr (10, [.int (jI 0), .null, .int (jI 0)]))]]) (Wr := []) hk hl0 (fc_J2_init hls hE hN (z := zq19) hzc (a := ad2) ) (fun _ h => Or.inl h) 0 q186 q120 q217 q185 rfl (by decide +kernel) rfl (by decide) (by omega) rfl (Nat.le_of_ble_eq_true rfl) dX3_hasSameOperations_28 ?_
          refine Or.inl ⟨rfl, ?_⟩
          rintro _ _ _ ⟨w126, rfl, rfl, rfl, hp26_0⟩ -
          refine f_W (W2 := [w126]) rfl ?_
          refine j_ast4 hk dX3_hasSameOperations_31 rfl ?_
          refine j_ald hk dX3_hasSameOperations_33 rfl ?_
          refine j_ild4 hk dX3_hasSameOperations_35 rfl rfl ?_
          refine j_top (z2 := ((t + 1 : Nat) : Int)) (by omega) ?_
          refine f_callS (Wc := []) (Wr := [w126]) hk hl0 (fc_J22_valueOf hls hE hN (z := zq19) hzc (n := t + 1) (by first | assumption | omega)) (fun _ h => Or.inl h) 1 (lw_S q925 q926 q141 q927) (by decide +kernel) rfl (by decide) (by omega) rfl (Nat.le_of_ble_eq_true rfl) dX3_hasSameOperations_36 ?_
          refine Or.inl ⟨rfl, ?_⟩
          rintro _ _ _ ⟨rfl, rfl, rfl⟩ -
          refine f_W (W2 := [w126]) rfl ?_
          obtain ⟨rm28, hrm28⟩ := alW.mem hp26_0
          refine f_callF (Wc := [w126]) (Wr := []) hE hk hl0 (fIn.of 0 rfl hrm28) (show vwCl[10]? = some (RJ2, TJ2, 3) from rfl) (fc_J2_add hls hE hN (z := zq19) hzc (a := ad2) (e := kInt E (128 + (t + 1))) (mc := 0) (li := []) (w0 := w126) (hp26_0) (elZ.nil) (okO.int (hN.int hzc (show t + 1 < 128 by omega))) (by show 0 < 33; omega)) (fun _ h => Or.inl h) 1 (lw_Fg q714 q717 q719 q120 q721) q716 q715 q720 q718 q222 (by decide +kernel) rfl (by decide) (by omega) rfl (Nat.le_of_ble_eq_true rfl) dX3_hasSameOperations_39 ?_
          refine Or.inl ⟨rfl, ?_⟩
          rintro _ _ _ ⟨w129, rfl, rfl, rfl, hp29_0⟩ -
          refine f_W (W2 := [w129]) rfl ?_
          refine j_pop hk rfl dX3_hasSameOperations_44 ?_
          refine j_ald4 hk dX3_hasSameOperations_45 rfl rfl ?_
          have h1l : ([t + 1] : List Nat).length = 1 := rfl
          refine f_freeze hk ?_
          intro z4 zl4 hm4
          have hzc := hzc.tr zl4
          have h := h.up zl4
          have h2 := h2.up zl4
          have hzs1 := zl4 _ hzs1
          have hals1 := hals1.up zl4
          have hops1 := hops1.up zl4
          have hzs3 := zl4 _ hzs3
          have hals3 := hals3.up zl4
          have hops3 := hops3.up zl4
          have hfz30 : alZ E z4 ad2 (0 + 1) (kIs E [t + 1]) := by
            have e9 : ([] ++ [(kInt E (128 + (t + 1)))]) = kIs E [t + 1] := rfl
            rw [← e9]
            exact alW.z hp29_0 hm4
          refine j_ald hk dX3_hasSameOperations_46 rfl ?_
          refine f_callV (Wc := []) (Wr := []) hE hk hl0 (.inl hzs1) (show vwCl[2]? = some (RX3, TX3, 1) from rfl) (fc_X3_arranged hls hE hN (z := z4) hzc (a := a) (ol := ad2) (s := s) (os := [t + 1]) (mo := 0 + 1) (h) (hfz30) (fun x hx => by rw [List.mem_singleton.mp hx]; omega) (by simp) (hl20)) (fun _ h => Or.inl h) 1 (lw_V q2237 q1940 q1941 q117 q1942) (by decide +kernel) rfl (by decide) (by omega) rfl (Nat.le_of_ble_eq_true rfl) dX3_hasSameOperations_48 ?_
          refine Or.inl ⟨rfl, ?_⟩
          rintro _ z5 _ ⟨r31, rfl, rfl, hp31_0⟩ zl5
          refine f_W (W2 := []) rfl ?_
          have hzc := hzc.tr zl5
          have h := h.up zl5
          have h2 := h2.up zl5
          have hzs1 := zl5 _ hzs1
          have hals1 := hals1.up zl5
          have hops1 := hops1.up zl5
          have hzs3 := zl5 _ hzs3
          have hals3 := hals3.up zl5
          have hops3 := hops3.up zl5
          have hfz30 := hfz30.up zl5
          obtain ⟨lss32, mss32, lis32, hzs32, hals32, hops32, hnds32⟩ := id hp31_0
          refine f_get hE hk in_X3 (.inl hzs32) (show vwCl[2]? = some (RX3, TX3, 1) from rfl) 0 (by decide) q803 (Or.inl rfl) rfl dX3_hasSameOperations_51 ?_
          refine j_ast5 hk dX3_hasSameOperations_54 rfl ?_
          refine j_ald4 hk dX3_hasSameOperations_56 rfl rfl ?_
          refine j_ald hk dX3_hasSameOperations_57 rfl ?_
          refine f_callV (Wc := []) (Wr := []) hE hk hl0 (.inl hzs3) (show vwCl[2]? = some (RX3, TX3, 1) from rfl) (fc_X3_arranged hls hE hN (z := z5) hzc (a := c) (ol := ad2) (s := m) (os := [t + 1]) (mo := 0 + 1) (h2) (hfz30) (fun x hx => by rw [List.mem_singleton.mp hx]; omega) (by simp) (hm20)) (fun _ h => Or.inl h) 1 (lw_V q2237 q1940 q1941 q117 q1942) (by decide +kernel) rfl (by decide) (by omega) rfl (Nat.le_of_ble_eq_true rfl) dX3_hasSameOperations_59 ?_
          refine Or.inl ⟨rfl, ?_⟩
          rintro _ z6 _ ⟨r33, rfl, rfl, hp33_0⟩ zl6
          refine f_W (W2 := []) rfl ?_
          have hzc := hzc.tr zl6
          have h := h.up zl6
          have h2 := h2.up zl6
          have hzs1 := zl6 _ hzs1
          have hals1 := hals1.up zl6
          have hops1 := hops1.up zl6
          have hzs3 := zl6 _ hzs3
          have hals3 := hals3.up zl6
          have hops3 := hops3.up zl6
          have hfz30 := hfz30.up zl6
          have hp31_0 := hp31_0.up zl6
          have hzs32 := zl6 _ hzs32
          have hals32 := hals32.up zl6
          have hops32 := hops32.up zl6
          obtain ⟨lss34, mss34, lis34, hzs34, hals34, hops34, hnds34⟩ := id hp33_0
          refine f_get hE hk in_X3 (.inl hzs34) (show vwCl[2]? = some (RX3, TX3, 1) from rfl) 0 (by decide) q803 (Or.inl rfl) rfl dX3_hasSameOperations_62 ?_
          refine j_ast6 hk dX3_hasSameOperations_65 rfl ?_
          refine j_ild4 hk dX3_hasSameOperations_67 rfl rfl ?_
          refine j_ald hk dX3_hasSameOperations_68 rfl ?_
          have hlA := (hops32).len
          have hlB := (hops34).len
          have hA1 := arr1_len (s := s) (t := t + 1)
          have hB1 := arr1_len (s := m) (t := t + 1)
          obtain ⟨qo35, capo35, fo35, hc1o35, hc2o35, hl1o35, hl2o35, hfo35⟩ := hals32.cell hN hzc
          refine f_callF (Wc := []) (Wr := []) hE hk hl0 (.inl hc1o35) (show vwCl[10]? = some (RJ2, TJ2, 3) from rfl) (fc_J2_size hls hE hN (z := z6) hzc (a := lss32) (mc := mss32) (li := lis32) (hals32)) (fun _ h => Or.inl h) 0 (lw_Fg q893 q896 q898 q120 q900) q895 q894 q899 q897 q222 (by decide +kernel) rfl (by decide) (by omega) rfl (Nat.le_of_ble_eq_true rfl) dX3_hasSameOperations_70 ?_
          refine Or.inl ⟨rfl, ?_⟩
          rintro _ _ _ ⟨rfl, rfl, rfl⟩ -
          refine f_W (W2 := []) rfl ?_
          refine j_ald hk dX3_hasSameOperations_75 rfl ?_
          obtain ⟨qo37, capo37, fo37, hc1o37, hc2o37, hl1o37, hl2o37, hfo37⟩ := hals34.cell hN hzc
          refine f_callF (Wc := []) (Wr := []) hE hk hl0 (.inl hc1o37) (show vwCl[10]? = some (RJ2, TJ2, 3) from rfl) (fc_J2_size hls hE hN (z := z6) hzc (a := lss34) (mc := mss34) (li := lis34) (hals34)) (fun _ h => Or.inl h) 0 (lw_Fg q893 q896 q898 q120 q900) q895 q894 q899 q897 q222 (by decide +kernel) rfl (by decide) (by omega) rfl (Nat.le_of_ble_eq_true rfl) dX3_hasSameOperations_77 ?_
          refine Or.inl ⟨rfl, ?_⟩
          rintro _ _ _ ⟨rfl, rfl, rfl⟩ -
          refine f_W (W2 := []) rfl ?_
          refine j_icmp_ne hk (by omega) (by omega) dX3_hasSameOperations_82 rfl (tgt := 89) (fun h82 => ?_) (fun h82 => ?_)
          · refine j_iconst (n := 0) hk dX3_hasSameOperations_89 ?_
            refine j_top (z2 := jB (decide ((arrL s [t + 1]).length = (arrL m [t + 1]).length))) (by first | (rw [decide_eq_true (show (arrL s [t + 1]).length = (arrL m [t + 1]).length by omega)]; rfl) | (rw [decide_eq_false (show ¬ (arrL s [t + 1]).length = (arrL m [t + 1]).length by omega)]; rfl)) ?_
            refine j_iandB hk dX3_hasSameOperations_90 ?_
            refine j_ist2 hk dX3_hasSameOperations_91 rfl ?_
            refine j_iconst (n := 0) hk dX3_hasSameOperations_92 ?_
            refine j_ist7 hk dX3_hasSameOperations_93 rfl ?_
            have loop95 : ∀ (fuel95 : Nat) (i : Nat) (x : Bool), (arrL s [t + 1]).length - i < fuel95 → i ≤ (arrL s [t + 1]).length → x = (smC s m t && (decide ((arrL s [t + 1]).length = (arrL m [t + 1]).length) && (List.range i).all (eqI (arrL s [t + 1]) (arrL m [t + 1])))) → jW K (fO K E z z6 []) (100 * t + 1 + 1 + (([t + 1]).length + 2 * s.length + 6) + (([t + 1]).length + 2 * m.length + 6)) (2800 * t + 3 + 33 + (4 * ([t + 1]).length + 66 * s.length + 20) + (4 * ([t + 1]).length + 66 * m.length + 20)) 95 [some (.ref a), some (.ref c), some (.int (jI (jB x))), some (.int (jI ((t + 1 : Nat) : Int))), some (.ref ad2), some (.ref lss32), some (.ref lss34), some (.int (jI ((i : Nat) : Int)))] [] := by
              intro fuel95
              induction fuel95 with
              | zero => intro i x hm; exact absurd hm (Nat.not_lt_zero _)
              | succ fuel95 ih95 =>
                intro i x hm95 hin hx
                refine j_ild4 hk dX3_hasSameOperations_95 rfl rfl ?_
                refine j_ifeqB hk dX3_hasSameOperations_96 rfl (tgt := 145) (fun h96 => ?_) (fun h96 => ?_)
                · refine j_iinc3 hk dX3_hasSameOperations_145 rfl ?_
                  refine j_loc (i := 2) (z2 := jB (smC s m (t + 1))) rfl (by rw [smC_S, hx]; unfold smT; first | (rw [show i = (arrL s [t + 1]).length by omega]) | (congr 1; exact sm_f hin (by rw [← hx]; exact h96))) ?_
                  refine j_goto (tgt := 19) hk dX3_hasSameOperations_148 rfl ?_
                  refine j_forget (i := 4) ?_
                  refine j_forget (i := 5) ?_
                  refine j_forget (i := 6) ?_
                  refine j_forget (i := 7) ?_
                  refine j_wide (k2 := 100 * (t + 1)) (n2 := 2800 * (t + 1)) (by omega) (by omega) ?_
                  exact ih19 z6 (t + 1) (by omega) (zlq19.tr (((zl4).tr zl5).tr zl6)) (by omega)
                · refine j_ild hk dX3_hasSameOperations_99 rfl ?_
                  refine j_ald hk dX3_hasSameOperations_101 rfl ?_
                  refine f_callF (Wc := []) (Wr := []) hE hk hl0 (.inl hc1o35) (show vwCl[10]? = some (RJ2, TJ2, 3) from rfl) (fc_J2_size hls hE hN (z := z6) hzc (a := lss32) (mc := mss32) (li := lis32) (hals32)) (fun _ h => Or.inl h) 0 (lw_Fg q893 q896 q898 q120 q900) q895 q894 q899 q897 q222 (by decide +kernel) rfl (by decide) (by omega) rfl (Nat.le_of_ble_eq_true rfl) dX3_hasSameOperations_103 ?_
                  refine Or.inl ⟨rfl, ?_⟩
                  rintro _ _ _ ⟨rfl, rfl, rfl⟩ -
                  refine f_W (W2 := []) rfl ?_
                  refine j_icmp_ge hk (by omega) (by omega) dX3_hasSameOperations_108 rfl (tgt := 145) (fun h108 => ?_) (fun h108 => ?_)
                  · refine j_iinc3 hk dX3_hasSameOperations_145 rfl ?_
                    refine j_loc (i := 2) (z2 := jB (smC s m (t + 1))) rfl (by rw [smC_S, hx]; unfold smT; first | (rw [show i = (arrL s [t + 1]).length by omega]) | (congr 1; exact sm_f hin (by rw [← hx]; exact h96))) ?_
                    refine j_goto (tgt := 19) hk dX3_hasSameOperations_148 rfl ?_
                    refine j_forget (i := 4) ?_
                    refine j_forget (i := 5) ?_
                    refine j_forget (i := 6) ?_
                    refine j_forget (i := 7) ?_
                    refine j_wide (k2 := 100 * (t + 1)) (n2 := 2800 * (t + 1)) (by omega) (by omega) ?_
                    exact ih19 z6 (t + 1) (by omega) (zlq19.tr (((zl4).tr zl5).tr zl6)) (by omega)
                  · have hxt := h96
                    rw [hx] at hxt
                    obtain ⟨hxt1, hxt2⟩ := Bool.and_eq_true_iff.mp hxt
                    obtain ⟨hxt2, hxt3⟩ := Bool.and_eq_true_iff.mp hxt2
                    have hle := of_decide_eq_true hxt2
                    obtain ⟨bA, hbA, hobA, hokA⟩ := hops32.at (i := i) (by omega)
                    obtain ⟨bB, hbB, hobB, hokB⟩ := hops34.at (i := i) (by omega)
                    refine j_ald hk dX3_hasSameOperations_111 rfl ?_
                    refine j_ild hk dX3_hasSameOperations_113 rfl ?_
                    refine f_callF (Wc := []) (Wr := []) hE hk hl0 (.inl hc1o35) (show vwCl[10]? = some (RJ2, TJ2, 3) from rfl) (fc_J2_get hls hE hN (z := z6) hzc (a := lss32) (i := i) (mc := mss32) (li := lis32) (b := bA) (hals32) (hbA)) (fun _ h => Or.inl h) 1 (lw_Fg q1201 q393 q395 q120 q397) q392 q391 q396 q394 q222 (by decide +kernel) rfl (by decide) (by omega) rfl (Nat.le_of_ble_eq_true rfl) dX3_hasSameOperations_115 ?_
                    refine Or.inl ⟨rfl, ?_⟩
                    rintro _ _ _ ⟨rfl, rfl, rfl⟩ -
                    refine f_W (W2 := []) rfl ?_
                    refine f_castS hE hk (.inl hobA) (show vwCl[5]? = some (RX6, TX6, 3) from rfl) q712 dX3_hasSameOperations_120 ?_
                    refine j_ald hk dX3_hasSameOperations_123 rfl ?_
                    refine j_ild hk dX3_hasSameOperations_125 rfl ?_
                    refine f_callF (Wc := []) (Wr := []) hE hk hl0 (.inl hc1o37) (show vwCl[10]? = some (RJ2, TJ2, 3) from rfl) (fc_J2_get hls hE hN (z := z6) hzc (a := lss34) (i := i) (mc := mss34) (li := lis34) (b := bB) (hals34) (hbB)) (fun _ h => Or.inl h) 1 (lw_Fg q1201 q393 q395 q120 q397) q392 q391 q396 q394 q222 (by decide +kernel) rfl (by decide) (by omega) rfl (Nat.le_of_ble_eq_true rfl) dX3_hasSameOperations_127 ?_
                    refine Or.inl ⟨rfl, ?_⟩
                    rintro _ _ _ ⟨rfl, rfl, rfl⟩ -
                    refine f_W (W2 := []) rfl ?_
                    refine f_castS hE hk (.inl hobB) (show vwCl[5]? = some (RX6, TX6, 3) from rfl) q712 dX3_hasSameOperations_132 ?_
                    refine f_callV (Wc := []) (Wr := []) hE hk hl0 (.inl hobA) (show vwCl[5]? = some (RX6, TX6, 3) from rfl) (fc_X6_isEqual hls hE hN (z := z6) hzc (a := bA) (b := bB) (o := opAt (arrL s [t + 1]) i) (o2 := opAt (arrL m [t + 1]) i) (hobA) (hokA) (hobB) (hokB)) (fun _ h => Or.inl h) 1 (lw_V q2238 q2239 q2240 q149 q2241) (by decide +kernel) rfl (by decide) (by omega) rfl (Nat.le_of_ble_eq_true rfl) dX3_hasSameOperations_135 ?_
                    refine Or.inl ⟨rfl, ?_⟩
                    rintro _ _ _ ⟨rfl, rfl, rfl⟩ -
                    refine f_W (W2 := []) rfl ?_
                    refine j_ist2 hk dX3_hasSameOperations_138 rfl ?_
                    have hx2 : eqI (arrL s [t + 1]) (arrL m [t + 1]) i = (smC s m t && (decide ((arrL s [t + 1]).length = (arrL m [t + 1]).length) && (List.range (i + 1)).all (eqI (arrL s [t + 1]) (arrL m [t + 1])))) := by rw [hxt1, hxt2, all_S, hxt3]; rfl
                    refine j_iinc7 hk dX3_hasSameOperations_139 rfl ?_
                    refine j_goto (tgt := 95) hk dX3_hasSameOperations_142 rfl ?_
                    exact ih95 (i + 1) (eqI (arrL s [t + 1]) (arrL m [t + 1]) i) (by omega) (by omega) (hx2)
            exact loop95 _ 0 (smC s m t && decide ((arrL s [t + 1]).length = (arrL m [t + 1]).length)) (Nat.lt_succ_self _) (Nat.zero_le _) (by simp)
          · refine j_iconst (n := 1) hk dX3_hasSameOperations_85 ?_
            refine j_goto (tgt := 90) hk dX3_hasSameOperations_86 rfl ?_
            refine j_top (z2 := jB (decide ((arrL s [t + 1]).length = (arrL m [t + 1]).length))) (by first | (rw [decide_eq_true (show (arrL s [t + 1]).length = (arrL m [t + 1]).length by omega)]; rfl) | (rw [decide_eq_false (show ¬ (arrL s [t + 1]).length = (arrL m [t + 1]).length by omega)]; rfl)) ?_
            refine j_iandB hk dX3_hasSameOperations_90 ?_
            refine j_ist2 hk dX3_hasSameOperations_91 rfl ?_
            refine j_iconst (n := 0) hk dX3_hasSameOperations_92 ?_
            refine j_ist7 hk dX3_hasSameOperations_93 rfl ?_
            have loop95 : ∀ (fuel95 : Nat) (i : Nat) (x : Bool), (arrL s [t + 1]).length - i < fuel95 → i ≤ (arrL s [t + 1]).length → x = (smC s m t && (decide ((arrL s [t + 1]).length = (arrL m [t + 1]).length) && (List.range i).all (eqI (arrL s [t + 1]) (arrL m [t + 1])))) → jW K (fO K E z z6 []) (100 * t + 1 + 1 + (([t + 1]).length + 2 * s.length + 6) + (([t + 1]).length + 2 * m.length + 6)) (2800 * t + 3 + 33 + (4 * ([t + 1]).length + 66 * s.length + 20) + (4 * ([t + 1]).length + 66 * m.length + 20)) 95 [some (.ref a), some (.ref c), some (.int (jI (jB x))), some (.int (jI ((t + 1 : Nat) : Int))), some (.ref ad2), some (.ref lss32), some (.ref lss34), some (.int (jI ((i : Nat) : Int)))] [] := by
              intro fuel95
              induction fuel95 with
              | zero => intro i x hm; exact absurd hm (Nat.not_lt_zero _)
              | succ fuel95 ih95 =>
                intro i x hm95 hin hx
                refine j_ild4 hk dX3_hasSameOperations_95 rfl rfl ?_
                refine j_ifeqB hk dX3_hasSameOperations_96 rfl (tgt := 145) (fun h96 => ?_) (fun h96 => ?_)
                · refine j_iinc3 hk dX3_hasSameOperations_145 rfl ?_
                  refine j_loc (i := 2) (z2 := jB (smC s m (t + 1))) rfl (by rw [smC_S, hx]; unfold smT; first | (rw [show i = (arrL s [t + 1]).length by omega]) | (congr 1; exact sm_f hin (by rw [← hx]; exact h96))) ?_
                  refine j_goto (tgt := 19) hk dX3_hasSameOperations_148 rfl ?_
                  refine j_forget (i := 4) ?_
                  refine j_forget (i := 5) ?_
                  refine j_forget (i := 6) ?_
                  refine j_forget (i := 7) ?_
                  refine j_wide (k2 := 100 * (t + 1)) (n2 := 2800 * (t + 1)) (by omega) (by omega) ?_
                  exact ih19 z6 (t + 1) (by omega) (zlq19.tr (((zl4).tr zl5).tr zl6)) (by omega)
                · refine j_ild hk dX3_hasSameOperations_99 rfl ?_
                  refine j_ald hk dX3_hasSameOperations_101 rfl ?_
                  refine f_callF (Wc := []) (Wr := []) hE hk hl0 (.inl hc1o35) (show vwCl[10]? = some (RJ2, TJ2, 3) from rfl) (fc_J2_size hls hE hN (z := z6) hzc (a := lss32) (mc := mss32) (li := lis32) (hals32)) (fun _ h => Or.inl h) 0 (lw_Fg q893 q896 q898 q120 q900) q895 q894 q899 q897 q222 (by decide +kernel) rfl (by decide) (by omega) rfl (Nat.le_of_ble_eq_true rfl) dX3_hasSameOperations_103 ?_
                  refine Or.inl ⟨rfl, ?_⟩
                  rintro _ _ _ ⟨rfl, rfl, rfl⟩ -
                  refine f_W (W2 := []) rfl ?_
                  refine j_icmp_ge hk (by omega) (by omega) dX3_hasSameOperations_108 rfl (tgt := 145) (fun h108 => ?_) (fun h108 => ?_)
                  · refine j_iinc3 hk dX3_hasSameOperations_145 rfl ?_
                    refine j_loc (i := 2) (z2 := jB (smC s m (t + 1))) rfl (by rw [smC_S, hx]; unfold smT; first | (rw [show i = (arrL s [t + 1]).length by omega]) | (congr 1; exact sm_f hin (by rw [← hx]; exact h96))) ?_
                    refine j_goto (tgt := 19) hk dX3_hasSameOperations_148 rfl ?_
                    refine j_forget (i := 4) ?_
                    refine j_forget (i := 5) ?_
                    refine j_forget (i := 6) ?_
                    refine j_forget (i := 7) ?_
                    refine j_wide (k2 := 100 * (t + 1)) (n2 := 2800 * (t + 1)) (by omega) (by omega) ?_
                    exact ih19 z6 (t + 1) (by omega) (zlq19.tr (((zl4).tr zl5).tr zl6)) (by omega)
                  · have hxt := h96
                    rw [hx] at hxt
                    obtain ⟨hxt1, hxt2⟩ := Bool.and_eq_true_iff.mp hxt
                    obtain ⟨hxt2, hxt3⟩ := Bool.and_eq_true_iff.mp hxt2
                    have hle := of_decide_eq_true hxt2
                    obtain ⟨bA, hbA, hobA, hokA⟩ := hops32.at (i := i) (by omega)
                    obtain ⟨bB, hbB, hobB, hokB⟩ := hops34.at (i := i) (by omega)
                    refine j_ald hk dX3_hasSameOperations_111 rfl ?_
                    refine j_ild hk dX3_hasSameOperations_113 rfl ?_
                    refine f_callF (Wc := []) (Wr := []) hE hk hl0 (.inl hc1o35) (show vwCl[10]? = some (RJ2, TJ2, 3) from rfl) (fc_J2_get hls hE hN (z := z6) hzc (a := lss32) (i := i) (mc := mss32) (li := lis32) (b := bA) (hals32) (hbA)) (fun _ h => Or.inl h) 1 (lw_Fg q1201 q393 q395 q120 q397) q392 q391 q396 q394 q222 (by decide +kernel) rfl (by decide) (by omega) rfl (Nat.le_of_ble_eq_true rfl) dX3_hasSameOperations_115 ?_
                    refine Or.inl ⟨rfl, ?_⟩
                    rintro _ _ _ ⟨rfl, rfl, rfl⟩ -
                    refine f_W (W2 := []) rfl ?_
                    refine f_castS hE hk (.inl hobA) (show vwCl[5]? = some (RX6, TX6, 3) from rfl) q712 dX3_hasSameOperations_120 ?_
                    refine j_ald hk dX3_hasSameOperations_123 rfl ?_
                    refine j_ild hk dX3_hasSameOperations_125 rfl ?_
                    refine f_callF (Wc := []) (Wr := []) hE hk hl0 (.inl hc1o37) (show vwCl[10]? = some (RJ2, TJ2, 3) from rfl) (fc_J2_get hls hE hN (z := z6) hzc (a := lss34) (i := i) (mc := mss34) (li := lis34) (b := bB) (hals34) (hbB)) (fun _ h => Or.inl h) 1 (lw_Fg q1201 q393 q395 q120 q397) q392 q391 q396 q394 q222 (by decide +kernel) rfl (by decide) (by omega) rfl (Nat.le_of_ble_eq_true rfl) dX3_hasSameOperations_127 ?_
                    refine Or.inl ⟨rfl, ?_⟩
                    rintro _ _ _ ⟨rfl, rfl, rfl⟩ -
                    refine f_W (W2 := []) rfl ?_
                    refine f_castS hE hk (.inl hobB) (show vwCl[5]? = some (RX6, TX6, 3) from rfl) q712 dX3_hasSameOperations_132 ?_
                    refine f_callV (Wc := []) (Wr := []) hE hk hl0 (.inl hobA) (show vwCl[5]? = some (RX6, TX6, 3) from rfl) (fc_X6_isEqual hls hE hN (z := z6) hzc (a := bA) (b := bB) (o := opAt (arrL s [t + 1]) i) (o2 := opAt (arrL m [t + 1]) i) (hobA) (hokA) (hobB) (hokB)) (fun _ h => Or.inl h) 1 (lw_V q2238 q2239 q2240 q149 q2241) (by decide +kernel) rfl (by decide) (by omega) rfl (Nat.le_of_ble_eq_true rfl) dX3_hasSameOperations_135 ?_
                    refine Or.inl ⟨rfl, ?_⟩
                    rintro _ _ _ ⟨rfl, rfl, rfl⟩ -
                    refine f_W (W2 := []) rfl ?_
                    refine j_ist2 hk dX3_hasSameOperations_138 rfl ?_
                    have hx2 : eqI (arrL s [t + 1]) (arrL m [t + 1]) i = (smC s m t && (decide ((arrL s [t + 1]).length = (arrL m [t + 1]).length) && (List.range (i + 1)).all (eqI (arrL s [t + 1]) (arrL m [t + 1])))) := by rw [hxt1, hxt2, all_S, hxt3]; rfl
                    refine j_iinc7 hk dX3_hasSameOperations_139 rfl ?_
                    refine j_goto (tgt := 95) hk dX3_hasSameOperations_142 rfl ?_
                    exact ih95 (i + 1) (eqI (arrL s [t + 1]) (arrL m [t + 1]) i) (by omega) (by omega) (hx2)
            exact loop95 _ 0 (smC s m t && decide ((arrL s [t + 1]).length = (arrL m [t + 1]).length)) (Nat.lt_succ_self _) (Nat.zero_le _) (by simp)
    refine j_wide (k2 := 100 * 0) (n2 := 2800 * 0) (by omega) (by omega) ?_
    exact loop19 _ z 0 (Nat.lt_succ_self _) (zLe.rf) (Nat.zero_le _)
