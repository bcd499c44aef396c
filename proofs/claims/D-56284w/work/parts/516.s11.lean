/-! S, 11 -/
/-- where a transaction's n-th operation stands -/
def plC (M : List Op) (t n : Nat) : Nat := ((List.range M.length).find? fun i => sqP M t i && decide (cN (sqP M t) i = n)).getD 0
theorem cN_up {p : Nat → Bool} {i j : Nat} (h : i < j) (hp : p i = true) : cN p i + 1 ≤ cN p j := by
  induction j with
  | zero => omega
  | succ j ih =>
    rw [cN_S]
    by_cases e : i = j
    · subst e
      rw [if_pos hp]
      omega
    · have := ih (by omega)
      split <;> omega
theorem plC_eq {M : List Op} {t n r : Nat} (h1 : r < M.length) (h2 : oT (opAt M r) = t) (h3 : cN (sqP M t) r = n) : plC M t n = r := by
  have hr : sqP M t r = true := decide_eq_true h2
  unfold plC
  rw [List.find?_range_eq_some.mpr ⟨by rw [hr, decide_eq_true h3]; rfl, List.mem_range.mpr h1, fun j hj => by
    cases hp : sqP M t j with
    | false => rfl
    | true =>
      have := cN_up hj hp
      rw [decide_eq_false (by omega)]
      rfl⟩]
  rfl
set_option maxHeartbeats 1500000 in
/-- X3 placeIn(LScheduleAnalyzer$Schedule;I)I -/
theorem fc_X3_placeIn {l : Launch} {E : jE} (hls : l.stackTraces = false) (hE : jSt E) (hN : jCn E) {z : jZ} (hzc : zLe (zS E) z) {a : Nat} {c : Nat} {k : Nat} {s : List Op} {m : List Op} (h : schZ E z a s) (h2 : schZ E z c m) (hk_ : k < s.length) (hc : cN (sqP s (oT (opAt s k))) k < cN (sqP m (oT (opAt s k))) m.length) : fC l E yX3_placeIn cX3_placeIn 6 (some .int) 7 3092 (1) (1) [.ref a, .ref c, .int (jI ((k : Nat) : Int))] z [] (fun rr z2 W2 => rr = some (.int (jI ((plC m (oT (opAt s k)) (cN (sqP s (oT (opAt s k))) k) : Nat) : Int))) ∧ W2 = [] ∧ z = z2) := by
  refine f_startM (own := "ScheduleAnalyzer$Schedule") (vs := [some (.ref a), some (.ref c), some (.int (jI ((k : Nat) : Int))), none, none, none]) hls (by decide +kernel) rfl rfl rfl (Nat.le_of_ble_eq_true rfl) ?_
  intro K H0 hk he hl0 hI hM hA
  have hsl33 := h.len
  have hm33 := h2.len
  refine j_ald4 hk dX3_placeIn_0 rfl rfl ?_
  obtain ⟨lss1, mss1, lis1, hzs1, hals1, hops1, hnds1⟩ := id h
  refine f_get hE hk in_X3 (.inl hzs1) (show vwCl[2]? = some (RX3, TX3, 1) from rfl) 0 (by decide) q803 (Or.inl rfl) rfl dX3_placeIn_1 ?_
  refine j_ild4 hk dX3_placeIn_4 rfl rfl ?_
  have hll := (hops1).len
  obtain ⟨b, hb, hob, hok⟩ := hops1.at (i := k) (by omega)
  obtain ⟨o1, o2, o3, o4, o5⟩ := id hok
  have lk := letK_c hok
  obtain ⟨qo2, capo2, fo2, hc1o2, hc2o2, hl1o2, hl2o2, hfo2⟩ := hals1.cell hN hzc
  refine f_callF (Wc := []) (Wr := []) hE hk hl0 (.inl hc1o2) (show vwCl[10]? = some (RJ2, TJ2, 3) from rfl) (fc_J2_get hls hE hN (z := z) hzc (a := lss1) (i := k) (mc := mss1) (li := lis1) (b := b) (hals1) (hb)) (fun _ h => Or.inl h) 1 (lw_Fg q1201 q393 q395 q120 q397) q392 q391 q396 q394 q222 (by decide +kernel) rfl (by decide) (by omega) rfl (Nat.le_of_ble_eq_true rfl) dX3_placeIn_5 ?_
  refine Or.inl ⟨rfl, ?_⟩
  rintro _ _ _ ⟨rfl, rfl, rfl⟩ -
  refine f_W (W2 := []) rfl ?_
  refine f_castS hE hk (.inl hob) (show vwCl[5]? = some (RX6, TX6, 3) from rfl) q712 dX3_placeIn_10 ?_
  refine f_getN hE hk in_X6 (.inl hob) (show vwCl[5]? = some (RX6, TX6, 3) from rfl) 1 (by decide) q1667 rfl rfl dX3_placeIn_13 ?_
  refine j_ist3 hk dX3_placeIn_16 rfl ?_
  refine j_ald4 hk dX3_placeIn_17 rfl rfl ?_
  refine f_get hE hk in_X3 (.inl hzs1) (show vwCl[2]? = some (RX3, TX3, 1) from rfl) 0 (by decide) q803 (Or.inl rfl) rfl dX3_placeIn_18 ?_
  refine j_ild4 hk dX3_placeIn_21 rfl rfl ?_
  refine j_ild4 hk dX3_placeIn_22 rfl rfl ?_
  refine f_indy (vals := [.int (jI ((oT (opAt s (k)) : Nat) : Int))]) (N := 1) hN.lam hk 9 rfl rfl hM rfl rfl (by decide) ⟨rfl, rfl, trivial⟩ (by simp [Value.category]) (by omega) ⟨by omega, by omega⟩ rfl rfl dX3_placeIn_23 ?_
  intro lm1
  refine f_W (W2 := [[(lm1, .inr (27, [.int (jI ((oT (opAt s (k)) : Nat) : Int))]))]]) rfl ?_
  obtain ⟨zL4, hlL4, hmL4, hbL4⟩ := f_lend z [[(lm1, .inr (27, [.int (jI ((oT (opAt s (k)) : Nat) : Int))]))]] [[(lm1, .inr (27, [.int (jI ((oT (opAt s (k)) : Nat) : Int))]))]] (by simp)
  refine f_callSN (Wc := []) (Wr := [[(lm1, .inr (27, [.int (jI ((oT (opAt s (k)) : Nat) : Int))]))]]) hE hk hl0 (fc_X1_countBefore hls hE hN (z := zL4) (hzc.tr hlL4) (a := lss1) (n := k) (t := lm1) (p := (pTr (oT (opAt s k)))) (mc := mss1) (li := lis1) (s := s) (hals1.up hlL4) (hops1.up hlL4) (by omega) (fun b o hb ho => tc_9 hls hE hN (hzc.tr hlL4) (hmL4 _ (List.mem_cons_self) _ (List.mem_cons_self)) hb ho (by omega))) (hbL4) 3 q1265 q115 q1263 q1264 (by decide +kernel) rfl (by decide) (by omega) rfl (Nat.le_of_ble_eq_true rfl) dX3_placeIn_28 ?_
  refine Or.inr ?_
  rintro _ _ _ ⟨rfl, rfl, -⟩ -
  refine f_W (W2 := [[(lm1, .inr (27, [.int (jI ((oT (opAt s (k)) : Nat) : Int))]))]]) rfl ?_
  have rf6 := cN_le (fun i => (pTr (oT (opAt s k))) (opAt s i)) k
  refine j_ist4 hk dX3_placeIn_31 rfl ?_
  refine j_loc (i := 4) (z2 := ((cN (sqP s (oT (opAt s k))) k : Nat) : Int)) rfl (rfl) ?_
  refine j_iconst (n := 0) hk dX3_placeIn_33 ?_
  refine j_ist5 hk dX3_placeIn_34 rfl ?_
  have loop36 : ∀ (fuel36 : Nat) (f : Nat) (n : Nat), m.length - f < fuel36 → f ≤ m.length → n + cN (sqP m (oT (opAt s k))) f = cN (sqP s (oT (opAt s k))) k → jW K (fO K E z z []) (1) (1) 36 [some (.ref a), some (.ref c), some (.int (jI ((k : Nat) : Int))), some (.int (jI ((oT (opAt s (k)) : Nat) : Int))), some (.int (jI ((n : Nat) : Int))), some (.int (jI ((f : Nat) : Int)))] [] := by
    intro fuel36
    induction fuel36 with
    | zero => intro f n hm; exact absurd hm (Nat.not_lt_zero _)
    | succ fuel36 ih36 =>
      intro f n hm36 hfm hnn
      have hfl : f < m.length := Nat.lt_of_le_of_ne hfm (fun e => by rw [e] at hnn; omega)
      have hcl := cN_le (sqP s (oT (opAt s k))) k
      refine j_ald4 hk dX3_placeIn_36 rfl rfl ?_
      obtain ⟨lss7, mss7, lis7, hzs7, hals7, hops7, hnds7⟩ := id h2
      refine f_get hE hk in_X3 (.inl hzs7) (show vwCl[2]? = some (RX3, TX3, 1) from rfl) 0 (by decide) q803 (Or.inl rfl) rfl dX3_placeIn_37 ?_
      refine j_ild hk dX3_placeIn_40 rfl ?_
      obtain ⟨bM, hbM, hobM, hokM⟩ := hops7.at (i := f) (by omega)
      obtain ⟨o1M, o2M, o3M, o4M, o5M⟩ := id hokM
      have lkM := letK_c hokM
      obtain ⟨qo8, capo8, fo8, hc1o8, hc2o8, hl1o8, hl2o8, hfo8⟩ := hals7.cell hN hzc
      refine f_callF (Wc := []) (Wr := []) hE hk hl0 (.inl hc1o8) (show vwCl[10]? = some (RJ2, TJ2, 3) from rfl) (fc_J2_get hls hE hN (z := z) hzc (a := lss7) (i := f) (mc := mss7) (li := lis7) (b := bM) (hals7) (hbM)) (fun _ h => Or.inl h) 1 (lw_Fg q1201 q393 q395 q120 q397) q392 q391 q396 q394 q222 (by decide +kernel) rfl (by decide) (by omega) rfl (Nat.le_of_ble_eq_true rfl) dX3_placeIn_42 ?_
      refine Or.inl ⟨rfl, ?_⟩
      rintro _ _ _ ⟨rfl, rfl, rfl⟩ -
      refine f_W (W2 := []) rfl ?_
      refine f_castS hE hk (.inl hobM) (show vwCl[5]? = some (RX6, TX6, 3) from rfl) q712 dX3_placeIn_47 ?_
      refine f_getN hE hk in_X6 (.inl hobM) (show vwCl[5]? = some (RX6, TX6, 3) from rfl) 1 (by decide) q1667 rfl rfl dX3_placeIn_50 ?_
      refine j_ild4 hk dX3_placeIn_53 rfl rfl ?_
      refine j_icmp_ne hk (by omega) (by omega) dX3_placeIn_54 rfl (tgt := 62) (fun h54 => ?_) (fun h54 => ?_)
      · refine j_ild hk dX3_placeIn_62 rfl ?_
        refine j_ald4 hk dX3_placeIn_64 rfl rfl ?_
        refine f_get hE hk in_X3 (.inl hzs7) (show vwCl[2]? = some (RX3, TX3, 1) from rfl) 0 (by decide) q803 (Or.inl rfl) rfl dX3_placeIn_65 ?_
        refine j_ild hk dX3_placeIn_68 rfl ?_
        refine f_callF (Wc := []) (Wr := []) hE hk hl0 (.inl hc1o8) (show vwCl[10]? = some (RJ2, TJ2, 3) from rfl) (fc_J2_get hls hE hN (z := z) hzc (a := lss7) (i := f) (mc := mss7) (li := lis7) (b := bM) (hals7) (hbM)) (fun _ h => Or.inl h) 1 (lw_Fg q1201 q393 q395 q120 q397) q392 q391 q396 q394 q222 (by decide +kernel) rfl (by decide) (by omega) rfl (Nat.le_of_ble_eq_true rfl) dX3_placeIn_70 ?_
        refine Or.inl ⟨rfl, ?_⟩
        rintro _ _ _ ⟨rfl, rfl, rfl⟩ -
        refine f_W (W2 := []) rfl ?_
        refine f_castS hE hk (.inl hobM) (show vwCl[5]? = some (RX6, TX6, 3) from rfl) q712 dX3_placeIn_75 ?_
        refine f_getN hE hk in_X6 (.inl hobM) (show vwCl[5]? = some (RX6, TX6, 3) from rfl) 1 (by decide) q1667 rfl rfl dX3_placeIn_78 ?_
        refine j_ild4 hk dX3_placeIn_81 rfl rfl ?_
        refine j_icmp_ne hk (by omega) (by omega) dX3_placeIn_82 rfl (tgt := 89) (fun h82 => ?_) (fun h82 => ?_)
        · refine j_iconst (n := 0) hk dX3_placeIn_89 ?_
          refine j_isub hk dX3_placeIn_90 ?_
          refine j_ist4 hk dX3_placeIn_91 rfl ?_
          refine j_iinc5 hk dX3_placeIn_93 rfl ?_
          refine j_loc (i := 4) (z2 := ((n : Nat) : Int)) rfl (by omega) ?_
          refine j_goto (tgt := 36) hk dX3_placeIn_96 rfl ?_
          exact ih36 (f + 1) n (by omega) (by omega) (by rw [cN_S]; rw [if_neg (by unfold sqP; rw [decide_eq_false (by omega)]; decide)]; omega)
        · refine j_iconst (n := 1) hk dX3_placeIn_85 ?_
          refine j_goto (tgt := 90) hk dX3_placeIn_86 rfl ?_
          refine j_isub hk dX3_placeIn_90 ?_
          refine j_ist4 hk dX3_placeIn_91 rfl ?_
          refine j_iinc5 hk dX3_placeIn_93 rfl ?_
          refine j_loc (i := 4) (z2 := ((n - 1 : Nat) : Int)) rfl (by omega) ?_
          refine j_goto (tgt := 36) hk dX3_placeIn_96 rfl ?_
          exact ih36 (f + 1) (n - 1) (by omega) (by omega) (by rw [cN_S]; rw [if_pos (show sqP m (oT (opAt s k)) f = true from decide_eq_true (by omega))]; omega)
      · refine j_ild hk dX3_placeIn_57 rfl ?_
        refine j_if_le hk (by omega) dX3_placeIn_59 rfl (tgt := 99) (fun h59 => ?_) (fun h59 => ?_)
        · refine j_ild hk dX3_placeIn_99 rfl ?_
          refine f_iret hk he hA rfl dX3_placeIn_101 (by omega) (by omega) ?_
          exact ⟨congrArg (fun z => some (Value.int (jI z))) (by rw [plC_eq hfl (by omega) (by omega)]), rfl, rfl⟩
        · refine j_ild hk dX3_placeIn_62 rfl ?_
          refine j_ald4 hk dX3_placeIn_64 rfl rfl ?_
          refine f_get hE hk in_X3 (.inl hzs7) (show vwCl[2]? = some (RX3, TX3, 1) from rfl) 0 (by decide) q803 (Or.inl rfl) rfl dX3_placeIn_65 ?_
          refine j_ild hk dX3_placeIn_68 rfl ?_
          refine f_callF (Wc := []) (Wr := []) hE hk hl0 (.inl hc1o8) (show vwCl[10]? = some (RJ2, TJ2, 3) from rfl) (fc_J2_get hls hE hN (z := z) hzc (a := lss7) (i := f) (mc := mss7) (li := lis7) (b := bM) (hals7) (hbM)) (fun _ h => Or.inl h) 1 (lw_Fg q1201 q393 q395 q120 q397) q392 q391 q396 q394 q222 (by decide +kernel) rfl (by decide) (by omega) rfl (Nat.le_of_ble_eq_true rfl) dX3_placeIn_70 ?_
          refine Or.inl ⟨rfl, ?_⟩
          rintro _ _ _ ⟨rfl, rfl, rfl⟩ -
          refine f_W (W2 := []) rfl ?_
          refine f_castS hE hk (.inl hobM) (show vwCl[5]? = some (RX6, TX6, 3) from rfl) q712 dX3_placeIn_75 ?_
          refine f_getN hE hk in_X6 (.inl hobM) (show vwCl[5]? = some (RX6, TX6, 3) from rfl) 1 (by decide) q1667 rfl rfl dX3_placeIn_78 ?_
          refine j_ild4 hk dX3_placeIn_81 rfl rfl ?_
          refine j_icmp_ne hk (by omega) (by omega) dX3_placeIn_82 rfl (tgt := 89) (fun h82 => ?_) (fun h82 => ?_)
          · refine j_iconst (n := 0) hk dX3_placeIn_89 ?_
            refine j_isub hk dX3_placeIn_90 ?_
            refine j_ist4 hk dX3_placeIn_91 rfl ?_
            refine j_iinc5 hk dX3_placeIn_93 rfl ?_
            refine j_loc (i := 4) (z2 := ((n : Nat) : Int)) rfl (by omega) ?_
            refine j_goto (tgt := 36) hk dX3_placeIn_96 rfl ?_
            exact ih36 (f + 1) n (by omega) (by omega) (by rw [cN_S]; rw [if_neg (by unfold sqP; rw [decide_eq_false (by omega)]; decide)]; omega)
          · refine j_iconst (n := 1) hk dX3_placeIn_85 ?_
            refine j_goto (tgt := 90) hk dX3_placeIn_86 rfl ?_
            refine j_isub hk dX3_placeIn_90 ?_
            refine j_ist4 hk dX3_placeIn_91 rfl ?_
            refine j_iinc5 hk dX3_placeIn_93 rfl ?_
            refine j_loc (i := 4) (z2 := ((n - 1 : Nat) : Int)) rfl (by omega) ?_
            refine j_goto (tgt := 36) hk dX3_placeIn_96 rfl ?_
            exact ih36 (f + 1) (n - 1) (by omega) (by omega) (by rw [cN_S]; rw [if_pos (show sqP m (oT (opAt s k)) f = true from decide_eq_true (by omega))]; omega)
  have hcl := cN_le (sqP s (oT (opAt s k))) k
  refine f_sel (W2 := []) [] rfl rfl ?_
  refine j_wide (k2 := 1) (n2 := 1) (by omega) (by omega) ?_
  exact loop36 _ 0 (cN (sqP s (oT (opAt s k))) k) (Nat.lt_succ_self _) (Nat.zero_le _) (rfl)
