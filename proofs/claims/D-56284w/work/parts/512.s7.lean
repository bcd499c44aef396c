/-! S, 7: new schedules -/
set_option maxHeartbeats 1500000 in
/-- X3 with(LScheduleAnalyzer$Operation;)LScheduleAnalyzer$Schedule; -/
theorem fc_X3_with {l : Launch} {E : jE} (hls : l.stackTraces = false) (hE : jSt E) (hN : jCn E) {z : jZ} (hzc : zLe (zS E) z) {a : Nat} {b : Nat} {s : List Op} {o : Op} (h : schZ E z a s) (hok : opOK o) (hl32 : s.length < 32) : fC l E yX3_with cX3_with 3 (some (.object "ScheduleAnalyzer$Schedule")) 8 214 (s.length + 5) (33 * s.length + 50) [.ref a, .ref b] z [[(b, .inr (5, [.int (jI ((letK (oK o) : Nat) : Int)), .int (jI ((oT o : Nat) : Int)), .int (jI ((97 + oI o : Nat) : Int))]))]] (fun rr z2 W2 => ∃ r : Nat, rr = some (.ref r) ∧ W2 = [] ∧ schZ E z2 r (s ++ [o])) := by
  refine f_start (own := "ScheduleAnalyzer$Schedule") (vs := [some (.ref a), some (.ref b), none]) hls (by decide +kernel) rfl rfl rfl (Nat.le_of_ble_eq_true rfl) ?_
  intro K H0 hk he hl0 hI hA
  have hsl33 := h.len
  obtain ⟨lss1, mss1, lis1, hzs1, hals1, hops1, hnds1⟩ := id h
  refine f_ap 0 rfl (fun hap => ?_)
  have hnb : b ∉ lis1 := fun hm => by
    obtain ⟨e9, he9⟩ := (hops1).mem _ hm
    exact hap _ List.mem_cons_self _ he9 rfl
  refine f_freeze hk ?_
  intro z1 zl1 hm1
  have hzc := hzc.tr zl1
  have h := h.up zl1
  have hzs1 := zl1 _ hzs1
  have hals1 := hals1.up zl1
  have hops1 := hops1.up zl1
  have hob := hm1 _ (List.mem_cons_self)
  refine f_new (fs := [.null]) hE hk in_X3 tyX3 tyX3_ok q917 q181 q117 (show vwCl[2]? = some (RX3, TX3, 1) from rfl) (fun j hj => match j, hj with | 0, _ => rfl | j + 1, h => absurd h (by omega)) ⟨by omega, by omega⟩ dX3_with_0 ?_
  intro ad1
  refine j_dup hk rfl dX3_with_3 ?_
  refine j_ald4 hk dX3_with_4 rfl rfl ?_
  have hll := (hops1).len
  refine f_get hE hk in_X3 (.inl hzs1) (show vwCl[2]? = some (RX3, TX3, 1) from rfl) 0 (by decide) q803 (Or.inl rfl) rfl dX3_with_5 ?_
  refine f_callI (Wc := [[(ad1, .inr (2, [.null]))]]) (Wr := []) hk hl0 (fc_X3_init hls hE hN (z := z1) hzc (a := ad1) (ls := lss1) (mc := mss1) (li := lis1) (s := s) (hals1) (hops1)) (fun _ h => Or.inl h) 1 q214 q117 q918 q213 rfl (by decide +kernel) rfl (by decide) (by omega) rfl (Nat.le_of_ble_eq_true rfl) dX3_with_8 ?_
  refine Or.inl ⟨rfl, ?_⟩
  rintro _ z2 _ ⟨q2, mq2, w12, rfl, rfl, hp2_0⟩ zl2
  refine f_W (W2 := [[(ad1, .inr (2, [.ref q2]))], w12]) rfl ?_
  have hzc := hzc.tr zl2
  have h := h.up zl2
  have hzs1 := zl2 _ hzs1
  have hals1 := hals1.up zl2
  have hops1 := hops1.up zl2
  have hob := zl2 _ hob
  refine j_ast2 hk dX3_with_11 rfl ?_
  refine j_ald4 hk dX3_with_12 rfl rfl ?_
  refine f_get hE hk in_X3 (fIn.at 0 0 rfl rfl) (show vwCl[2]? = some (RX3, TX3, 1) from rfl) 0 (by decide) q803 (Or.inl rfl) rfl dX3_with_13 ?_
  refine j_ald4 hk dX3_with_16 rfl rfl ?_
  refine f_sel (W2 := [w12, [(ad1, .inr (2, [.ref q2]))]]) [1, 0] rfl rfl ?_
  obtain ⟨rm3, hrm3⟩ := alW.mem hp2_0
  refine f_callF (Wc := [w12]) (Wr := [[(ad1, .inr (2, [.ref q2]))]]) hE hk hl0 (fIn.of 0 rfl hrm3) (show vwCl[10]? = some (RJ2, TJ2, 3) from rfl) (fc_J2_add hls hE hN (z := z2) hzc (a := q2) (e := b) (mc := mq2) (li := lis1) (w0 := w12) (hp2_0) ((hops1).el) (okO.op hob) (by omega)) (fun _ h => Or.inl h) 1 (lw_Fg q714 q717 q719 q120 q721) q716 q715 q720 q718 q222 (by decide +kernel) rfl (by decide) (by omega) rfl (Nat.le_of_ble_eq_true rfl) dX3_with_17 ?_
  refine Or.inl ⟨rfl, ?_⟩
  rintro _ _ _ ⟨w14, rfl, rfl, rfl, hp4_0⟩ -
  refine f_W (W2 := [w14, [(ad1, .inr (2, [.ref q2]))]]) rfl ?_
  refine j_pop hk rfl dX3_with_22 ?_
  refine j_ald4 hk dX3_with_23 rfl rfl ?_
  refine f_sel (W2 := [[(ad1, .inr (2, [.ref q2]))], w14]) [1, 0] rfl rfl ?_
  refine f_freeze hk ?_
  intro z3 zl3 hm3
  have hzc := hzc.tr zl3
  have h := h.up zl3
  have hzs1 := zl3 _ hzs1
  have hals1 := hals1.up zl3
  have hops1 := hops1.up zl3
  have hob := zl3 _ hob
  have hzF := hm3 _ (List.mem_cons_self)
  refine f_freeze hk ?_
  intro z4 zl4 hm4
  have hzc := hzc.tr zl4
  have h := h.up zl4
  have hzs1 := zl4 _ hzs1
  have hals1 := hals1.up zl4
  have hops1 := hops1.up zl4
  have hob := zl4 _ hob
  have hzF := zl4 _ hzF
  have halF := alW.z hp4_0 hm4
  refine f_aret hk he hA (Or.inl ⟨_, rfl⟩) (Or.inr ⟨_, rfl⟩) dX3_with_24 (by omega) (by omega) ?_
  exact ⟨ad1, rfl, rfl, _, _, _, hzF, halF, (hops1).snoc hob hok, nd_snoc hnds1 hnb⟩
set_option maxHeartbeats 1500000 in
/-- X3 without(I)LScheduleAnalyzer$Schedule; -/
theorem fc_X3_without {l : Launch} {E : jE} (hls : l.stackTraces = false) (hE : jSt E) (hN : jCn E) {z : jZ} (hzc : zLe (zS E) z) {a : Nat} {k : Nat} {s : List Op} (h : schZ E z a s) (hk_ : k < s.length) : fC l E yX3_without cX3_without 3 (some (.object "ScheduleAnalyzer$Schedule")) 8 214 (s.length + 4) (33 * s.length + 10) [.ref a, .int (jI ((k : Nat) : Int))] z [] (fun rr z2 W2 => ∃ r : Nat, rr = some (.ref r) ∧ W2 = [] ∧ schZ E z2 r (s.eraseIdx k)) := by
  refine f_start (own := "ScheduleAnalyzer$Schedule") (vs := [some (.ref a), some (.int (jI ((k : Nat) : Int))), none]) hls (by decide +kernel) rfl rfl rfl (Nat.le_of_ble_eq_true rfl) ?_
  intro K H0 hk he hl0 hI hA
  have hsl33 := h.len
  refine f_new (fs := [.null]) hE hk in_X3 tyX3 tyX3_ok q917 q181 q117 (show vwCl[2]? = some (RX3, TX3, 1) from rfl) (fun j hj => match j, hj with | 0, _ => rfl | j + 1, h => absurd h (by omega)) ⟨by omega, by omega⟩ dX3_without_0 ?_
  intro ad1
  refine j_dup hk rfl dX3_without_3 ?_
  refine j_ald4 hk dX3_without_4 rfl rfl ?_
  obtain ⟨lss1, mss1, lis1, hzs1, hals1, hops1, hnds1⟩ := id h
  have hll := (hops1).len
  refine f_get hE hk in_X3 (.inl hzs1) (show vwCl[2]? = some (RX3, TX3, 1) from rfl) 0 (by decide) q803 (Or.inl rfl) rfl dX3_without_5 ?_
  refine f_callI (Wc := [[(ad1, .inr (2, [.null]))]]) (Wr := []) hk hl0 (fc_X3_init hls hE hN (z := z) hzc (a := ad1) (ls := lss1) (mc := mss1) (li := lis1) (s := s) (hals1) (hops1)) (fun _ h => Or.inl h) 1 q214 q117 q918 q213 rfl (by decide +kernel) rfl (by decide) (by omega) rfl (Nat.le_of_ble_eq_true rfl) dX3_without_8 ?_
  refine Or.inl ⟨rfl, ?_⟩
  rintro _ z1 _ ⟨q2, mq2, w12, rfl, rfl, hp2_0⟩ zl1
  refine f_W (W2 := [[(ad1, .inr (2, [.ref q2]))], w12]) rfl ?_
  have hzc := hzc.tr zl1
  have h := h.up zl1
  have hzs1 := zl1 _ hzs1
  have hals1 := hals1.up zl1
  have hops1 := hops1.up zl1
  refine j_ast2 hk dX3_without_11 rfl ?_
  refine j_ald4 hk dX3_without_12 rfl rfl ?_
  refine f_get hE hk in_X3 (fIn.at 0 0 rfl rfl) (show vwCl[2]? = some (RX3, TX3, 1) from rfl) 0 (by decide) q803 (Or.inl rfl) rfl dX3_without_13 ?_
  refine j_ald4 hk dX3_without_16 rfl rfl ?_
  refine f_get hE hk in_X3 (.inl hzs1) (show vwCl[2]? = some (RX3, TX3, 1) from rfl) 0 (by decide) q803 (Or.inl rfl) rfl dX3_without_17 ?_
  refine j_ild4 hk dX3_without_20 rfl rfl ?_
  obtain ⟨b, hb, hob, hok⟩ := hops1.at (i := k) (by omega)
  obtain ⟨qo3, capo3, fo3, hc1o3, hc2o3, hl1o3, hl2o3, hfo3⟩ := hals1.cell hN hzc
  refine f_callF (Wc := []) (Wr := [[(ad1, .inr (2, [.ref q2]))], w12]) hE hk hl0 (.inl hc1o3) (show vwCl[10]? = some (RJ2, TJ2, 3) from rfl) (fc_J2_get hls hE hN (z := z1) hzc (a := lss1) (i := k) (mc := mss1) (li := lis1) (b := b) (hals1) (hb)) (fun _ h => Or.inl h) 1 (lw_Fg q1201 q393 q395 q120 q397) q392 q391 q396 q394 q222 (by decide +kernel) rfl (by decide) (by omega) rfl (Nat.le_of_ble_eq_true rfl) dX3_without_21 ?_
  refine Or.inl ⟨rfl, ?_⟩
  rintro _ _ _ ⟨rfl, rfl, rfl⟩ -
  refine f_W (W2 := [[(ad1, .inr (2, [.ref q2]))], w12]) rfl ?_
  refine f_sel (W2 := [w12, [(ad1, .inr (2, [.ref q2]))]]) [1, 0] rfl rfl ?_
  obtain ⟨rm5, hrm5⟩ := alW.mem hp2_0
  refine f_callF (Wc := [w12]) (Wr := [[(ad1, .inr (2, [.ref q2]))]]) hE hk hl0 (fIn.of 0 rfl hrm5) (show vwCl[10]? = some (RJ2, TJ2, 3) from rfl) (fc_J2_remove hls hE hN (z := z1) hzc (a := q2) (o := b) (ofs := (opFs (opAt s k))) (mc := mq2) (li := lis1) (w0 := w12) (i := k) (hp2_0) ((hops1).el) (hb) (nd_first hnds1 hb) (hob)) (fun _ h => Or.inl h) 1 (lw_Fg q1820 q1823 q1825 q120 q1827) q1822 q1821 q1826 q1824 q222 (by decide +kernel) rfl (by decide) (by omega) rfl (Nat.le_of_ble_eq_true rfl) dX3_without_26 ?_
  refine Or.inl ⟨rfl, ?_⟩
  rintro _ _ _ ⟨w16, rfl, rfl, rfl, hp6_0⟩ -
  refine f_W (W2 := [w16, [(ad1, .inr (2, [.ref q2]))]]) rfl ?_
  refine j_pop hk rfl dX3_without_31 ?_
  refine j_ald4 hk dX3_without_32 rfl rfl ?_
  refine f_sel (W2 := [[(ad1, .inr (2, [.ref q2]))], w16]) [1, 0] rfl rfl ?_
  refine f_freeze hk ?_
  intro z2 zl2 hm2
  have hzc := hzc.tr zl2
  have h := h.up zl2
  have hzs1 := zl2 _ hzs1
  have hals1 := hals1.up zl2
  have hops1 := hops1.up zl2
  have hob := zl2 _ hob
  have hc1o3 := zl2 _ hc1o3
  have hc2o3 := zl2 _ hc2o3
  have hzF := hm2 _ (List.mem_cons_self)
  refine f_freeze hk ?_
  intro z3 zl3 hm3
  have hzc := hzc.tr zl3
  have h := h.up zl3
  have hzs1 := zl3 _ hzs1
  have hals1 := hals1.up zl3
  have hops1 := hops1.up zl3
  have hob := zl3 _ hob
  have hc1o3 := zl3 _ hc1o3
  have hc2o3 := zl3 _ hc2o3
  have hzF := zl3 _ hzF
  have halF := alW.z hp6_0 hm3
  refine f_aret hk he hA (Or.inl ⟨_, rfl⟩) (Or.inr ⟨_, rfl⟩) dX3_without_33 (by omega) (by omega) ?_
  exact ⟨ad1, rfl, rfl, _, _, _, hzF, halF, (hops1).erase k, List.Nodup.sublist (List.eraseIdx_sublist _ _) hnds1⟩
set_option maxHeartbeats 1500000 in
/-- X3 exchanged(I)LScheduleAnalyzer$Schedule; -/
theorem fc_X3_exchanged {l : Launch} {E : jE} (hls : l.stackTraces = false) (hE : jSt E) (hN : jCn E) {z : jZ} (hzc : zLe (zS E) z) {a : Nat} {k : Nat} {s : List Op} (h : schZ E z a s) (hk_ : k + 1 < s.length) : fC l E yX3_exchanged cX3_exchanged 3 (some (.object "ScheduleAnalyzer$Schedule")) 8 214 (s.length + 4) (33 * s.length + 10) [.ref a, .int (jI ((k : Nat) : Int))] z [] (fun rr z2 W2 => ∃ r : Nat, rr = some (.ref r) ∧ W2 = [] ∧ schZ E z2 r (opSwap s k)) := by
  refine f_start (own := "ScheduleAnalyzer$Schedule") (vs := [some (.ref a), some (.int (jI ((k : Nat) : Int))), none]) hls (by decide +kernel) rfl rfl rfl (Nat.le_of_ble_eq_true rfl) ?_
  intro K H0 hk he hl0 hI hA
  have hsl33 := h.len
  refine f_new (fs := [.null]) hE hk in_X3 tyX3 tyX3_ok q917 q181 q117 (show vwCl[2]? = some (RX3, TX3, 1) from rfl) (fun j hj => match j, hj with | 0, _ => rfl | j + 1, h => absurd h (by omega)) ⟨by omega, by omega⟩ dX3_exchanged_0 ?_
  intro ad1
  refine j_dup hk rfl dX3_exchanged_3 ?_
  refine j_ald4 hk dX3_exchanged_4 rfl rfl ?_
  obtain ⟨lss1, mss1, lis1, hzs1, hals1, hops1, hnds1⟩ := id h
  have hll := (hops1).len
  refine f_get hE hk in_X3 (.inl hzs1) (show vwCl[2]? = some (RX3, TX3, 1) from rfl) 0 (by decide) q803 (Or.inl rfl) rfl dX3_exchanged_5 ?_
  refine f_callI (Wc := [[(ad1, .inr (2, [.null]))]]) (Wr := []) hk hl0 (fc_X3_init hls hE hN (z := z) hzc (a := ad1) (ls := lss1) (mc := mss1) (li := lis1) (s := s) (hals1) (hops1)) (fun _ h => Or.inl h) 1 q214 q117 q918 q213 rfl (by decide +kernel) rfl (by decide) (by omega) rfl (Nat.le_of_ble_eq_true rfl) dX3_exchanged_8 ?_
  refine Or.inl ⟨rfl, ?_⟩
  rintro _ z1 _ ⟨q2, mq2, w12, rfl, rfl, hp2_0⟩ zl1
  refine f_W (W2 := [[(ad1, .inr (2, [.ref q2]))], w12]) rfl ?_
  have hzc := hzc.tr zl1
  have h := h.up zl1
  have hzs1 := zl1 _ hzs1
  have hals1 := hals1.up zl1
  have hops1 := hops1.up zl1
  refine j_ast2 hk dX3_exchanged_11 rfl ?_
  refine j_ald4 hk dX3_exchanged_12 rfl rfl ?_
  refine f_get hE hk in_X3 (fIn.at 0 0 rfl rfl) (show vwCl[2]? = some (RX3, TX3, 1) from rfl) 0 (by decide) q803 (Or.inl rfl) rfl dX3_exchanged_13 ?_
  refine j_ild4 hk dX3_exchanged_16 rfl rfl ?_
  refine j_ald4 hk dX3_exchanged_17 rfl rfl ?_
  refine f_get hE hk in_X3 (.inl hzs1) (show vwCl[2]? = some (RX3, TX3, 1) from rfl) 0 (by decide) q803 (Or.inl rfl) rfl dX3_exchanged_18 ?_
  refine j_ild4 hk dX3_exchanged_21 rfl rfl ?_
  refine j_iconst (n := 1) hk dX3_exchanged_22 ?_
  refine j_iadd hk dX3_exchanged_23 ?_
  refine j_top (z2 := ((k + 1 : Nat) : Int)) (by omega) ?_
  obtain ⟨bN, hbN, hobN, hokN⟩ := hops1.at (i := k + 1) (by omega)
  obtain ⟨b, hb, hob, hok⟩ := hops1.at (i := k) (by omega)
  obtain ⟨qo3, capo3, fo3, hc1o3, hc2o3, hl1o3, hl2o3, hfo3⟩ := hals1.cell hN hzc
  refine f_callF (Wc := []) (Wr := [[(ad1, .inr (2, [.ref q2]))], w12]) hE hk hl0 (.inl hc1o3) (show vwCl[10]? = some (RJ2, TJ2, 3) from rfl) (fc_J2_get hls hE hN (z := z1) hzc (a := lss1) (i := k + 1) (mc := mss1) (li := lis1) (b := bN) (hals1) (hbN)) (fun _ h => Or.inl h) 1 (lw_Fg q1201 q393 q395 q120 q397) q392 q391 q396 q394 q222 (by decide +kernel) rfl (by decide) (by omega) rfl (Nat.le_of_ble_eq_true rfl) dX3_exchanged_24 ?_
  refine Or.inl ⟨rfl, ?_⟩
  rintro _ _ _ ⟨rfl, rfl, rfl⟩ -
  refine f_W (W2 := [[(ad1, .inr (2, [.ref q2]))], w12]) rfl ?_
  refine f_castS hE hk (.inl hobN) (show vwCl[5]? = some (RX6, TX6, 3) from rfl) q712 dX3_exchanged_29 ?_
  refine f_sel (W2 := [w12, [(ad1, .inr (2, [.ref q2]))]]) [1, 0] rfl rfl ?_
  obtain ⟨rm5, hrm5⟩ := alW.mem hp2_0
  refine f_callF (Wc := [w12]) (Wr := [[(ad1, .inr (2, [.ref q2]))]]) hE hk hl0 (fIn.of 0 rfl hrm5) (show vwCl[10]? = some (RJ2, TJ2, 3) from rfl) (fc_J2_set hls hE hN (z := z1) hzc (a := q2) (i := k) (e := bN) (mc := mq2) (li := lis1) (w0 := w12) (b := b) (hp2_0) (hb) (okO.op hobN)) (fun _ h => Or.inl h) 2 (lw_Fg q1885 q1888 q1890 q120 q1892) q1887 q1886 q1891 q1889 q222 (by decide +kernel) rfl (by decide) (by omega) rfl (Nat.le_of_ble_eq_true rfl) dX3_exchanged_32 ?_
  refine Or.inl ⟨rfl, ?_⟩
  rintro _ _ _ ⟨w16, rfl, rfl, rfl, hp6_0⟩ -
  refine f_W (W2 := [w16, [(ad1, .inr (2, [.ref q2]))]]) rfl ?_
  refine j_pop hk rfl dX3_exchanged_37 ?_
  refine j_ald4 hk dX3_exchanged_38 rfl rfl ?_
  refine f_get hE hk in_X3 (fIn.at 1 0 rfl rfl) (show vwCl[2]? = some (RX3, TX3, 1) from rfl) 0 (by decide) q803 (Or.inl rfl) rfl dX3_exchanged_39 ?_
  refine j_ild4 hk dX3_exchanged_42 rfl rfl ?_
  refine j_iconst (n := 1) hk dX3_exchanged_43 ?_
  refine j_iadd hk dX3_exchanged_44 ?_
  refine j_top (z2 := ((k + 1 : Nat) : Int)) (by omega) ?_
  have hb2 : (lis1.set k bN)[k + 1]? = some bN := by rw [List.getElem?_set_ne (by omega)]; exact hbN
  refine j_ald4 hk dX3_exchanged_45 rfl rfl ?_
  refine f_get hE hk in_X3 (.inl hzs1) (show vwCl[2]? = some (RX3, TX3, 1) from rfl) 0 (by decide) q803 (Or.inl rfl) rfl dX3_exchanged_46 ?_
  refine j_ild4 hk dX3_exchanged_49 rfl rfl ?_
  refine f_callF (Wc := []) (Wr := [w16, [(ad1, .inr (2, [.ref q2]))]]) hE hk hl0 (.inl hc1o3) (show vwCl[10]? = some (RJ2, TJ2, 3) from rfl) (fc_J2_get hls hE hN (z := z1) hzc (a := lss1) (i := k) (mc := mss1) (li := lis1) (b := b) (hals1) (hb)) (fun _ h => Or.inl h) 1 (lw_Fg q1201 q393 q395 q120 q397) q392 q391 q396 q394 q222 (by decide +kernel) rfl (by decide) (by omega) rfl (Nat.le_of_ble_eq_true rfl) dX3_exchanged_50 ?_
  refine Or.inl ⟨rfl, ?_⟩
  rintro _ _ _ ⟨rfl, rfl, rfl⟩ -
  refine f_W (W2 := [w16, [(ad1, .inr (2, [.ref q2]))]]) rfl ?_
  refine f_castS hE hk (.inl hob) (show vwCl[5]? = some (RX6, TX6, 3) from rfl) q712 dX3_exchanged_55 ?_
  obtain ⟨rm8, hrm8⟩ := alW.mem hp6_0
  refine f_callF (Wc := [w16]) (Wr := [[(ad1, .inr (2, [.ref q2]))]]) hE hk hl0 (fIn.of 0 rfl hrm8) (show vwCl[10]? = some (RJ2, TJ2, 3) from rfl) (fc_J2_set hls hE hN (z := z1) hzc (a := q2) (i := k + 1) (e := b) (mc := mq2) (li := lis1.set k bN) (w0 := w16) (b := bN) (hp6_0) (hb2) (okO.op hob)) (fun _ h => Or.inl h) 2 (lw_Fg q1885 q1888 q1890 q120 q1892) q1887 q1886 q1891 q1889 q222 (by decide +kernel) rfl (by decide) (by omega) rfl (Nat.le_of_ble_eq_true rfl) dX3_exchanged_58 ?_
  refine Or.inl ⟨rfl, ?_⟩
  rintro _ _ _ ⟨w19, rfl, rfl, rfl, hp9_0⟩ -
  refine f_W (W2 := [w19, [(ad1, .inr (2, [.ref q2]))]]) rfl ?_
  refine j_pop hk rfl dX3_exchanged_63 ?_
  refine j_ald4 hk dX3_exchanged_64 rfl rfl ?_
  refine f_sel (W2 := [[(ad1, .inr (2, [.ref q2]))], w19]) [1, 0] rfl rfl ?_
  refine f_freeze hk ?_
  intro z2 zl2 hm2
  have hzc := hzc.tr zl2
  have h := h.up zl2
  have hzs1 := zl2 _ hzs1
  have hals1 := hals1.up zl2
  have hops1 := hops1.up zl2
  have hobN := zl2 _ hobN
  have hob := zl2 _ hob
  have hc1o3 := zl2 _ hc1o3
  have hc2o3 := zl2 _ hc2o3
  have hzF := hm2 _ (List.mem_cons_self)
  refine f_freeze hk ?_
  intro z3 zl3 hm3
  have hzc := hzc.tr zl3
  have h := h.up zl3
  have hzs1 := zl3 _ hzs1
  have hals1 := hals1.up zl3
  have hops1 := hops1.up zl3
  have hobN := zl3 _ hobN
  have hob := zl3 _ hob
  have hc1o3 := zl3 _ hc1o3
  have hc2o3 := zl3 _ hc2o3
  have hzF := zl3 _ hzF
  have halF := alW.z hp9_0 hm3
  refine f_aret hk he hA (Or.inl ⟨_, rfl⟩) (Or.inr ⟨_, rfl⟩) dX3_exchanged_65 (by omega) (by omega) ?_
  exact ⟨ad1, rfl, rfl, _, _, _, hzF, halF, ((hops1).set hobN hokN).set hob hok, nd_swap hnds1 hb hbN⟩
