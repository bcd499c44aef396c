/-! S, 10 -/
/-- conflicts with what stands in front -/
def cfAt (l : List Op) (k : Nat) : Nat := cN (fun i => opConf (opAt l i) (opAt l k)) k
def cfTo (l : List Op) : Nat → Nat
  | 0 => 0
  | k + 1 => cfTo l k + cfAt l k
theorem rsC_len {s : List Op} : (rsC s).length ≤ s.length := len_f
/-- how many operations of a kind, a transaction, an item -/
def ofN (l : List Op) (k t i : Nat) : Nat := cN (fun j => pOf k t i (opAt l j)) l.length
/-- conflicts on an item among the transactions up to t; the reads; the writes -/
def biIn (l : List Op) (i : Nat) : Nat → Nat × Nat × Nat
  | 0 => (0, 0, 0)
  | t + 1 => ((biIn l i t).1 + (ofN l 1 (t + 1) i * ((biIn l i t).2.1 + (biIn l i t).2.2) + ofN l 0 (t + 1) i * (biIn l i t).2.2), (biIn l i t).2.1 + ofN l 0 (t + 1) i, (biIn l i t).2.2 + ofN l 1 (t + 1) i)
def biTo (l : List Op) : Nat → Nat
  | 0 => 0
  | i + 1 => biTo l i + (biIn l i 5).1
theorem bi1 {l : List Op} {i t : Nat} : (biIn l i (t + 1)).1 = (biIn l i t).1 + (ofN l 1 (t + 1) i * ((biIn l i t).2.1 + (biIn l i t).2.2) + ofN l 0 (t + 1) i * (biIn l i t).2.2) := rfl
theorem bi2 {l : List Op} {i t : Nat} : (biIn l i (t + 1)).2.1 = (biIn l i t).2.1 + ofN l 0 (t + 1) i := rfl
theorem bi3 {l : List Op} {i t : Nat} : (biIn l i (t + 1)).2.2 = (biIn l i t).2.2 + ofN l 1 (t + 1) i := rfl
set_option maxHeartbeats 1500000 in
/-- X3 countConflicts()I -/
theorem fc_X3_countConflicts {l : Launch} {E : jE} (hls : l.stackTraces = false) (hE : jSt E) (hN : jCn E) {z : jZ} (hzc : zLe (zS E) z) {a : Nat} {s : List Op} (h : schZ E z a s) : fC l E yX3_countConflicts cX3_countConflicts 5 (some .int) 10 3136 (4 * s.length + 6) (68 * s.length + 20) [.ref a] z [] (fun rr z2 W2 => rr = some (.int (jI ((cfTo (rsC s) (rsC s).length : Nat) : Int))) ∧ W2 = []) := by
  refine f_startM (own := "ScheduleAnalyzer$Schedule") (vs := [some (.ref a), none, none, none, none]) hls (by decide +kernel) rfl rfl rfl (Nat.le_of_ble_eq_true rfl) ?_
  intro K H0 hk he hl0 hI hM hA
  have hsl33 := h.len
  refine j_ald4 hk dX3_countConflicts_0 rfl rfl ?_
  obtain ⟨lss1, mss1, lis1, hzs1, hals1, hops1, hnds1⟩ := id h
  refine f_callV (Wc := []) (Wr := []) hE hk hl0 (.inl hzs1) (show vwCl[2]? = some (RX3, TX3, 1) from rfl) (fc_X3_rest hls hE hN (z := z) hzc (a := a) (s := s) (h)) (fun _ h => Or.inl h) 0 (lw_V q870 q871 q872 q117 q873) (by decide +kernel) rfl (by decide) (by omega) rfl (Nat.le_of_ble_eq_true rfl) dX3_countConflicts_1 ?_
  refine Or.inl ⟨rfl, ?_⟩
  rintro _ z1 _ ⟨r2, rfl, rfl, hp2_0⟩ zl1
  refine f_W (W2 := []) rfl ?_
  have hzc := hzc.tr zl1
  have h := h.up zl1
  have hzs1 := zl1 _ hzs1
  have hals1 := hals1.up zl1
  have hops1 := hops1.up zl1
  obtain ⟨lss3, mss3, lis3, hzs3, hals3, hops3, hnds3⟩ := id hp2_0
  refine f_get hE hk in_X3 (.inl hzs3) (show vwCl[2]? = some (RX3, TX3, 1) from rfl) 0 (by decide) q803 (Or.inl rfl) rfl dX3_countConflicts_4 ?_
  refine j_ast1 hk dX3_countConflicts_7 rfl ?_
  have hrl := rsC_len (s := s)
  have hlr := (hops3).len
  refine j_iconst (n := 0) hk dX3_countConflicts_8 ?_
  refine j_ist2 hk dX3_countConflicts_9 rfl ?_
  refine j_iconst (n := 0) hk dX3_countConflicts_10 ?_
  refine j_ist3 hk dX3_countConflicts_11 rfl ?_
  have loop12 : ∀ (fuel12 : Nat) (k : Nat), (rsC s).length - k < fuel12 → k ≤ (rsC s).length → jW K (fO K E z z1 []) (3 * s.length + 6 + k) (67 * s.length + 20 + k) 12 [some (.ref a), some (.ref lss3), some (.int (jI ((cfTo (rsC s) k : Nat) : Int))), some (.int (jI ((k : Nat) : Int))), none] [] := by
    intro fuel12
    induction fuel12 with
    | zero => intro k hm; exact absurd hm (Nat.not_lt_zero _)
    | succ fuel12 ih12 =>
      intro k hm12 hkn
      refine j_ild4 hk dX3_countConflicts_12 rfl rfl ?_
      refine j_ald4 hk dX3_countConflicts_13 rfl rfl ?_
      obtain ⟨qo4, capo4, fo4, hc1o4, hc2o4, hl1o4, hl2o4, hfo4⟩ := hals3.cell hN hzc
      refine f_callF (Wc := []) (Wr := []) hE hk hl0 (.inl hc1o4) (show vwCl[10]? = some (RJ2, TJ2, 3) from rfl) (fc_J2_size hls hE hN (z := z1) hzc (a := lss3) (mc := mss3) (li := lis3) (hals3)) (fun _ h => Or.inl h) 0 (lw_Fg q893 q896 q898 q120 q900) q895 q894 q899 q897 q222 (by decide +kernel) rfl (by decide) (by omega) rfl (Nat.le_of_ble_eq_true rfl) dX3_countConflicts_14 ?_
      refine Or.inl ⟨rfl, ?_⟩
      rintro _ _ _ ⟨rfl, rfl, rfl⟩ -
      refine f_W (W2 := []) rfl ?_
      refine j_icmp_ge hk (by omega) (by omega) dX3_countConflicts_19 rfl (tgt := 55) (fun h19 => ?_) (fun h19 => ?_)
      · refine j_ild4 hk dX3_countConflicts_55 rfl rfl ?_
        refine f_iret hk he hA rfl dX3_countConflicts_56 (by omega) (by omega) ?_
        exact ⟨congrArg (fun z => some (Value.int (jI z))) (by rw [show (rsC s).length = k by omega]), rfl⟩
      · obtain ⟨b, hb, hob, hok⟩ := hops3.at (i := k) (by omega)
        obtain ⟨o1, o2, o3, o4, o5⟩ := id hok
        have lk := letK_c hok
        refine j_ald4 hk dX3_countConflicts_22 rfl rfl ?_
        refine j_ild4 hk dX3_countConflicts_23 rfl rfl ?_
        refine f_callF (Wc := []) (Wr := []) hE hk hl0 (.inl hc1o4) (show vwCl[10]? = some (RJ2, TJ2, 3) from rfl) (fc_J2_get hls hE hN (z := z1) hzc (a := lss3) (i := k) (mc := mss3) (li := lis3) (b := b) (hals3) (hb)) (fun _ h => Or.inl h) 1 (lw_Fg q1201 q393 q395 q120 q397) q392 q391 q396 q394 q222 (by decide +kernel) rfl (by decide) (by omega) rfl (Nat.le_of_ble_eq_true rfl) dX3_countConflicts_24 ?_
        refine Or.inl ⟨rfl, ?_⟩
        rintro _ _ _ ⟨rfl, rfl, rfl⟩ -
        refine f_W (W2 := []) rfl ?_
        refine f_castS hE hk (.inl hob) (show vwCl[5]? = some (RX6, TX6, 3) from rfl) q712 dX3_countConflicts_29 ?_
        refine j_ast4 hk dX3_countConflicts_32 rfl ?_
        refine j_ild4 hk dX3_countConflicts_34 rfl rfl ?_
        refine j_ald4 hk dX3_countConflicts_35 rfl rfl ?_
        refine j_ild4 hk dX3_countConflicts_36 rfl rfl ?_
        refine j_ald hk dX3_countConflicts_37 rfl ?_
        refine f_indy (vals := [.ref b]) (N := 1) hN.lam hk 2 rfl rfl hM rfl rfl (by decide) ⟨rfl, rfl, trivial⟩ (by simp [Value.category]) (by omega) ⟨by omega, by omega⟩ rfl rfl dX3_countConflicts_39 ?_
        intro lm1
        refine f_W (W2 := [[(lm1, .inr (20, [.ref b]))]]) rfl ?_
        obtain ⟨zL7, hlL7, hmL7, hbL7⟩ := f_lend z1 [[(lm1, .inr (20, [.ref b]))]] [[(lm1, .inr (20, [.ref b]))]] (by simp)
        refine f_callSN (Wc := []) (Wr := [[(lm1, .inr (20, [.ref b]))]]) hE hk hl0 (fc_X1_countBefore hls hE hN (z := zL7) (hzc.tr hlL7) (a := lss3) (n := k) (t := lm1) (p := (fun o9 => opConf o9 (opAt (rsC s) k))) (mc := mss3) (li := lis3) (s := rsC s) (hals3.up hlL7) (hops3.up hlL7) (by omega) (fun b o hb ho => tc_2 hls hE hN (hzc.tr hlL7) (hmL7 _ (List.mem_cons_self) _ (List.mem_cons_self)) (hlL7 _ hob) hok hb ho)) (hbL7) 3 q1265 q115 q1263 q1264 (by decide +kernel) rfl (by decide) (by omega) rfl (Nat.le_of_ble_eq_true rfl) dX3_countConflicts_44 ?_
        refine Or.inr ?_
        rintro _ _ _ ⟨rfl, rfl, -⟩ -
        refine f_W (W2 := [[(lm1, .inr (20, [.ref b]))]]) rfl ?_
        have rf9 := cN_le (fun i => (fun o9 => opConf o9 (opAt (rsC s) k)) (opAt (rsC s) i)) k
        refine j_iadd hk dX3_countConflicts_47 ?_
        refine j_ist2 hk dX3_countConflicts_48 rfl ?_
        refine j_iinc3 hk dX3_countConflicts_49 rfl ?_
        refine j_loc (i := 2) (z2 := ((cfTo (rsC s) (k + 1) : Nat) : Int)) rfl (by (show _ = ((cfTo (rsC s) k + cfAt (rsC s) k : Nat) : Int)); rfl) ?_
        refine j_goto (tgt := 12) hk dX3_countConflicts_52 rfl ?_
        refine j_forget (i := 4) ?_
        refine f_sel (W2 := []) [] rfl rfl ?_
        refine j_wide (k2 := 3 * s.length + 6 + (k + 1)) (n2 := 67 * s.length + 20 + (k + 1)) (by omega) (by omega) ?_
        exact ih12 (k + 1) (by omega) (by omega)
  refine j_wide (k2 := 3 * s.length + 6 + 0) (n2 := 67 * s.length + 20 + 0) (by omega) (by omega) ?_
  exact loop12 _ 0 (Nat.lt_succ_self _) (Nat.zero_le _)
set_option maxHeartbeats 1500000 in
/-- X3 countOf(LScheduleAnalyzer$Schedule;CIC)I -/
theorem fc_X3_countOf {l : Launch} {E : jE} (hls : l.stackTraces = false) (hE : jSt E) (hN : jCn E) {z : jZ} (hzc : zLe (zS E) z) {a : Nat} {t : Nat} {s : List Op} {ks : Nat} {ii : Nat} (h : schZ E z a s) (hks : ks < 4) (ht : t < 1000) (hii : ii < 4) : fC l E yX3_countOf cX3_countOf 4 (some .int) 8 3092 (1) (3) [.ref a, .int (jI ((letK ks : Nat) : Int)), .int (jI ((t : Nat) : Int)), .int (jI ((97 + ii : Nat) : Int))] z [] (fun rr z2 W2 => rr = some (.int (jI ((ofN s ks t ii : Nat) : Int))) ∧ W2 = [] ∧ z = z2) := by
  refine f_startM (own := "ScheduleAnalyzer$Schedule") (vs := [some (.ref a), some (.int (jI ((letK ks : Nat) : Int))), some (.int (jI ((t : Nat) : Int))), some (.int (jI ((97 + ii : Nat) : Int)))]) hls (by decide +kernel) rfl rfl rfl (Nat.le_of_ble_eq_true rfl) ?_
  intro K H0 hk he hl0 hI hM hA
  have hsl33 := h.len
  have lks := letK_l hks
  refine j_ald4 hk dX3_countOf_0 rfl rfl ?_
  obtain ⟨lss1, mss1, lis1, hzs1, hals1, hops1, hnds1⟩ := id h
  refine f_get hE hk in_X3 (.inl hzs1) (show vwCl[2]? = some (RX3, TX3, 1) from rfl) 0 (by decide) q803 (Or.inl rfl) rfl dX3_countOf_1 ?_
  refine j_ild4 hk dX3_countOf_4 rfl rfl ?_
  refine j_ild4 hk dX3_countOf_5 rfl rfl ?_
  refine j_ild4 hk dX3_countOf_6 rfl rfl ?_
  refine f_indy (vals := [.int (jI ((letK ks : Nat) : Int)), .int (jI ((t : Nat) : Int)), .int (jI ((97 + ii : Nat) : Int))]) (N := 3) hN.lam hk 3 rfl rfl hM rfl rfl (by decide) ⟨(jn_charI (by omega) (by omega)), (jn_charF (by omega) (by omega)), rfl, rfl, (jn_charI (by omega) (by omega)), (jn_charF (by omega) (by omega)), trivial⟩ (by simp [Value.category]) (by omega) ⟨by omega, by omega⟩ rfl rfl dX3_countOf_7 ?_
  intro lm1
  refine f_W (W2 := [[(lm1, .inr (21, [.int (jI ((letK ks : Nat) : Int)), .int (jI ((t : Nat) : Int)), .int (jI ((97 + ii : Nat) : Int))]))]]) rfl ?_
  obtain ⟨zL2, hlL2, hmL2, hbL2⟩ := f_lend z [[(lm1, .inr (21, [.int (jI ((letK ks : Nat) : Int)), .int (jI ((t : Nat) : Int)), .int (jI ((97 + ii : Nat) : Int))]))]] [[(lm1, .inr (21, [.int (jI ((letK ks : Nat) : Int)), .int (jI ((t : Nat) : Int)), .int (jI ((97 + ii : Nat) : Int))]))]] (by simp)
  refine f_callSN (Wc := []) (Wr := [[(lm1, .inr (21, [.int (jI ((letK ks : Nat) : Int)), .int (jI ((t : Nat) : Int)), .int (jI ((97 + ii : Nat) : Int))]))]]) hE hk hl0 (fc_X1_count hls hE hN (z := zL2) (hzc.tr hlL2) (a := lss1) (t := lm1) (p := (pOf ks t ii)) (mc := mss1) (li := lis1) (s := s) (hals1.up hlL2) (hops1.up hlL2) (fun b o hb ho => tc_3 hls hE hN (hzc.tr hlL2) (hmL2 _ (List.mem_cons_self) _ (List.mem_cons_self)) hb ho ht hks hii)) (hbL2) 2 q1277 q115 q1275 q1276 (by decide +kernel) rfl (by decide) (by omega) rfl (Nat.le_of_ble_eq_true rfl) dX3_countOf_12 ?_
  refine Or.inr ?_
  rintro _ _ _ ⟨rfl, rfl, -⟩ -
  refine f_W (W2 := [[(lm1, .inr (21, [.int (jI ((letK ks : Nat) : Int)), .int (jI ((t : Nat) : Int)), .int (jI ((97 + ii : Nat) : Int))]))]]) rfl ?_
  have rf4 := cN_le (fun i => (pOf ks t ii) (opAt s i)) s.length
  refine f_sel (W2 := []) [] rfl rfl ?_
  refine f_iret hk he hA rfl dX3_countOf_15 (by omega) (by omega) ?_
  exact ⟨congrArg (fun z => some (Value.int (jI z))) (rfl), rfl, rfl⟩
set_option maxHeartbeats 1500000 in
/-- X3 countConflictsByItems()I -/
theorem fc_X3_countConflictsByItems {l : Launch} {E : jE} (hls : l.stackTraces = false) (hE : jSt E) (hN : jCn E) {z : jZ} (hzc : zLe (zS E) z) {a : Nat} {s : List Op} (h : schZ E z a s) : fC l E yX3_countConflictsByItems cX3_countConflictsByItems 9 (some .int) 10 3136 (3 * s.length + 60) (67 * s.length + 200) [.ref a] z [] (fun rr z2 W2 => rr = some (.int (jI ((biTo (rsC s) 4 : Nat) : Int))) ∧ W2 = []) := by
  refine f_start (own := "ScheduleAnalyzer$Schedule") (vs := [some (.ref a), none, none, none, none, none, none, none, none]) hls (by decide +kernel) rfl rfl rfl (Nat.le_of_ble_eq_true rfl) ?_
  intro K H0 hk he hl0 hI hA
  have hsl33 := h.len
  refine j_ald4 hk dX3_countConflictsByItems_0 rfl rfl ?_
  obtain ⟨lss1, mss1, lis1, hzs1, hals1, hops1, hnds1⟩ := id h
  refine f_callV (Wc := []) (Wr := []) hE hk hl0 (.inl hzs1) (show vwCl[2]? = some (RX3, TX3, 1) from rfl) (fc_X3_rest hls hE hN (z := z) hzc (a := a) (s := s) (h)) (fun _ h => Or.inl h) 0 (lw_V q870 q871 q872 q117 q873) (by decide +kernel) rfl (by decide) (by omega) rfl (Nat.le_of_ble_eq_true rfl) dX3_countConflictsByItems_1 ?_
  refine Or.inl ⟨rfl, ?_⟩
  rintro _ z1 _ ⟨r2, rfl, rfl, hp2_0⟩ zl1
  refine f_W (W2 := []) rfl ?_
  have hzc := hzc.tr zl1
  have h := h.up zl1
  have hzs1 := zl1 _ hzs1
  have hals1 := hals1.up zl1
  have hops1 := hops1.up zl1
  refine j_ast1 hk dX3_countConflictsByItems_4 rfl ?_
  have hrl := rsC_len (s := s)
  refine j_iconst (n := 0) hk dX3_countConflictsByItems_5 ?_
  refine j_ist2 hk dX3_countConflictsByItems_6 rfl ?_
  refine j_bipush (n := 97) hk rfl dX3_countConflictsByItems_7 ?_
  refine j_ist3 hk dX3_countConflictsByItems_9 rfl ?_
  have loop10 : ∀ (fuel10 : Nat) (i : Nat), 4 - i < fuel10 → i ≤ 4 → jW K (fO K E z z1 []) (3 * s.length + 6 + 10 * i) (67 * s.length + 20 + 30 * i) 10 [some (.ref a), some (.ref r2), some (.int (jI ((biTo (rsC s) i : Nat) : Int))), some (.int (jI ((97 + i : Nat) : Int))), none, none, none, none, none] [] := by
    intro fuel10
    induction fuel10 with
    | zero => intro i hm; exact absurd hm (Nat.not_lt_zero _)
    | succ fuel10 ih10 =>
      intro i hm10 hi4
      refine j_ild4 hk dX3_countConflictsByItems_10 rfl rfl ?_
      refine j_bipush (n := 100) hk rfl dX3_countConflictsByItems_11 ?_
      refine j_icmp_gt hk (by omega) (by omega) dX3_countConflictsByItems_13 rfl (tgt := 98) (fun h13 => ?_) (fun h13 => ?_)
      · refine j_ild4 hk dX3_countConflictsByItems_98 rfl rfl ?_
        refine f_iret hk he hA rfl dX3_countConflictsByItems_99 (by omega) (by omega) ?_
        exact ⟨congrArg (fun z => some (Value.int (jI z))) (by rw [show i = 4 by omega]), rfl⟩
      · refine j_iconst (n := 0) hk dX3_countConflictsByItems_16 ?_
        refine j_ist4 hk dX3_countConflictsByItems_17 rfl ?_
        refine j_iconst (n := 0) hk dX3_countConflictsByItems_19 ?_
        refine j_ist5 hk dX3_countConflictsByItems_20 rfl ?_
        refine j_iconst (n := 1) hk dX3_countConflictsByItems_22 ?_
        refine j_ist6 hk dX3_countConflictsByItems_23 rfl ?_
        have loop25 : ∀ (fuel25 : Nat) (t : Nat), 5 - t < fuel25 → t ≤ 5 → jW K (fO K E z z1 []) (3 * s.length + 6 + 10 * i + 2 * t) (67 * s.length + 20 + 30 * i + 6 * t) 25 [some (.ref a), some (.ref r2), some (.int (jI ((biTo (rsC s) i + (biIn (rsC s) i t).1 : Nat) : Int))), some (.int (jI ((97 + i : Nat) : Int))), some (.int (jI (((biIn (rsC s) i t).2.1 : Nat) : Int))), some (.int (jI (((biIn (rsC s) i t).2.2 : Nat) : Int))), some (.int (jI ((t + 1 : Nat) : Int))), none, none] [] := by
          intro fuel25
          induction fuel25 with
          | zero => intro t hm; exact absurd hm (Nat.not_lt_zero _)
          | succ fuel25 ih25 =>
            intro t hm25 ht5
            refine j_ild hk dX3_countConflictsByItems_25 rfl ?_
            refine j_iconst (n := 5) hk dX3_countConflictsByItems_27 ?_
            refine j_icmp_gt hk (by omega) (by omega) dX3_countConflictsByItems_28 rfl (tgt := 90) (fun h28 => ?_) (fun h28 => ?_)
            · refine j_ild4 hk dX3_countConflictsByItems_90 rfl rfl ?_
              refine j_iconst (n := 1) hk dX3_countConflictsByItems_91 ?_
              refine j_iadd hk dX3_countConflictsByItems_92 ?_
              refine j_i2c hk dX3_countConflictsByItems_93 ?_
              refine j_top (z2 := ((97 + (i + 1) : Nat) : Int)) (by omega) ?_
              refine j_loc (i := 2) (z2 := ((biTo (rsC s) (i + 1) : Nat) : Int)) rfl (by (show _ = ((biTo (rsC s) i + (biIn (rsC s) i 5).1 : Nat) : Int)); rw [show t = 5 by omega]) ?_
              refine j_ist3 hk dX3_countConflictsByItems_94 rfl ?_
              refine j_goto (tgt := 10) hk dX3_countConflictsByItems_95 rfl ?_
              refine j_forget (i := 4) ?_
              refine j_forget (i := 5) ?_
              refine j_forget (i := 6) ?_
              refine j_wide (k2 := 3 * s.length + 6 + 10 * (i + 1)) (n2 := 67 * s.length + 20 + 30 * (i + 1)) (by omega) (by omega) ?_
              exact ih10 (i + 1) (by omega) (by omega)
            · refine j_ald4 hk dX3_countConflictsByItems_31 rfl rfl ?_
              refine j_bipush (n := 114) hk rfl dX3_countConflictsByItems_32 ?_
              refine j_ild hk dX3_countConflictsByItems_34 rfl ?_
              refine j_ild4 hk dX3_countConflictsByItems_36 rfl rfl ?_
              refine f_callS (Wc := []) (Wr := []) hk hl0 (fc_X3_countOf hls hE hN (z := z1) hzc (a := r2) (t := t + 1) (ks := 0) (ii := i) (s := rsC s) (hp2_0) (by first | assumption | omega) (by first | assumption | omega) (by first | assumption | omega)) (fun _ h => Or.inl h) 4 (lw_S q1270 q1271 q117 q1272) (by decide +kernel) rfl (by decide) (by omega) rfl (Nat.le_of_ble_eq_true rfl) dX3_countConflictsByItems_37 ?_
              refine Or.inl ⟨rfl, ?_⟩
              rintro _ _ _ ⟨rfl, rfl, rfl⟩ -
              refine f_W (W2 := []) rfl ?_
              have rf4 := cN_le (fun j => pOf 0 (t + 1) i (opAt (rsC s) j)) (rsC s).length
              refine j_ist7 hk dX3_countConflictsByItems_40 rfl ?_
              refine j_ald4 hk dX3_countConflictsByItems_42 rfl rfl ?_
              refine j_bipush (n := 119) hk rfl dX3_countConflictsByItems_43 ?_
              refine j_ild hk dX3_countConflictsByItems_45 rfl ?_
              refine j_ild4 hk dX3_countConflictsByItems_47 rfl rfl ?_
              refine f_callS (Wc := []) (Wr := []) hk hl0 (fc_X3_countOf hls hE hN (z := z1) hzc (a := r2) (t := t + 1) (ks := 1) (ii := i) (s := rsC s) (hp2_0) (by first | assumption | omega) (by first | assumption | omega) (by first | assumption | omega)) (fun _ h => Or.inl h) 4 (lw_S q1270 q1271 q117 q1272) (by decide +kernel) rfl (by decide) (by omega) rfl (Nat.le_of_ble_eq_true rfl) dX3_countConflictsByItems_48 ?_
              refine Or.inl ⟨rfl, ?_⟩
              rintro _ _ _ ⟨rfl, rfl, rfl⟩ -
              refine f_W (W2 := []) rfl ?_
              have rf6 := cN_le (fun j => pOf 1 (t + 1) i (opAt (rsC s) j)) (rsC s).length
              refine j_ist8 hk dX3_countConflictsByItems_51 rfl ?_
              refine j_ild4 hk dX3_countConflictsByItems_53 rfl rfl ?_
              refine j_ild hk dX3_countConflictsByItems_54 rfl ?_
              refine j_ild hk dX3_countConflictsByItems_56 rfl ?_
              refine j_ild hk dX3_countConflictsByItems_58 rfl ?_
              refine j_iadd hk dX3_countConflictsByItems_60 ?_
              refine j_imul hk dX3_countConflictsByItems_61 ?_
              refine j_ild hk dX3_countConflictsByItems_62 rfl ?_
              refine j_ild hk dX3_countConflictsByItems_64 rfl ?_
              refine j_imul hk dX3_countConflictsByItems_66 ?_
              refine j_iadd hk dX3_countConflictsByItems_67 ?_
              refine j_iadd hk dX3_countConflictsByItems_68 ?_
              refine j_ist2 hk dX3_countConflictsByItems_69 rfl ?_
              refine j_ild hk dX3_countConflictsByItems_70 rfl ?_
              refine j_ild hk dX3_countConflictsByItems_72 rfl ?_
              refine j_iadd hk dX3_countConflictsByItems_74 ?_
              refine j_ist4 hk dX3_countConflictsByItems_75 rfl ?_
              refine j_ild hk dX3_countConflictsByItems_77 rfl ?_
              refine j_ild hk dX3_countConflictsByItems_79 rfl ?_
              refine j_iadd hk dX3_countConflictsByItems_81 ?_
              refine j_ist5 hk dX3_countConflictsByItems_82 rfl ?_
              refine j_loc (i := 2) (z2 := ((biTo (rsC s) i + (biIn (rsC s) i (t + 1)).1 : Nat) : Int)) rfl (by rw [bi1]; simp only [Int.natCast_add, Int.natCast_mul]; rw [Int.add_assoc]) ?_
              refine j_loc (i := 4) (z2 := (((biIn (rsC s) i (t + 1)).2.1 : Nat) : Int)) rfl (by rw [bi2]; rfl) ?_
              refine j_loc (i := 5) (z2 := (((biIn (rsC s) i (t + 1)).2.2 : Nat) : Int)) rfl (by rw [bi3]; rfl) ?_
              refine j_iinc6 hk dX3_countConflictsByItems_84 rfl ?_
              refine j_goto (tgt := 25) hk dX3_countConflictsByItems_87 rfl ?_
              refine j_forget (i := 7) ?_
              refine j_forget (i := 8) ?_
              refine j_wide (k2 := 3 * s.length + 6 + 10 * i + 2 * (t + 1)) (n2 := 67 * s.length + 20 + 30 * i + 6 * (t + 1)) (by omega) (by omega) ?_
              exact ih25 (t + 1) (by omega) (by omega)
        refine j_wide (k2 := 3 * s.length + 6 + 10 * i + 2 * 0) (n2 := 67 * s.length + 20 + 30 * i + 6 * 0) (by omega) (by omega) ?_
        exact loop25 _ 0 (Nat.lt_succ_self _) (Nat.zero_le _)
  refine j_wide (k2 := 3 * s.length + 6 + 10 * 0) (n2 := 67 * s.length + 20 + 30 * 0) (by omega) (by omega) ?_
  exact loop10 _ 0 (Nat.lt_succ_self _) (Nat.zero_le _)
