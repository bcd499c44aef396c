/-! S, 12 -/
theorem plC_le {M : List Op} {t n : Nat} : plC M t n ≤ M.length := by
  unfold plC
  cases h : (List.range M.length).find? fun i => sqP M t i && decide (cN (sqP M t) i = n) with
  | none => exact Nat.zero_le _
  | some i =>
    have := List.mem_range.mp (List.mem_of_find?_eq_some h)
    show i ≤ _
    omega
theorem eqv_f {a : Bool} {p : Nat → Bool} {i n : Nat} (h : i ≤ n) (hf : (a && (List.range i).all p) = false) : (a && (List.range n).all p) = false := by
  cases a with
  | false => rfl
  | true => exact all_le h hf
set_option maxHeartbeats 1500000 in
/-- X3 isEquivalentTo(LScheduleAnalyzer$Schedule;)Z -/
theorem fc_X3_isEquivalentTo {l : Launch} {E : jE} (hls : l.stackTraces = false) (hE : jSt E) (hN : jCn E) {z : jZ} (hzc : zLe (zS E) z) {a : Nat} {c : Nat} {s : List Op} {m : List Op} (h : schZ E z a s) (h2 : schZ E z c m) (hl20 : s.length ≤ 20) (hm20 : m.length ≤ 20) : fC l E yX3_isEquivalentTo cX3_isEquivalentTo 7 (some .boolean) 10 3117 (1200) (20600) [.ref a, .ref c] z [] (fun rr z2 W2 => rr = some (.int (jI (jB (eqvC s m)))) ∧ W2 = []) := by
  refine f_start (own := "ScheduleAnalyzer$Schedule") (vs := [some (.ref a), some (.ref c), none, none, none, none, none]) hls (by decide +kernel) rfl rfl rfl (Nat.le_of_ble_eq_true rfl) ?_
  intro K H0 hk he hl0 hI hA
  have hsl33 := h.len
  refine j_ald4 hk dX3_isEquivalentTo_0 rfl rfl ?_
  refine j_ald4 hk dX3_isEquivalentTo_1 rfl rfl ?_
  obtain ⟨lss1, mss1, lis1, hzs1, hals1, hops1, hnds1⟩ := id h
  refine f_callV (Wc := []) (Wr := []) hE hk hl0 (.inl hzs1) (show vwCl[2]? = some (RX3, TX3, 1) from rfl) (fc_X3_hasSameOperations hls hE hN (z := z) hzc (a := a) (c := c) (s := s) (m := m) (h) (h2) (hl20) (hm20)) (fun _ h => Or.inl h) 1 (lw_V q2233 q2235 qs49 q117 q2236) (by decide +kernel) rfl (by decide) (by omega) rfl (Nat.le_of_ble_eq_true rfl) dX3_isEquivalentTo_2 ?_
  refine Or.inl ⟨rfl, ?_⟩
  rintro _ z1 _ ⟨rfl, rfl⟩ zl1
  refine f_W (W2 := []) rfl ?_
  have hzc := hzc.tr zl1
  have h := h.up zl1
  have h2 := h2.up zl1
  have hzs1 := zl1 _ hzs1
  have hals1 := hals1.up zl1
  have hops1 := hops1.up zl1
  refine j_ist2 hk dX3_isEquivalentTo_5 rfl ?_
  refine j_iconst (n := 0) hk dX3_isEquivalentTo_6 ?_
  refine j_ist3 hk dX3_isEquivalentTo_7 rfl ?_
  have loop8 : ∀ (fuel8 : Nat) (l : Nat) (x : Bool), s.length - l < fuel8 → l ≤ s.length → x = (smC s m 5 && (List.range l).all (fun l => (List.range l).all (eqAt s m l))) → jW K (fO K E z z1 []) (700 + 22 * l) (20000 + 22 * l) 8 [some (.ref a), some (.ref c), some (.int (jI (jB x))), some (.int (jI ((l : Nat) : Int))), none, none, none] [] := by
    intro fuel8
    induction fuel8 with
    | zero => intro l x hm; exact absurd hm (Nat.not_lt_zero _)
    | succ fuel8 ih8 =>
      intro l x hm8 hln hx
      refine j_ild4 hk dX3_isEquivalentTo_8 rfl rfl ?_
      refine j_ifeqB hk dX3_isEquivalentTo_9 rfl (tgt := 108) (fun h9 => ?_) (fun h9 => ?_)
      · refine j_ild4 hk dX3_isEquivalentTo_108 rfl rfl ?_
        refine f_iret hk he hA (jn_bool _) dX3_isEquivalentTo_109 (by omega) (by omega) ?_
        exact ⟨congrArg (fun z => some (Value.int (jI z))) (by unfold eqvC; first | (rw [hx, show s.length = l by omega]) | (rw [h9]; exact congrArg jB (eqv_f hln (by rw [← hx]; exact h9)).symm)), rfl⟩
      · refine j_ild4 hk dX3_isEquivalentTo_12 rfl rfl ?_
        refine j_ald4 hk dX3_isEquivalentTo_13 rfl rfl ?_
        refine f_callV (Wc := []) (Wr := []) hE hk hl0 (.inl hzs1) (show vwCl[2]? = some (RX3, TX3, 1) from rfl) (fc_X3_size hls hE hN (z := z1) hzc (a := a) (s := s) (h)) (fun _ h => Or.inl h) 0 (lw_V q888 q889 q890 q117 q891) (by decide +kernel) rfl (by decide) (by omega) rfl (Nat.le_of_ble_eq_true rfl) dX3_isEquivalentTo_14 ?_
        refine Or.inl ⟨rfl, ?_⟩
        rintro _ _ _ ⟨rfl, rfl, rfl⟩ -
        refine f_W (W2 := []) rfl ?_
        refine j_icmp_ge hk (by omega) (by omega) dX3_isEquivalentTo_17 rfl (tgt := 108) (fun h17 => ?_) (fun h17 => ?_)
        · refine j_ild4 hk dX3_isEquivalentTo_108 rfl rfl ?_
          refine f_iret hk he hA (jn_bool _) dX3_isEquivalentTo_109 (by omega) (by omega) ?_
          exact ⟨congrArg (fun z => some (Value.int (jI z))) (by unfold eqvC; first | (rw [hx, show s.length = l by omega]) | (rw [h9]; exact congrArg jB (eqv_f hln (by rw [← hx]; exact h9)).symm)), rfl⟩
        · refine j_ald4 hk dX3_isEquivalentTo_20 rfl rfl ?_
          refine j_ald4 hk dX3_isEquivalentTo_21 rfl rfl ?_
          have hxt : (smC s m 5 && (List.range l).all (fun l => (List.range l).all (eqAt s m l))) = true := by rw [← hx]; exact h9
          have hsm := (Bool.and_eq_true_iff.mp hxt).1
          obtain ⟨bL, hbL, hobL, hokL⟩ := hops1.at (i := l) (by omega)
          obtain ⟨o1L, o2L, o3L, o4L, o5L⟩ := id hokL
          have lkL := letK_c hokL
          refine j_ild4 hk dX3_isEquivalentTo_22 rfl rfl ?_
          refine f_callV (Wc := []) (Wr := []) hE hk hl0 (.inl hzs1) (show vwCl[2]? = some (RX3, TX3, 1) from rfl) (fc_X3_placeIn hls hE hN (z := z1) hzc (a := a) (c := c) (k := l) (s := s) (m := m) (h) (h2) (by omega) (sm_pl hsm (by omega) hokL)) (fun _ h => Or.inl h) 2 (lw_V q2242 q2244 qs50 q117 q2245) (by decide +kernel) rfl (by decide) (by omega) rfl (Nat.le_of_ble_eq_true rfl) dX3_isEquivalentTo_23 ?_
          refine Or.inl ⟨rfl, ?_⟩
          rintro _ _ _ ⟨rfl, rfl, rfl⟩ -
          refine f_W (W2 := []) rfl ?_
          refine j_ist4 hk dX3_isEquivalentTo_26 rfl ?_
          refine j_iconst (n := 0) hk dX3_isEquivalentTo_28 ?_
          refine j_ist5 hk dX3_isEquivalentTo_29 rfl ?_
          have loop31 : ∀ (fuel31 : Nat) (i : Nat) (y : Bool), l - i < fuel31 → i ≤ l → y = (List.range i).all (eqAt s m l) → jW K (fO K E z z1 []) (701 + 22 * l + i) (20001 + 22 * l + i) 31 [some (.ref a), some (.ref c), some (.int (jI (jB y))), some (.int (jI ((l : Nat) : Int))), some (.int (jI ((plC m (oT (opAt s l)) (cN (sqP s (oT (opAt s l))) l) : Nat) : Int))), some (.int (jI ((i : Nat) : Int))), none] [] := by
            intro fuel31
            induction fuel31 with
            | zero => intro i y hm; exact absurd hm (Nat.not_lt_zero _)
            | succ fuel31 ih31 =>
              intro i y hm31 hil hy
              refine j_ild4 hk dX3_isEquivalentTo_31 rfl rfl ?_
              refine j_ifeqB hk dX3_isEquivalentTo_32 rfl (tgt := 102) (fun h32 => ?_) (fun h32 => ?_)
              · refine j_iinc3 hk dX3_isEquivalentTo_102 rfl ?_
                refine j_goto (tgt := 8) hk dX3_isEquivalentTo_105 rfl ?_
                refine j_forget (i := 4) ?_
                refine j_forget (i := 5) ?_
                refine j_wide (k2 := 700 + 22 * (l + 1)) (n2 := 20000 + 22 * (l + 1)) (by omega) (by omega) ?_
                exact ih8 (l + 1) y (by omega) (by omega) (by rw [all_S, ← Bool.and_assoc, hxt, Bool.true_and]; first | (rw [hy, show i = l by omega]) | (rw [h32]; exact (all_le hil (by rw [← hy]; exact h32)).symm))
              · refine j_ild hk dX3_isEquivalentTo_35 rfl ?_
                refine j_ild4 hk dX3_isEquivalentTo_37 rfl rfl ?_
                refine j_icmp_ge hk (by omega) (by omega) dX3_isEquivalentTo_38 rfl (tgt := 102) (fun h38 => ?_) (fun h38 => ?_)
                · refine j_iinc3 hk dX3_isEquivalentTo_102 rfl ?_
                  refine j_goto (tgt := 8) hk dX3_isEquivalentTo_105 rfl ?_
                  refine j_forget (i := 4) ?_
                  refine j_forget (i := 5) ?_
                  refine j_wide (k2 := 700 + 22 * (l + 1)) (n2 := 20000 + 22 * (l + 1)) (by omega) (by omega) ?_
                  exact ih8 (l + 1) y (by omega) (by omega) (by rw [all_S, ← Bool.and_assoc, hxt, Bool.true_and]; first | (rw [hy, show i = l by omega]) | (rw [h32]; exact (all_le hil (by rw [← hy]; exact h32)).symm))
                · refine j_ald4 hk dX3_isEquivalentTo_41 rfl rfl ?_
                  refine f_get hE hk in_X3 (.inl hzs1) (show vwCl[2]? = some (RX3, TX3, 1) from rfl) 0 (by decide) q803 (Or.inl rfl) rfl dX3_isEquivalentTo_42 ?_
                  obtain ⟨b, hb, hob, hok⟩ := hops1.at (i := i) (by omega)
                  obtain ⟨o1, o2, o3, o4, o5⟩ := id hok
                  have lk := letK_c hok
                  refine j_ild hk dX3_isEquivalentTo_45 rfl ?_
                  obtain ⟨qo5, capo5, fo5, hc1o5, hc2o5, hl1o5, hl2o5, hfo5⟩ := hals1.cell hN hzc
                  refine f_callF (Wc := []) (Wr := []) hE hk hl0 (.inl hc1o5) (show vwCl[10]? = some (RJ2, TJ2, 3) from rfl) (fc_J2_get hls hE hN (z := z1) hzc (a := lss1) (i := i) (mc := mss1) (li := lis1) (b := b) (hals1) (hb)) (fun _ h => Or.inl h) 1 (lw_Fg q1201 q393 q395 q120 q397) q392 q391 q396 q394 q222 (by decide +kernel) rfl (by decide) (by omega) rfl (Nat.le_of_ble_eq_true rfl) dX3_isEquivalentTo_47 ?_
                  refine Or.inl ⟨rfl, ?_⟩
                  rintro _ _ _ ⟨rfl, rfl, rfl⟩ -
                  refine f_W (W2 := []) rfl ?_
                  refine f_castS hE hk (.inl hob) (show vwCl[5]? = some (RX6, TX6, 3) from rfl) q712 dX3_isEquivalentTo_52 ?_
                  refine j_ald4 hk dX3_isEquivalentTo_55 rfl rfl ?_
                  refine f_get hE hk in_X3 (.inl hzs1) (show vwCl[2]? = some (RX3, TX3, 1) from rfl) 0 (by decide) q803 (Or.inl rfl) rfl dX3_isEquivalentTo_56 ?_
                  refine j_ild4 hk dX3_isEquivalentTo_59 rfl rfl ?_
                  refine f_callF (Wc := []) (Wr := []) hE hk hl0 (.inl hc1o5) (show vwCl[10]? = some (RJ2, TJ2, 3) from rfl) (fc_J2_get hls hE hN (z := z1) hzc (a := lss1) (i := l) (mc := mss1) (li := lis1) (b := bL) (hals1) (hbL)) (fun _ h => Or.inl h) 1 (lw_Fg q1201 q393 q395 q120 q397) q392 q391 q396 q394 q222 (by decide +kernel) rfl (by decide) (by omega) rfl (Nat.le_of_ble_eq_true rfl) dX3_isEquivalentTo_60 ?_
                  refine Or.inl ⟨rfl, ?_⟩
                  rintro _ _ _ ⟨rfl, rfl, rfl⟩ -
                  refine f_W (W2 := []) rfl ?_
                  refine f_castS hE hk (.inl hobL) (show vwCl[5]? = some (RX6, TX6, 3) from rfl) q712 dX3_isEquivalentTo_65 ?_
                  refine f_callV (Wc := []) (Wr := []) hE hk hl0 (.inl hob) (show vwCl[5]? = some (RX6, TX6, 3) from rfl) (fc_X6_conflictsWith hls hE hN (z := z1) hzc (a := b) (b := bL) (o := opAt s i) (o2 := opAt s l) (hob) (hok) (hobL) (hokL)) (fun _ h => Or.inl h) 1 (lw_V q1202 q1203 q1204 q149 q1205) (by decide +kernel) rfl (by decide) (by omega) rfl (Nat.le_of_ble_eq_true rfl) dX3_isEquivalentTo_68 ?_
                  refine Or.inl ⟨rfl, ?_⟩
                  rintro _ _ _ ⟨rfl, rfl, rfl⟩ -
                  refine f_W (W2 := []) rfl ?_
                  refine j_ist6 hk dX3_isEquivalentTo_71 rfl ?_
                  refine j_ild hk dX3_isEquivalentTo_73 rfl ?_
                  refine j_ifeqB hk dX3_isEquivalentTo_75 rfl (tgt := 90) (fun h75 => ?_) (fun h75 => ?_)
                  · refine j_iconst (n := 1) hk dX3_isEquivalentTo_90 ?_
                    refine j_goto (tgt := 95) hk dX3_isEquivalentTo_91 rfl ?_
                    refine j_ist2 hk dX3_isEquivalentTo_95 rfl ?_
                    refine j_loc (i := 2) (z2 := jB (eqAt s m l i)) rfl (by first | (rw [show eqAt s m l i = true by unfold eqAt; first | (rw [h75]; rfl) | (rw [h75, decide_eq_true (by omega)]; rfl)]; rfl) | (rw [show eqAt s m l i = false by unfold eqAt; rw [h75, decide_eq_false (by omega)]; rfl]; rfl)) ?_
                    refine j_iinc5 hk dX3_isEquivalentTo_96 rfl ?_
                    refine j_goto (tgt := 31) hk dX3_isEquivalentTo_99 rfl ?_
                    refine j_forget (i := 6) ?_
                    refine j_wide (k2 := 701 + 22 * l + (i + 1)) (n2 := 20001 + 22 * l + (i + 1)) (by omega) (by omega) ?_
                    exact ih31 (i + 1) (eqAt s m l i) (by omega) (by omega) (by rw [all_S, ← hy, h32]; rfl)
                  · refine j_ald4 hk dX3_isEquivalentTo_78 rfl rfl ?_
                    refine j_ald4 hk dX3_isEquivalentTo_79 rfl rfl ?_
                    refine j_ild hk dX3_isEquivalentTo_80 rfl ?_
                    refine f_callV (Wc := []) (Wr := []) hE hk hl0 (.inl hzs1) (show vwCl[2]? = some (RX3, TX3, 1) from rfl) (fc_X3_placeIn hls hE hN (z := z1) hzc (a := a) (c := c) (k := i) (s := s) (m := m) (h) (h2) (by omega) (sm_pl hsm (by omega) hok)) (fun _ h => Or.inl h) 2 (lw_V q2242 q2244 qs50 q117 q2245) (by decide +kernel) rfl (by decide) (by omega) rfl (Nat.le_of_ble_eq_true rfl) dX3_isEquivalentTo_82 ?_
                    refine Or.inl ⟨rfl, ?_⟩
                    rintro _ _ _ ⟨rfl, rfl, rfl⟩ -
                    refine f_W (W2 := []) rfl ?_
                    have hpA := plC_le (M := m) (t := oT (opAt s i)) (n := cN (sqP s (oT (opAt s i))) i)
                    have hpB := plC_le (M := m) (t := oT (opAt s l)) (n := cN (sqP s (oT (opAt s l))) l)
                    have hm33 := h2.len
                    refine j_ild hk dX3_isEquivalentTo_85 rfl ?_
                    refine j_icmp_ge hk (by omega) (by omega) dX3_isEquivalentTo_87 rfl (tgt := 94) (fun h87 => ?_) (fun h87 => ?_)
                    · refine j_iconst (n := 0) hk dX3_isEquivalentTo_94 ?_
                      refine j_ist2 hk dX3_isEquivalentTo_95 rfl ?_
                      refine j_loc (i := 2) (z2 := jB (eqAt s m l i)) rfl (by first | (rw [show eqAt s m l i = true by unfold eqAt; first | (rw [h75]; rfl) | (rw [h75, decide_eq_true (by omega)]; rfl)]; rfl) | (rw [show eqAt s m l i = false by unfold eqAt; rw [h75, decide_eq_false (by omega)]; rfl]; rfl)) ?_
                      refine j_iinc5 hk dX3_isEquivalentTo_96 rfl ?_
                      refine j_goto (tgt := 31) hk dX3_isEquivalentTo_99 rfl ?_
                      refine j_forget (i := 6) ?_
                      refine j_wide (k2 := 701 + 22 * l + (i + 1)) (n2 := 20001 + 22 * l + (i + 1)) (by omega) (by omega) ?_
                      exact ih31 (i + 1) (eqAt s m l i) (by omega) (by omega) (by rw [all_S, ← hy, h32]; rfl)
                    · refine j_iconst (n := 1) hk dX3_isEquivalentTo_90 ?_
                      refine j_goto (tgt := 95) hk dX3_isEquivalentTo_91 rfl ?_
                      refine j_ist2 hk dX3_isEquivalentTo_95 rfl ?_
                      refine j_loc (i := 2) (z2 := jB (eqAt s m l i)) rfl (by first | (rw [show eqAt s m l i = true by unfold eqAt; first | (rw [h75]; rfl) | (rw [h75, decide_eq_true (by omega)]; rfl)]; rfl) | (rw [show eqAt s m l i = false by unfold eqAt; rw [h75, decide_eq_false (by omega)]; rfl]; rfl)) ?_
                      refine j_iinc5 hk dX3_isEquivalentTo_96 rfl ?_
                      refine j_goto (tgt := 31) hk dX3_isEquivalentTo_99 rfl ?_
                      refine j_forget (i := 6) ?_
                      refine j_wide (k2 := 701 + 22 * l + (i + 1)) (n2 := 20001 + 22 * l + (i + 1)) (by omega) (by omega) ?_
                      exact ih31 (i + 1) (eqAt s m l i) (by omega) (by omega) (by rw [all_S, ← hy, h32]; rfl)
          refine j_wide (k2 := 701 + 22 * l + 0) (n2 := 20001 + 22 * l + 0) (by omega) (by omega) ?_
          exact loop31 _ 0 x (Nat.lt_succ_self _) (Nat.zero_le _) (by rw [h9]; rfl)
  refine j_wide (k2 := 700 + 22 * 0) (n2 := 20000 + 22 * 0) (by omega) (by omega) ?_
  exact loop8 _ 0 (smC s m 5) (Nat.lt_succ_self _) (Nat.zero_le _) (by simp)
