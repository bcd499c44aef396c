/-! X, 2 -/
/-- values, registers, the writes, what they replaced -/
abbrev XcS : Type := (Nat → Nat) × (Nat → Nat) × List Op × List Nat
def xcS (o : Op) (x : XcS) : XcS :=
  if oK o = 0 then (x.1, nup x.2.1 (oT o) ((x.2.1 (oT o) + x.1 (oI o)) % 1000), x.2.2.1, x.2.2.2)
  else if oK o = 1 then (nup x.1 (oI o) (x.2.1 (oT o)), x.2.1, x.2.2.1 ++ [o], x.2.2.2 ++ [x.1 (oI o)])
  else if oK o = 3 then (unC x.2.2.1 x.2.2.2 (oT o) x.2.2.1.length x.1, x.2.1, x.2.2.1, x.2.2.2)
  else x
theorem iup_nup {f : Nat → Nat} {k : Nat} {v : Int} {n : Nat} (h : v = ((n : Nat) : Int)) : iup (fun j => ((f j : Nat) : Int)) k v = (fun j => ((nup f k n j : Nat) : Int)) := by
  funext j
  unfold iup nup
  split
  · exact h
  · rfl
set_option maxHeartbeats 1500000 in
/-- X10 execute(LScheduleAnalyzer$Operation;)V -/
theorem fc_X10_execute {l : Launch} {E : jE} (hls : l.stackTraces = false) (hE : jSt E) (hN : jCn E) {z : jZ} (hzc : zLe (zS E) z) {a : Nat} {b : Nat} {va : Nat} {rg : Nat} {wl : Nat} {rl : Nat} {c : Nat → Nat} {g : Nat → Nat} {l1 : List Nat} {l2 : List Nat} {m1 : Int} {m2 : Int} {w1 : va_W} {w2 : va_W} {ws : List Op} {rp : List Nat} {o : Op} (hx : z (a, .inr (9, [.ref va, .ref rg, .ref wl, .ref rl]))) (ho_b : z (b, .inr (5, opFs o))) (hk_b : opOK o) (hw1 : alW E wl m1 l1 w1) (hw2 : alW E rl m2 l2 w2) (hop : opsZ z l1 ws) (hin : intsZ z l2 rp) (hln : rp.length = ws.length) (hc : ∀ i, c i < 1000) (hg : ∀ i, g i < 1000) (hw32 : ws.length < 32) : fC l E yX10_execute cX10_execute 4 (none) 7 191 (3) (68) [.ref a, .ref b] z [[(va, .inl (E.2.2 0, 4, .inl (fun j => jI ((fun j => ((c j : Nat) : Int)) j))))], [(rg, .inl (E.2.2 0, 6, .inl (fun j => jI ((fun j => ((g j : Nat) : Int)) j))))], w1, w2] (fun rr z2 W2 => ∃ l3 : List Nat, ∃ l4 : List Nat, ∃ m3 : Int, ∃ m4 : Int, ∃ w3 : va_W, ∃ w4 : va_W, rr = none ∧ W2 = [[(va, .inl (E.2.2 0, 4, .inl (fun j => jI ((fun j => (((xcS o (c, g, ws, rp)).1 j : Nat) : Int)) j))))], [(rg, .inl (E.2.2 0, 6, .inl (fun j => jI ((fun j => (((xcS o (c, g, ws, rp)).2.1 j : Nat) : Int)) j))))], w3, w4] ∧ alW E wl m3 l3 w3 ∧ alW E rl m4 l4 w4 ∧ opsZ z2 l3 (xcS o (c, g, ws, rp)).2.2.1 ∧ intsZ z2 l4 (xcS o (c, g, ws, rp)).2.2.2) := by
  refine f_start (own := "ScheduleAnalyzer$Execution") (vs := [some (.ref a), some (.ref b), none, none]) hls (by decide +kernel) rfl rfl rfl (Nat.le_of_ble_eq_true rfl) ?_
  intro K H0 hk he hl0 hI hA
  have lk_b := letK_c hk_b
  have hk0_b := hk_b
  obtain ⟨b1, b2, b3, b4, b5⟩ := hk0_b
  have hl1 := hop.len
  have hl2 := hin.len
  have hci := hc (oI o)
  have hgt := hg (oT o)
  refine j_ald4 hk dX10_execute_0 rfl rfl ?_
  refine f_getN hE hk in_X6 (.inl ho_b) (show vwCl[5]? = some (RX6, TX6, 3) from rfl) 2 (by decide) q1670 rfl rfl dX10_execute_1 ?_
  refine j_bipush (n := 97) hk rfl dX10_execute_4 ?_
  refine j_isub hk dX10_execute_6 ?_
  refine j_top (z2 := ((oI o : Nat) : Int)) (by omega) ?_
  refine j_ist2 hk dX10_execute_7 rfl ?_
  refine j_ald4 hk dX10_execute_8 rfl rfl ?_
  refine f_getN hE hk in_X6 (.inl ho_b) (show vwCl[5]? = some (RX6, TX6, 3) from rfl) 1 (by decide) q1665 rfl rfl dX10_execute_9 ?_
  refine j_ist3 hk dX10_execute_12 rfl ?_
  refine j_ald4 hk dX10_execute_13 rfl rfl ?_
  refine f_getN hE hk in_X6 (.inl ho_b) (show vwCl[5]? = some (RX6, TX6, 3) from rfl) 0 (by decide) q1659 rfl rfl dX10_execute_14 ?_
  rcases lk_b with ⟨sk, se⟩ | ⟨sk, se⟩ | ⟨sk, se⟩ | ⟨sk, se⟩
  · refine j_lookup hk (by omega) (off := 35) (tgt := 52) dX10_execute_17 rfl (by rw [se]; decide) rfl ?_
    refine j_ald4 hk dX10_execute_52 rfl rfl ?_
    refine f_get hE hk in_X10 (.inl hx) (show vwCl[9]? = some (RX10, TX10, 4) from rfl) 1 (by decide) q1437 (Or.inl rfl) rfl dX10_execute_53 ?_
    refine j_ild4 hk dX10_execute_56 rfl rfl ?_
    refine j_ald4 hk dX10_execute_57 rfl rfl ?_
    refine f_get hE hk in_X10 (.inl hx) (show vwCl[9]? = some (RX10, TX10, 4) from rfl) 1 (by decide) q1437 (Or.inl rfl) rfl dX10_execute_58 ?_
    refine j_ild4 hk dX10_execute_61 rfl rfl ?_
    refine f_iald (n := 6) (f := (fun j => ((g j : Nat) : Int))) hE hk (fIn.at 1 0 rfl rfl) (oT o) (by omega) (by omega) (by omega) dX10_execute_62 ?_
    refine j_ald4 hk dX10_execute_63 rfl rfl ?_
    refine f_get hE hk in_X10 (.inl hx) (show vwCl[9]? = some (RX10, TX10, 4) from rfl) 0 (by decide) q1435 (Or.inl rfl) rfl dX10_execute_64 ?_
    refine j_ild4 hk dX10_execute_67 rfl rfl ?_
    refine f_iald (n := 4) (f := (fun j => ((c j : Nat) : Int))) hE hk (fIn.at 0 0 rfl rfl) (oI o) (by omega) (by omega) (by omega) dX10_execute_68 ?_
    refine j_iadd hk dX10_execute_69 ?_
    refine j_sipush (n := 1000) hk rfl dX10_execute_70 ?_
    refine j_irem hk (by omega) dX10_execute_73 ?_
    refine f_iast (n := 6) (f := (fun j => ((g j : Nat) : Int))) (W2 := [[(va, .inl (E.2.2 0, 4, .inl (fun j => jI ((fun j => ((c j : Nat) : Int)) j))))], [(rg, .inl (E.2.2 0, 6, .inl (fun j => jI ((iup (fun j => ((g j : Nat) : Int)) (oT o) ((((g (oT o) : Nat) : Int) + ((c (oI o) : Nat) : Int)) % 1000)) j))))], w1, w2]) hE hk 1 0 rfl rfl (oT o) (by omega) (by omega) (by omega) rfl dX10_execute_74 ?_
    refine f_W (W2 := [[(va, .inl (E.2.2 0, 4, .inl (fun j => jI ((fun j => ((c j : Nat) : Int)) j))))], [(rg, .inl (E.2.2 0, 6, .inl (fun j => jI ((fun j => (((nup g (oT o) ((g (oT o) + c (oI o)) % 1000)) j : Nat) : Int)) j))))], w1, w2]) (by rw [show iup (fun j => ((g j : Nat) : Int)) (oT o) ((((g (oT o) : Nat) : Int) + ((c (oI o) : Nat) : Int)) % 1000) = (fun j => (((nup g (oT o) ((g (oT o) + c (oI o)) % 1000)) j : Nat) : Int)) from iup_nup (by omega)]) ?_
    refine j_goto (tgt := 131) hk dX10_execute_75 rfl ?_
    have hxs : (xcS o (c, g, ws, rp)) = (c, nup g (oT o) ((g (oT o) + c (oI o)) % 1000), ws, rp) := by unfold xcS; rw [if_pos sk]
    refine f_W (W2 := [[(va, .inl (E.2.2 0, 4, .inl (fun j => jI ((fun j => (((xcS o (c, g, ws, rp)).1 j : Nat) : Int)) j))))], [(rg, .inl (E.2.2 0, 6, .inl (fun j => jI ((fun j => (((nup g (oT o) ((g (oT o) + c (oI o)) % 1000)) j : Nat) : Int)) j))))], w1, w2]) (by rw [show (fun j => ((c j : Nat) : Int)) = (fun j => (((xcS o (c, g, ws, rp)).1 j : Nat) : Int)) from by rw [hxs]]) ?_
    refine f_W (W2 := [[(va, .inl (E.2.2 0, 4, .inl (fun j => jI ((fun j => (((xcS o (c, g, ws, rp)).1 j : Nat) : Int)) j))))], [(rg, .inl (E.2.2 0, 6, .inl (fun j => jI ((fun j => (((xcS o (c, g, ws, rp)).2.1 j : Nat) : Int)) j))))], w1, w2]) (by rw [show (fun j => (((nup g (oT o) ((g (oT o) + c (oI o)) % 1000)) j : Nat) : Int)) = (fun j => (((xcS o (c, g, ws, rp)).2.1 j : Nat) : Int)) from by rw [hxs]]) ?_
    refine f_vret hk he hA dX10_execute_131 (by omega) (by omega) ?_
    exact ⟨_, _, _, _, _, _, rfl, rfl, hw1, hw2, by rw [hxs]; exact hop, by rw [hxs]; exact hin⟩
  · refine j_lookup hk (by omega) (off := 61) (tgt := 78) dX10_execute_17 rfl (by rw [se]; decide) rfl ?_
    refine j_ald4 hk dX10_execute_78 rfl rfl ?_
    refine f_get hE hk in_X10 (.inl hx) (show vwCl[9]? = some (RX10, TX10, 4) from rfl) 2 (by decide) q1439 (Or.inl rfl) rfl dX10_execute_79 ?_
    refine j_ald4 hk dX10_execute_82 rfl rfl ?_
    refine f_sel (W2 := [w1, [(va, .inl (E.2.2 0, 4, .inl (fun j => jI ((fun j => ((c j : Nat) : Int)) j))))], [(rg, .inl (E.2.2 0, 6, .inl (fun j => jI ((fun j => ((g j : Nat) : Int)) j))))], w2]) [2, 0, 1, 3] rfl rfl ?_
    obtain ⟨rm1, hrm1⟩ := alW.mem hw1
    refine f_callF (Wc := [w1]) (Wr := [[(va, .inl (E.2.2 0, 4, .inl (fun j => jI ((fun j => ((c j : Nat) : Int)) j))))], [(rg, .inl (E.2.2 0, 6, .inl (fun j => jI ((fun j => ((g j : Nat) : Int)) j))))], w2]) hE hk hl0 (fIn.of 0 rfl hrm1) (show vwCl[10]? = some (RJ2, TJ2, 3) from rfl) (fc_J2_add hls hE hN (z := z) hzc (a := wl) (e := b) (mc := m1) (li := l1) (w0 := w1) (hw1) (hop.el) (okO.op ho_b) (by omega)) (fun _ h => Or.inl h) 1 (lw_Fg q1420 q717 q719 q120 q721) q716 q715 q720 q718 q222 (by decide +kernel) rfl (by decide) (by omega) rfl (Nat.le_of_ble_eq_true rfl) dX10_execute_83 ?_
    refine Or.inl ⟨rfl, ?_⟩
    rintro _ _ _ ⟨w12, rfl, rfl, rfl, hp2_0⟩ -
    refine f_W (W2 := [w12, [(va, .inl (E.2.2 0, 4, .inl (fun j => jI ((fun j => ((c j : Nat) : Int)) j))))], [(rg, .inl (E.2.2 0, 6, .inl (fun j => jI ((fun j => ((g j : Nat) : Int)) j))))], w2]) rfl ?_
    refine j_pop hk rfl dX10_execute_88 ?_
    refine j_ald4 hk dX10_execute_89 rfl rfl ?_
    refine f_get hE hk in_X10 (.inl hx) (show vwCl[9]? = some (RX10, TX10, 4) from rfl) 3 (by decide) q1440 (Or.inl rfl) rfl dX10_execute_90 ?_
    refine j_ald4 hk dX10_execute_93 rfl rfl ?_
    refine f_get hE hk in_X10 (.inl hx) (show vwCl[9]? = some (RX10, TX10, 4) from rfl) 0 (by decide) q1435 (Or.inl rfl) rfl dX10_execute_94 ?_
    refine j_ild4 hk dX10_execute_97 rfl rfl ?_
    refine f_iald (n := 4) (f := (fun j => ((c j : Nat) : Int))) hE hk (fIn.at 1 0 rfl rfl) (oI o) (by omega) (by omega) (by omega) dX10_execute_98 ?_
    refine f_callS (Wc := []) (Wr := [w12, [(va, .inl (E.2.2 0, 4, .inl (fun j => jI ((fun j => ((c j : Nat) : Int)) j))))], [(rg, .inl (E.2.2 0, 6, .inl (fun j => jI ((fun j => ((g j : Nat) : Int)) j))))], w2]) hk hl0 (fc_J22_valueOfG hls hE hN (z := z) hzc (n := c (oI o)) (by omega)) (fun _ h => Or.inl h) 1 (lw_S q1421 q926 q141 q927) (by decide +kernel) rfl (by decide) (by omega) rfl (Nat.le_of_ble_eq_true rfl) dX10_execute_99 ?_
    refine Or.inl ⟨rfl, ?_⟩
    rintro _ z1 _ ⟨r3, rfl, rfl, hp3_0⟩ zl1
    refine f_W (W2 := [w12, [(va, .inl (E.2.2 0, 4, .inl (fun j => jI ((fun j => ((c j : Nat) : Int)) j))))], [(rg, .inl (E.2.2 0, 6, .inl (fun j => jI ((fun j => ((g j : Nat) : Int)) j))))], w2]) rfl ?_
    have hzc := hzc.tr zl1
    have hx := zl1 _ hx
    have ho_b := zl1 _ ho_b
    have hop := hop.up zl1
    have hin := hin.up zl1
    refine f_sel (W2 := [w2, w12, [(va, .inl (E.2.2 0, 4, .inl (fun j => jI ((fun j => ((c j : Nat) : Int)) j))))], [(rg, .inl (E.2.2 0, 6, .inl (fun j => jI ((fun j => ((g j : Nat) : Int)) j))))]]) [3, 0, 1, 2] rfl rfl ?_
    obtain ⟨rm4, hrm4⟩ := alW.mem hw2
    refine f_callF (Wc := [w2]) (Wr := [w12, [(va, .inl (E.2.2 0, 4, .inl (fun j => jI ((fun j => ((c j : Nat) : Int)) j))))], [(rg, .inl (E.2.2 0, 6, .inl (fun j => jI ((fun j => ((g j : Nat) : Int)) j))))]]) hE hk hl0 (fIn.of 0 rfl hrm4) (show vwCl[10]? = some (RJ2, TJ2, 3) from rfl) (fc_J2_add hls hE hN (z := z1) hzc (a := rl) (e := r3) (mc := m2) (li := l2) (w0 := w2) (hw2) (hin.el) (okO.int hp3_0) (by omega)) (fun _ h => Or.inl h) 1 (lw_Fg q1420 q717 q719 q120 q721) q716 q715 q720 q718 q222 (by decide +kernel) rfl (by decide) (by omega) rfl (Nat.le_of_ble_eq_true rfl) dX10_execute_102 ?_
    refine Or.inl ⟨rfl, ?_⟩
    rintro _ _ _ ⟨w15, rfl, rfl, rfl, hp5_0⟩ -
    refine f_W (W2 := [w15, w12, [(va, .inl (E.2.2 0, 4, .inl (fun j => jI ((fun j => ((c j : Nat) : Int)) j))))], [(rg, .inl (E.2.2 0, 6, .inl (fun j => jI ((fun j => ((g j : Nat) : Int)) j))))]]) rfl ?_
    refine j_pop hk rfl dX10_execute_107 ?_
    have hopn := hop.snoc ho_b hk_b
    have hinn := hin.snoc hp3_0 (hc (oI o))
    refine j_ald4 hk dX10_execute_108 rfl rfl ?_
    refine f_get hE hk in_X10 (.inl hx) (show vwCl[9]? = some (RX10, TX10, 4) from rfl) 0 (by decide) q1435 (Or.inl rfl) rfl dX10_execute_109 ?_
    refine j_ild4 hk dX10_execute_112 rfl rfl ?_
    refine j_ald4 hk dX10_execute_113 rfl rfl ?_
    refine f_get hE hk in_X10 (.inl hx) (show vwCl[9]? = some (RX10, TX10, 4) from rfl) 1 (by decide) q1437 (Or.inl rfl) rfl dX10_execute_114 ?_
    refine j_ild4 hk dX10_execute_117 rfl rfl ?_
    refine f_iald (n := 6) (f := (fun j => ((g j : Nat) : Int))) hE hk (fIn.at 3 0 rfl rfl) (oT o) (by omega) (by omega) (by omega) dX10_execute_118 ?_
    refine f_iast (n := 4) (f := (fun j => ((c j : Nat) : Int))) (W2 := [w15, w12, [(va, .inl (E.2.2 0, 4, .inl (fun j => jI ((iup (fun j => ((c j : Nat) : Int)) (oI o) ((g (oT o) : Nat) : Int)) j))))], [(rg, .inl (E.2.2 0, 6, .inl (fun j => jI ((fun j => ((g j : Nat) : Int)) j))))]]) hE hk 2 0 rfl rfl (oI o) (by omega) (by omega) (by omega) rfl dX10_execute_119 ?_
    refine f_W (W2 := [w15, w12, [(va, .inl (E.2.2 0, 4, .inl (fun j => jI ((fun j => (((nup c (oI o) (g (oT o))) j : Nat) : Int)) j))))], [(rg, .inl (E.2.2 0, 6, .inl (fun j => jI ((fun j => ((g j : Nat) : Int)) j))))]]) (by rw [show iup (fun j => ((c j : Nat) : Int)) (oI o) ((g (oT o) : Nat) : Int) = (fun j => (((nup c (oI o) (g (oT o))) j : Nat) : Int)) from iup_nup rfl]) ?_
    refine j_goto (tgt := 131) hk dX10_execute_120 rfl ?_
    have hxs : (xcS o (c, g, ws, rp)) = (nup c (oI o) (g (oT o)), g, ws ++ [o], rp ++ [c (oI o)]) := by unfold xcS; rw [if_neg (show ¬ oK o = 0 by omega), if_pos sk]
    refine f_W (W2 := [w15, w12, [(va, .inl (E.2.2 0, 4, .inl (fun j => jI ((fun j => (((xcS o (c, g, ws, rp)).1 j : Nat) : Int)) j))))], [(rg, .inl (E.2.2 0, 6, .inl (fun j => jI ((fun j => ((g j : Nat) : Int)) j))))]]) (by rw [show (fun j => (((nup c (oI o) (g (oT o))) j : Nat) : Int)) = (fun j => (((xcS o (c, g, ws, rp)).1 j : Nat) : Int)) from by rw [hxs]]) ?_
    refine f_W (W2 := [w15, w12, [(va, .inl (E.2.2 0, 4, .inl (fun j => jI ((fun j => (((xcS o (c, g, ws, rp)).1 j : Nat) : Int)) j))))], [(rg, .inl (E.2.2 0, 6, .inl (fun j => jI ((fun j => (((xcS o (c, g, ws, rp)).2.1 j : Nat) : Int)) j))))]]) (by rw [show (fun j => ((g j : Nat) : Int)) = (fun j => (((xcS o (c, g, ws, rp)).2.1 j : Nat) : Int)) from by rw [hxs]]) ?_
    refine f_sel (W2 := [[(va, .inl (E.2.2 0, 4, .inl (fun j => jI ((fun j => (((xcS o (c, g, ws, rp)).1 j : Nat) : Int)) j))))], [(rg, .inl (E.2.2 0, 6, .inl (fun j => jI ((fun j => (((xcS o (c, g, ws, rp)).2.1 j : Nat) : Int)) j))))], w12, w15]) [2, 3, 1, 0] rfl rfl ?_
    refine f_vret hk he hA dX10_execute_131 (by omega) (by omega) ?_
    exact ⟨_, _, _, _, _, _, rfl, rfl, hp2_0, hp5_0, by rw [hxs]; exact hopn, by rw [hxs]; exact hinn⟩
  · refine j_lookup hk (by omega) (off := 114) (tgt := 131) dX10_execute_17 rfl (by rw [se]; decide) rfl ?_
    have hxs : (xcS o (c, g, ws, rp)) = (c, g, ws, rp) := by unfold xcS; rw [if_neg (show ¬ oK o = 0 by omega), if_neg (show ¬ oK o = 1 by omega), if_neg (show ¬ oK o = 3 by omega)]
    refine f_W (W2 := [[(va, .inl (E.2.2 0, 4, .inl (fun j => jI ((fun j => (((xcS o (c, g, ws, rp)).1 j : Nat) : Int)) j))))], [(rg, .inl (E.2.2 0, 6, .inl (fun j => jI ((fun j => ((g j : Nat) : Int)) j))))], w1, w2]) (by rw [show (fun j => ((c j : Nat) : Int)) = (fun j => (((xcS o (c, g, ws, rp)).1 j : Nat) : Int)) from by rw [hxs]]) ?_
    refine f_W (W2 := [[(va, .inl (E.2.2 0, 4, .inl (fun j => jI ((fun j => (((xcS o (c, g, ws, rp)).1 j : Nat) : Int)) j))))], [(rg, .inl (E.2.2 0, 6, .inl (fun j => jI ((fun j => (((xcS o (c, g, ws, rp)).2.1 j : Nat) : Int)) j))))], w1, w2]) (by rw [show (fun j => ((g j : Nat) : Int)) = (fun j => (((xcS o (c, g, ws, rp)).2.1 j : Nat) : Int)) from by rw [hxs]]) ?_
    refine f_vret hk he hA dX10_execute_131 (by omega) (by omega) ?_
    exact ⟨_, _, _, _, _, _, rfl, rfl, hw1, hw2, by rw [hxs]; exact hop, by rw [hxs]; exact hin⟩
  · refine j_lookup hk (by omega) (off := 106) (tgt := 123) dX10_execute_17 rfl (by rw [se]; decide) rfl ?_
    refine j_ald4 hk dX10_execute_123 rfl rfl ?_
    refine j_ild4 hk dX10_execute_124 rfl rfl ?_
    refine f_sel (W2 := [[(va, .inl (E.2.2 0, 4, .inl (fun j => jI ((fun j => ((c j : Nat) : Int)) j))))], w1, w2, [(rg, .inl (E.2.2 0, 6, .inl (fun j => jI ((fun j => ((g j : Nat) : Int)) j))))]]) [0, 2, 3, 1] rfl rfl ?_
    refine f_callV (Wc := [[(va, .inl (E.2.2 0, 4, .inl (fun j => jI ((fun j => ((c j : Nat) : Int)) j))))], w1, w2]) (Wr := [[(rg, .inl (E.2.2 0, 6, .inl (fun j => jI ((fun j => ((g j : Nat) : Int)) j))))]]) hE hk hl0 (.inl hx) (show vwCl[9]? = some (RX10, TX10, 4) from rfl) (fc_X10_undo hls hE hN (z := z) hzc (a := a) (t := oT o) (c := c) (va := va) (rg := rg) (wl := wl) (rl := rl) (m1 := m1) (l1 := l1) (w1 := w1) (m2 := m2) (l2 := l2) (w2 := w2) (ws := ws) (rp := rp) (hx) (hw1) (hw2) (hop) (hin) (hln) (by omega)) (fun _ h => Or.inl h) 1 (lw_V q1422 q1424 qs23 q163 q1425) (by decide +kernel) rfl (by decide) (by omega) rfl (Nat.le_of_ble_eq_true rfl) dX10_execute_125 ?_
    refine Or.inl ⟨rfl, ?_⟩
    rintro _ _ _ ⟨rfl, rfl, rfl⟩ -
    refine f_W (W2 := [[(va, .inl (E.2.2 0, 4, .inl (fun j => jI ((fun j => (((unC ws rp (oT o) ws.length c) j : Nat) : Int)) j))))], w1, w2, [(rg, .inl (E.2.2 0, 6, .inl (fun j => jI ((fun j => ((g j : Nat) : Int)) j))))]]) rfl ?_
    refine j_goto (tgt := 131) hk dX10_execute_128 rfl ?_
    have hxs : (xcS o (c, g, ws, rp)) = (unC ws rp (oT o) ws.length c, g, ws, rp) := by unfold xcS; rw [if_neg (show ¬ oK o = 0 by omega), if_neg (show ¬ oK o = 1 by omega), if_pos sk]
    refine f_W (W2 := [[(va, .inl (E.2.2 0, 4, .inl (fun j => jI ((fun j => (((xcS o (c, g, ws, rp)).1 j : Nat) : Int)) j))))], w1, w2, [(rg, .inl (E.2.2 0, 6, .inl (fun j => jI ((fun j => ((g j : Nat) : Int)) j))))]]) (by rw [show (fun j => (((unC ws rp (oT o) ws.length c) j : Nat) : Int)) = (fun j => (((xcS o (c, g, ws, rp)).1 j : Nat) : Int)) from by rw [hxs]]) ?_
    refine f_W (W2 := [[(va, .inl (E.2.2 0, 4, .inl (fun j => jI ((fun j => (((xcS o (c, g, ws, rp)).1 j : Nat) : Int)) j))))], w1, w2, [(rg, .inl (E.2.2 0, 6, .inl (fun j => jI ((fun j => (((xcS o (c, g, ws, rp)).2.1 j : Nat) : Int)) j))))]]) (by rw [show (fun j => ((g j : Nat) : Int)) = (fun j => (((xcS o (c, g, ws, rp)).2.1 j : Nat) : Int)) from by rw [hxs]]) ?_
    refine f_sel (W2 := [[(va, .inl (E.2.2 0, 4, .inl (fun j => jI ((fun j => (((xcS o (c, g, ws, rp)).1 j : Nat) : Int)) j))))], [(rg, .inl (E.2.2 0, 6, .inl (fun j => jI ((fun j => (((xcS o (c, g, ws, rp)).2.1 j : Nat) : Int)) j))))], w1, w2]) [0, 3, 1, 2] rfl rfl ?_
    refine f_vret hk he hA dX10_execute_131 (by omega) (by omega) ?_
    exact ⟨_, _, _, _, _, _, rfl, rfl, hw1, hw2, by rw [hxs]; exact hop, by rw [hxs]; exact hin⟩
