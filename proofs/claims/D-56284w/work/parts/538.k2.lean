/-! K, 2 -/
/-- the place of a transaction's first waiting operation -/
def fwI (ws : List Op) (t : Nat) : Option Nat := (List.range ws.length).find? (fun i => decide (oT (opAt ws i) = t))
def fwV (lw : List Nat) (ws : List Op) (t : Nat) : Option Nat := (fwI ws t).map (fun i => lw.getD i 0)
theorem fwI_1 {ws : List Op} {t k : Nat} (h : ∀ i, i < k → ¬ oT (opAt ws i) = t) (hk : k < ws.length) (ht : oT (opAt ws k) = t) : fwI ws t = some k := by
  unfold fwI
  rw [List.find?_range_eq_some]
  exact ⟨decide_eq_true ht, List.mem_range.mpr hk, fun j hj => by simp [h j hj]⟩
theorem fwV_1 {lw : List Nat} {ws : List Op} {t k b : Nat} (h : ∀ i, i < k → ¬ oT (opAt ws i) = t) (hk : k < ws.length) (ht : oT (opAt ws k) = t) (hb : lw[k]? = some b) : fwV lw ws t = some b := by
  unfold fwV
  rw [fwI_1 h hk ht]
  show some (lw.getD k 0) = some b
  rw [List.getD_eq_getElem?_getD, hb]
  rfl
theorem fwV_0 {lw : List Nat} {ws : List Op} {t k : Nat} (h : ∀ i, i < k → ¬ oT (opAt ws i) = t) (hk : ws.length ≤ k) : fwV lw ws t = none := by
  unfold fwV fwI
  rw [List.find?_range_eq_none.mpr (fun i hi => by simp [h i (by omega)])]
  rfl
set_option maxHeartbeats 1500000 in
/-- X8 firstWaitingOf(I)LScheduleAnalyzer$Operation; -/
theorem fc_X8_firstWaitingOf {l : Launch} {E : jE} (hls : l.stackTraces = false) (hE : jSt E) (hN : jCn E) {z : jZ} (hzc : zLe (zS E) z) {a : Nat} {t : Nat} {ex : Nat} {wt : Nat} {vv : Value} {wv : Value} {me : Int} {mw : Int} {le : List Nat} {lw : List Nat} {es : List Op} {s : List Op} (hx : z (a, .inr (7, [.ref ex, .ref wt, vv, wv]))) (hxe : alZ E z ex me le) (hxw : alZ E z wt mw lw) (hse : opsZ z le es) (hsw : opsZ z lw s) (ht : t < 1000) : fC l E yX8_firstWaitingOf cX8_firstWaitingOf 4 (some (.object "ScheduleAnalyzer$Operation")) 3 61 (2) (10) [.ref a, .int (jI ((t : Nat) : Int))] z [] (fun rr z2 W2 => rr = some (va_rf (fwV lw s t)) ∧ W2 = [] ∧ z = z2) := by
  refine f_start (own := "ScheduleAnalyzer$Locking") (vs := [some (.ref a), some (.int (jI ((t : Nat) : Int))), none, none]) hls (by decide +kernel) rfl rfl rfl (Nat.le_of_ble_eq_true rfl) ?_
  intro K H0 hk he hl0 hI hA
  have hl1 := hse.len
  have hl2 := hsw.len
  have hl3 := hxe.len
  have hl4 := hxw.len
  refine j_ald4 hk dX8_firstWaitingOf_0 rfl rfl ?_
  refine f_get hE hk in_X8 (.inl hx) (show vwCl[7]? = some (RX8, TX8, 4) from rfl) 1 (by decide) q2084 (Or.inl rfl) rfl dX8_firstWaitingOf_1 ?_
  obtain ⟨qo1, capo1, fo1, hc1o1, hc2o1, hl1o1, hl2o1, hfo1⟩ := hxw.cell hN hzc
  refine f_callF (Wc := []) (Wr := []) hE hk hl0 (.inl hc1o1) (show vwCl[10]? = some (RJ2, TJ2, 3) from rfl) (fc_J2_iterator hls hE hN (z := z) hzc (a := wt) (mc := mw) (li := lw) (hxw)) (fun _ h => Or.inl h) 0 (lw_Fg q1961 q223 q225 q120 q227) q221 q220 q226 q224 q222 (by decide +kernel) rfl (by decide) (by omega) rfl (Nat.le_of_ble_eq_true rfl) dX8_firstWaitingOf_4 ?_
  refine Or.inl ⟨rfl, ?_⟩
  rintro _ _ _ ⟨it2, w12, rfl, rfl, rfl, hp2_0⟩ -
  refine f_W (W2 := [w12]) rfl ?_
  refine j_ast2 hk dX8_firstWaitingOf_9 rfl ?_
  have loop10 : ∀ (fuel10 : Nat) (k : Nat) (wik : va_W), lw.length - k < fuel10 → k ≤ lw.length → (∀ i, i < k → ¬ oT (opAt s i) = t) → itW it2 k mw wt wik → jW K (fO K E z z [wik]) (1) (5) 10 [some (.ref a), some (.int (jI ((t : Nat) : Int))), some (.ref it2), none] [] := by
    intro fuel10
    induction fuel10 with
    | zero => intro k wik hm; exact absurd hm (Nat.not_lt_zero _)
    | succ fuel10 ih10 =>
      intro k wik hm10 hknk hno hwik
      refine j_ald4 hk dX8_firstWaitingOf_10 rfl rfl ?_
      obtain ⟨rm3, hrm3⟩ := itW.mem hwik
      refine f_callF (Wc := [wik]) (Wr := []) hE hk hl0 (fIn.of 0 rfl hrm3) (show vwCl[11]? = some (RJ3, TJ3, 4) from rfl) (fc_J3_hasNext hls hE hN (z := z) hzc (it := it2) (k := k) (mc := mw) (a := wt) (wi := wik) (li := lw) (hxw) (hwik) (by first | assumption | omega)) (fun _ h => Or.inl h) 0 (lw_Fg q1963 q291 q293 q121 q295) q289 q288 q294 q292 q290 (by decide +kernel) rfl (by decide) (by omega) rfl (Nat.le_of_ble_eq_true rfl) dX8_firstWaitingOf_11 ?_
      refine Or.inl ⟨rfl, ?_⟩
      rintro _ _ _ ⟨rfl, rfl, rfl⟩ -
      refine f_W (W2 := [wik]) rfl ?_
      refine j_ifeqB hk dX8_firstWaitingOf_16 rfl (tgt := 42) (fun h16 => ?_) (fun h16 => ?_)
      · have hk9 := of_decide_eq_false h16
        refine j_null hk dX8_firstWaitingOf_42 ?_
        refine f_sel (W2 := []) [] rfl rfl ?_
        refine f_aret hk he hA (Or.inl ⟨_, rfl⟩) (Or.inl rfl) dX8_firstWaitingOf_43 (by omega) (by omega) ?_
        exact ⟨by rw [fwV_0 hno (show s.length ≤ k by omega)]; rfl, rfl, rfl⟩
      · refine j_ald4 hk dX8_firstWaitingOf_19 rfl rfl ?_
        have hk9 := of_decide_eq_true h16
        obtain ⟨b, hb, hob, hok⟩ := hsw.at (i := k) (by omega)
        obtain ⟨o1, o2, o3, o4, o5⟩ := id hok
        have lk := letK_c hok
        obtain ⟨rm5, hrm5⟩ := itW.mem hwik
        refine f_callF (Wc := [wik]) (Wr := []) hE hk hl0 (fIn.of 0 rfl hrm5) (show vwCl[11]? = some (RJ3, TJ3, 4) from rfl) (fc_J3_next hls hE hN (z := z) hzc (it := it2) (k := k) (mc := mw) (a := wt) (wi := wik) (li := lw) (b := b) (hxw) (hwik) (hb)) (fun _ h => Or.inl h) 0 (lw_Fg q1965 q306 q308 q121 q310) q305 q304 q309 q307 q290 (by decide +kernel) rfl (by decide) (by omega) rfl (Nat.le_of_ble_eq_true rfl) dX8_firstWaitingOf_20 ?_
        refine Or.inl ⟨rfl, ?_⟩
        rintro _ _ _ ⟨w16, rfl, rfl, rfl, hp6_0⟩ -
        refine f_W (W2 := [w16]) rfl ?_
        refine f_castS hE hk (.inl hob) (show vwCl[5]? = some (RX6, TX6, 3) from rfl) q1966 dX8_firstWaitingOf_25 ?_
        refine j_ast3 hk dX8_firstWaitingOf_28 rfl ?_
        refine j_ald4 hk dX8_firstWaitingOf_29 rfl rfl ?_
        refine f_getN hE hk in_X6 (.inl hob) (show vwCl[5]? = some (RX6, TX6, 3) from rfl) 1 (by decide) q1664 rfl rfl dX8_firstWaitingOf_30 ?_
        refine j_ild4 hk dX8_firstWaitingOf_33 rfl rfl ?_
        refine j_icmp_ne hk (by omega) (by omega) dX8_firstWaitingOf_34 rfl (tgt := 39) (fun h34 => ?_) (fun h34 => ?_)
        · refine j_goto (tgt := 10) hk dX8_firstWaitingOf_39 rfl ?_
          refine j_forget (i := 3) ?_
          exact ih10 (k + 1) w16 (by omega) (by omega) (fun i hi => by rcases Nat.lt_succ_iff_lt_or_eq.mp hi with q | q; exact hno i q; rw [q]; omega) (hp6_0)
        · refine j_ald4 hk dX8_firstWaitingOf_37 rfl rfl ?_
          refine f_sel (W2 := []) [] rfl rfl ?_
          refine f_aret hk he hA (Or.inl ⟨_, rfl⟩) (Or.inr ⟨_, rfl⟩) dX8_firstWaitingOf_38 (by omega) (by omega) ?_
          exact ⟨by rw [fwV_1 hno (show k < s.length by omega) (show oT (opAt s k) = t by omega) hb]; rfl, rfl, rfl⟩
  refine j_wide (k2 := 1) (n2 := 5) (by omega) (by omega) ?_
  exact loop10 _ 0 w12 (Nat.lt_succ_self _) (Nat.zero_le _) (fun i hi => absurd hi (Nat.not_lt_zero _)) (hp2_0)
