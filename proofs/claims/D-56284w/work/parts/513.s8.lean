/-! S, 8 -/
/-- not of an aborted transaction -/
def rsP (s : List Op) (o : Op) : Bool := !anyB (pIs 3 (oT o)) s s.length
def rsC (s : List Op) : List Op := s.filter (rsP s)
theorem take_Sf {s : List Op} {k : Nat} (hk : k < s.length) (p : Op → Bool) : (s.take (k + 1)).filter p = (s.take k).filter p ++ (if p (opAt s k) then [opAt s k] else []) := by
  rw [take_S (opAt_eq hk), List.filter_append]
  congr 1
  cases h : p (opAt s k) <;> simp [h]
theorem sub_S {l li : List Nat} {k b : Nat} (h : l.Sublist (li.take k)) (hb : li[k]? = some b) : (l ++ [b]).Sublist (li.take (k + 1)) := by
  rw [take_S hb]
  exact h.append (List.Sublist.refl _)
theorem sub_N {l li : List Nat} {k : Nat} (h : l.Sublist (li.take k)) : l.Sublist (li.take (k + 1)) := h.trans (List.take_sublist_take_left (Nat.le_succ k))
theorem sub_le {l li : List Nat} {k : Nat} (h : l.Sublist (li.take k)) : l.length ≤ k ∧ l.length ≤ li.length := by
  have := h.length_le
  rw [List.length_take] at this
  omega
theorem len_f {s : List Op} {p : Op → Bool} : (s.filter p).length ≤ s.length := List.length_filter_le _ _
/-- the box of a transaction -/
def ntl (s : List Op) : List Nat := s.map oT
def kIs (E : jE) (l : List Nat) : List Nat := l.map (fun t => kInt E (128 + t))
theorem kIs_el {E : jE} (hN : jCn E) {z : jZ} (hz : zLe (zS E) z) {l : List Nat} (h : ∀ t ∈ l, t < 128) : elZ z (kIs E l) := by
  intro y hy
  obtain ⟨t, ht, rfl⟩ := List.mem_map.mp hy
  exact okO.int (hN.int hz (h t ht))
theorem kIs_at {E : jE} {l : List Nat} {k : Nat} (hk : k < l.length) : (kIs E l)[k]? = some (kInt E (128 + l.getD k 0)) := by
  unfold kIs
  rw [List.getElem?_map, List.getD_eq_getElem?_getD, List.getElem?_eq_getElem hk]
  rfl
theorem ntl_at {s : List Op} {k : Nat} (hk : k < s.length) : (ntl s).getD k 0 = oT (opAt s k) := by
  unfold ntl
  rw [List.getD_eq_getElem?_getD, List.getElem?_map, opAt_eq hk]
  rfl
theorem ntl_take {s : List Op} {k : Nat} (hk : k < s.length) : (ntl s).take (k + 1) = (ntl s).take k ++ [oT (opAt s k)] := take_S (by unfold ntl; rw [List.getElem?_map, opAt_eq hk]; rfl)
theorem kIs_app {E : jE} {l m : List Nat} : kIs E (l ++ m) = kIs E l ++ kIs E m := List.map_append
set_option maxHeartbeats 1500000 in
/-- X3 rest()LScheduleAnalyzer$Schedule; -/
theorem fc_X3_rest {l : Launch} {E : jE} (hls : l.stackTraces = false) (hE : jSt E) (hN : jCn E) {z : jZ} (hzc : zLe (zS E) z) {a : Nat} {s : List Op} (h : schZ E z a s) : fC l E yX3_rest cX3_rest 4 (some (.object "ScheduleAnalyzer$Schedule")) 9 3113 (3 * s.length + 6) (67 * s.length + 20) [.ref a] z [] (fun rr z2 W2 => ∃ r : Nat, rr = some (.ref r) ∧ W2 = [] ∧ schZ E z2 r (rsC s)) := by
  refine f_start (own := "ScheduleAnalyzer$Schedule") (vs := [some (.ref a), none, none, none]) hls (by decide +kernel) rfl rfl rfl (Nat.le_of_ble_eq_true rfl) ?_
  intro K H0 hk he hl0 hI hA
  have hsl33 := h.len
  refine f_new (fs := [.int (jI 0), .null, .int (jI 0)]) hE hk in_J2 tyJ2 tyJ2_ok q216 q183 q120 (show vwCl[10]? = some (RJ2, TJ2, 3) from rfl) (fun j hj => match j, hj with | 0, _ => rfl | 1, _ => rfl | 2, _ => rfl | j + 3, h => absurd h (by omega)) ⟨by omega, by omega⟩ dX3_rest_0 ?_
  intro ad1
  refine j_dup hk rfl dX3_rest_3 ?_
  refine f_callI (Wc := [[(ad1, .inr (10, [.int (jI 0), .null, .int (jI 0)]))]]) (Wr := []) hk hl0 (fc_J2_init hls hE hN (z := z) hzc (a := ad1) ) (fun _ h => Or.inl h) 0 q186 q120 q217 q185 rfl (by decide +kernel) rfl (by decide) (by omega) rfl (Nat.le_of_ble_eq_true rfl) dX3_rest_4 ?_
  refine Or.inl ⟨rfl, ?_⟩
  rintro _ _ _ ⟨w11, rfl, rfl, rfl, hp1_0⟩ -
  refine f_W (W2 := [w11]) rfl ?_
  refine j_ast1 hk dX3_rest_7 rfl ?_
  refine j_ald4 hk dX3_rest_8 rfl rfl ?_
  obtain ⟨lss2, mss2, lis2, hzs2, hals2, hops2, hnds2⟩ := id h
  have hll := (hops2).len
  refine f_get hE hk in_X3 (.inl hzs2) (show vwCl[2]? = some (RX3, TX3, 1) from rfl) 0 (by decide) q803 (Or.inl rfl) rfl dX3_rest_9 ?_
  obtain ⟨qo3, capo3, fo3, hc1o3, hc2o3, hl1o3, hl2o3, hfo3⟩ := hals2.cell hN hzc
  refine f_callF (Wc := []) (Wr := [w11]) hE hk hl0 (.inl hc1o3) (show vwCl[10]? = some (RJ2, TJ2, 3) from rfl) (fc_J2_iterator hls hE hN (z := z) hzc (a := lss2) (mc := mss2) (li := lis2) (hals2)) (fun _ h => Or.inl h) 0 (lw_Fg q219 q223 q225 q120 q227) q221 q220 q226 q224 q222 (by decide +kernel) rfl (by decide) (by omega) rfl (Nat.le_of_ble_eq_true rfl) dX3_rest_12 ?_
  refine Or.inl ⟨rfl, ?_⟩
  rintro _ _ _ ⟨it4, w14, rfl, rfl, rfl, hp4_0⟩ -
  refine f_W (W2 := [w14, w11]) rfl ?_
  refine j_ast2 hk dX3_rest_17 rfl ?_
  have loop18 : ∀ (fuel18 : Nat) (k : Nat) (mv : Int) (l2 : List Nat) (w1 : va_W) (wik : va_W), lis2.length - k < fuel18 → k ≤ lis2.length → alW E ad1 mv l2 w1 → opsZ z l2 ((s.take k).filter (rsP s)) → l2.Sublist (lis2.take k) → itW it4 k mss2 lss2 wik → jW K (fO K E z z [w1, wik]) (2 * k + 2) (34 * k + 7) 18 [some (.ref a), some (.ref ad1), some (.ref it4), none] [] := by
    intro fuel18
    induction fuel18 with
    | zero => intro k mv l2 w1 wik hm; exact absurd hm (Nat.not_lt_zero _)
    | succ fuel18 ih18 =>
      intro k mv l2 w1 wik hm18 hknk hw1 hs2 hsb hwik
      refine j_ald4 hk dX3_rest_18 rfl rfl ?_
      refine f_sel (W2 := [wik, w1]) [1, 0] rfl rfl ?_
      obtain ⟨rm5, hrm5⟩ := itW.mem hwik
      refine f_callF (Wc := [wik]) (Wr := [w1]) hE hk hl0 (fIn.of 0 rfl hrm5) (show vwCl[11]? = some (RJ3, TJ3, 4) from rfl) (fc_J3_hasNext hls hE hN (z := z) hzc (it := it4) (k := k) (mc := mss2) (a := lss2) (wi := wik) (li := lis2) (hals2) (hwik) (by first | assumption | omega)) (fun _ h => Or.inl h) 0 (lw_Fg q287 q291 q293 q121 q295) q289 q288 q294 q292 q290 (by decide +kernel) rfl (by decide) (by omega) rfl (Nat.le_of_ble_eq_true rfl) dX3_rest_19 ?_
      refine Or.inl ⟨rfl, ?_⟩
      rintro _ _ _ ⟨rfl, rfl, rfl⟩ -
      refine f_W (W2 := [wik, w1]) rfl ?_
      refine j_ifeqB hk dX3_rest_24 rfl (tgt := 59) (fun h24 => ?_) (fun h24 => ?_)
      · refine f_new (fs := [.null]) hE hk in_X3 tyX3 tyX3_ok q917 q181 q117 (show vwCl[2]? = some (RX3, TX3, 1) from rfl) (fun j hj => match j, hj with | 0, _ => rfl | j + 1, h => absurd h (by omega)) ⟨by omega, by omega⟩ dX3_rest_59 ?_
        intro ad2
        refine j_dup hk rfl dX3_rest_62 ?_
        refine j_ald4 hk dX3_rest_63 rfl rfl ?_
        have hk9 := of_decide_eq_false h24
        have hkl : k = s.length := by omega
        rw [hkl, List.take_of_length_le (Nat.le_refl _)] at hs2
        have hsl := sub_le hsb
        obtain ⟨zL7, hlL7, hmL7, hbL7⟩ := f_lend z [w1] [wik, w1] (by simp)
        refine f_callI (Wc := [[(ad2, .inr (2, [.null]))]]) (Wr := [wik, w1]) hk hl0 (fc_X3_init hls hE hN (z := zL7) (hzc.tr hlL7) (a := ad2) (ls := ad1) (mc := mv) (li := l2) (s := (s.filter (rsP s))) (hw1.z (fun x hx => hmL7 _ (List.mem_cons_self) _ hx)) (hs2.up hlL7)) (hbL7) 1 q214 q117 q918 q213 rfl (by decide +kernel) rfl (by decide) (by omega) rfl (Nat.le_of_ble_eq_true rfl) dX3_rest_64 ?_
        refine Or.inr ?_
        rintro _ _ _ ⟨q8, mq8, w18, rfl, rfl, hp8_0⟩ -
        refine f_W (W2 := [[(ad2, .inr (2, [.ref q8]))], w18, wik, w1]) rfl ?_
        refine f_freeze hk ?_
        intro z1 zl1 hm1
        have hzc := hzc.tr zl1
        have h := h.up zl1
        have hzs2 := zl1 _ hzs2
        have hals2 := hals2.up zl1
        have hops2 := hops2.up zl1
        have hc1o3 := zl1 _ hc1o3
        have hc2o3 := zl1 _ hc2o3
        have hs2 := hs2.up zl1
        have hzF := hm1 _ (List.mem_cons_self)
        refine f_freeze hk ?_
        intro z2 zl2 hm2
        have hzc := hzc.tr zl2
        have h := h.up zl2
        have hzs2 := zl2 _ hzs2
        have hals2 := hals2.up zl2
        have hops2 := hops2.up zl2
        have hc1o3 := zl2 _ hc1o3
        have hc2o3 := zl2 _ hc2o3
        have hs2 := hs2.up zl2
        have hzF := zl2 _ hzF
        have halF := alW.z hp8_0 hm2
        refine f_sel (W2 := []) [] rfl rfl ?_
        refine f_aret hk he hA (Or.inl ⟨_, rfl⟩) (Or.inr ⟨_, rfl⟩) dX3_rest_67 (by omega) (by omega) ?_
        exact ⟨ad2, rfl, rfl, _, _, _, hzF, halF, hs2, List.Nodup.sublist (hsb.trans (List.take_sublist _ _)) hnds2⟩
      · have hk9 := of_decide_eq_true h24
        obtain ⟨b, hb, hob, hok⟩ := hops2.at (i := k) (by omega)
        obtain ⟨o1, o2, o3, o4, o5⟩ := id hok
        have lk := letK_c hok
        refine j_ald4 hk dX3_rest_27 rfl rfl ?_
        obtain ⟨rm9, hrm9⟩ := itW.mem hwik
        refine f_callF (Wc := [wik]) (Wr := [w1]) hE hk hl0 (fIn.of 0 rfl hrm9) (show vwCl[11]? = some (RJ3, TJ3, 4) from rfl) (fc_J3_next hls hE hN (z := z) hzc (it := it4) (k := k) (mc := mss2) (a := lss2) (wi := wik) (li := lis2) (b := b) (hals2) (hwik) (hb)) (fun _ h => Or.inl h) 0 (lw_Fg q303 q306 q308 q121 q310) q305 q304 q309 q307 q290 (by decide +kernel) rfl (by decide) (by omega) rfl (Nat.le_of_ble_eq_true rfl) dX3_rest_28 ?_
        refine Or.inl ⟨rfl, ?_⟩
        rintro _ _ _ ⟨w110, rfl, rfl, rfl, hp10_0⟩ -
        refine f_W (W2 := [w110, w1]) rfl ?_
        refine f_castS hE hk (.inl hob) (show vwCl[5]? = some (RX6, TX6, 3) from rfl) q712 dX3_rest_33 ?_
        refine j_ast3 hk dX3_rest_36 rfl ?_
        refine j_ald4 hk dX3_rest_37 rfl rfl ?_
        refine j_ald4 hk dX3_rest_38 rfl rfl ?_
        refine f_getN hE hk in_X6 (.inl hob) (show vwCl[5]? = some (RX6, TX6, 3) from rfl) 1 (by decide) q1667 rfl rfl dX3_rest_39 ?_
        refine f_callV (Wc := []) (Wr := [w110, w1]) hE hk hl0 (.inl hzs2) (show vwCl[2]? = some (RX3, TX3, 1) from rfl) (fc_X3_isAborted hls hE hN (z := z) hzc (a := a) (t := oT (opAt s k)) (s := s) (h) (by first | assumption | omega)) (fun _ h => Or.inl h) 1 (lw_V q874 q875 q876 q117 q877) (by decide +kernel) rfl (by decide) (by omega) rfl (Nat.le_of_ble_eq_true rfl) dX3_rest_42 ?_
        refine Or.inl ⟨rfl, ?_⟩
        rintro _ _ _ ⟨rfl, rfl, rfl⟩ -
        refine f_W (W2 := [w110, w1]) rfl ?_
        refine j_ifneB hk dX3_rest_45 rfl (tgt := 56) (fun h45 => ?_) (fun h45 => ?_)
        · refine j_goto (tgt := 18) hk dX3_rest_56 rfl ?_
          refine j_forget (i := 3) ?_
          refine f_sel (W2 := [w1, w110]) [1, 0] rfl rfl ?_
          refine j_wide (k2 := 2 * (k + 1) + 2) (n2 := 34 * (k + 1) + 7) (by omega) (by omega) ?_
          exact ih18 (k + 1) mv l2 w1 w110 (by omega) (by omega) (hw1) (by rw [take_Sf (by omega), if_neg (by unfold rsP; rw [h45]; decide), List.append_nil]; exact hs2) (sub_N hsb) (hp10_0)
        · refine j_ald4 hk dX3_rest_48 rfl rfl ?_
          refine j_ald4 hk dX3_rest_49 rfl rfl ?_
          have hsl := sub_le hsb
          refine f_sel (W2 := [w1, w110]) [1, 0] rfl rfl ?_
          obtain ⟨rm12, hrm12⟩ := alW.mem hw1
          refine f_callF (Wc := [w1]) (Wr := [w110]) hE hk hl0 (fIn.of 0 rfl hrm12) (show vwCl[10]? = some (RJ2, TJ2, 3) from rfl) (fc_J2_add hls hE hN (z := z) hzc (a := ad1) (e := b) (mc := mv) (li := l2) (w0 := w1) (hw1) (hs2.el) (okO.op hob) (by omega)) (fun _ h => Or.inl h) 1 (lw_Fg q714 q717 q719 q120 q721) q716 q715 q720 q718 q222 (by decide +kernel) rfl (by decide) (by omega) rfl (Nat.le_of_ble_eq_true rfl) dX3_rest_50 ?_
          refine Or.inl ⟨rfl, ?_⟩
          rintro _ _ _ ⟨w113, rfl, rfl, rfl, hp13_0⟩ -
          refine f_W (W2 := [w113, w110]) rfl ?_
          refine j_pop hk rfl dX3_rest_55 ?_
          refine j_goto (tgt := 18) hk dX3_rest_56 rfl ?_
          refine j_forget (i := 3) ?_
          refine j_wide (k2 := 2 * (k + 1) + 2) (n2 := 34 * (k + 1) + 7) (by omega) (by omega) ?_
          exact ih18 (k + 1) (mv + 1) (l2 ++ [b]) w113 w110 (by omega) (by omega) (hp13_0) (by rw [take_Sf (by omega), if_pos (by unfold rsP; rw [h45]; rfl)]; exact hs2.snoc hob hok) (sub_S hsb hb) (hp10_0)
  refine f_sel (W2 := [w11, w14]) [1, 0] rfl rfl ?_
  refine j_wide (k2 := 2 * 0 + 2) (n2 := 34 * 0 + 7) (by omega) (by omega) ?_
  exact loop18 _ 0 0 ([]) w11 w14 (Nat.lt_succ_self _) (Nat.zero_le _) (hp1_0) (trivial) (List.nil_sublist _) (hp4_0)
