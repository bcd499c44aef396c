/-! S, 4: the constructor -/
set_option maxHeartbeats 1500000 in
/-- X3 init(Ljava/util/List;)V -/
theorem fc_X3_init {l : Launch} {E : jE} (hls : l.stackTraces = false) (hE : jSt E) (hN : jCn E) {z : jZ} (hzc : zLe (zS E) z) {a : Nat} {ls : Nat} {li : List Nat} {mc : Int} {s : List Op} (h : alZ E z ls mc li) (hs : opsZ z li s) : fC l E yX3_init cX3_init 4 (none) 7 191 (li.length + 2) (33 * li.length + 7) [.ref a, .ref ls] z [[(a, .inr (2, [.null]))]] (fun rr z2 W2 => ∃ q : Nat, ∃ mq : Int, ∃ w1 : va_W, rr = none ∧ W2 = [[(a, .inr (2, [.ref q]))], w1] ∧ alW E q mq li w1) := by
  refine f_start (own := "ScheduleAnalyzer$Schedule") (vs := [some (.ref a), some (.ref ls), none, none]) hls (by decide +kernel) rfl rfl rfl (Nat.le_of_ble_eq_true rfl) ?_
  intro K H0 hk he hl0 hI hA
  have hsl := hs.len
  have hll := h.len
  refine j_ald4 hk dX3_init_0 rfl rfl ?_
  refine j_objInit hk q215 q171 q172 ⟨by decide, by decide⟩ dX3_init_1 ?_
  refine j_ald4 hk dX3_init_4 rfl rfl ?_
  refine f_new (fs := [.int (jI 0), .null, .int (jI 0)]) hE hk in_J2 tyJ2 tyJ2_ok q216 q183 q120 (show vwCl[10]? = some (RJ2, TJ2, 3) from rfl) (fun j hj => match j, hj with | 0, _ => rfl | 1, _ => rfl | 2, _ => rfl | j + 3, h => absurd h (by omega)) ⟨by omega, by omega⟩ dX3_init_5 ?_
  intro ad1
  refine j_dup hk rfl dX3_init_8 ?_
  refine f_callI (Wc := [[(ad1, .inr (10, [.int (jI 0), .null, .int (jI 0)]))]]) (Wr := [[(a, .inr (2, [.null]))]]) hk hl0 (fc_J2_init hls hE hN (z := z) hzc (a := ad1) ) (fun _ h => Or.inl h) 0 q186 q120 q217 q185 rfl (by decide +kernel) rfl (by decide) (by omega) rfl (Nat.le_of_ble_eq_true rfl) dX3_init_9 ?_
  refine Or.inl ⟨rfl, ?_⟩
  rintro _ _ _ ⟨w11, rfl, rfl, rfl, hp1_0⟩ -
  refine f_W (W2 := [w11, [(a, .inr (2, [.null]))]]) rfl ?_
  refine f_put (fs := [.null]) (ty := (.object "java/util/List")) (W2 := [w11, [(a, .inr (2, [.ref ad1]))]]) hE hk in_X3 tyX3_ok nmX3 1 0 rfl rfl (show vwCl[2]? = some (RX3, TX3, 1) from rfl) 0 (by decide) q803 (Or.inl rfl) (Or.inr ⟨rfl, hI, rfl⟩) (by decide +kernel) rfl rfl (show 0 < 1 by decide) rfl dX3_init_12 ?_
  refine j_ald4 hk dX3_init_15 rfl rfl ?_
  obtain ⟨qo2, capo2, fo2, hc1o2, hc2o2, hl1o2, hl2o2, hfo2⟩ := h.cell hN hzc
  refine f_callF (Wc := []) (Wr := [w11, [(a, .inr (2, [.ref ad1]))]]) hE hk hl0 (.inl hc1o2) (show vwCl[10]? = some (RJ2, TJ2, 3) from rfl) (fc_J2_iterator hls hE hN (z := z) hzc (a := ls) (mc := mc) (li := li) (h)) (fun _ h => Or.inl h) 0 (lw_Fg q219 q223 q225 q120 q227) q221 q220 q226 q224 q222 (by decide +kernel) rfl (by decide) (by omega) rfl (Nat.le_of_ble_eq_true rfl) dX3_init_16 ?_
  refine Or.inl ⟨rfl, ?_⟩
  rintro _ _ _ ⟨it3, w13, rfl, rfl, rfl, hp3_0⟩ -
  refine f_W (W2 := [w13, w11, [(a, .inr (2, [.ref ad1]))]]) rfl ?_
  refine j_ast2 hk dX3_init_21 rfl ?_
  have loop22 : ∀ (fuel22 : Nat) (k : Nat) (mv : Int) (l2 : List Nat) (w1 : va_W) (wi : va_W), li.length - k < fuel22 → k ≤ li.length → alW E ad1 mv l2 w1 → itW it3 k mc ls wi → l2 = li.take k → jW K (fO K E z z [[(a, .inr (2, [.ref ad1]))], w1, wi]) (k + 2) (33 * k + 7) 22 [some (.ref a), some (.ref ls), some (.ref it3), none] [] := by
    intro fuel22
    induction fuel22 with
    | zero => intro k mv l2 w1 wi hm; exact absurd hm (Nat.not_lt_zero _)
    | succ fuel22 ih22 =>
      intro k mv l2 w1 wi hm22 hkn hw1 hwi hl2
      refine j_ald4 hk dX3_init_22 rfl rfl ?_
      refine f_sel (W2 := [wi, [(a, .inr (2, [.ref ad1]))], w1]) [2, 0, 1] rfl rfl ?_
      obtain ⟨rm4, hrm4⟩ := itW.mem hwi
      refine f_callF (Wc := [wi]) (Wr := [[(a, .inr (2, [.ref ad1]))], w1]) hE hk hl0 (fIn.of 0 rfl hrm4) (show vwCl[11]? = some (RJ3, TJ3, 4) from rfl) (fc_J3_hasNext hls hE hN (z := z) hzc (it := it3) (k := k) (mc := mc) (a := ls) (wi := wi) (li := li) (h) (hwi) (hkn)) (fun _ h => Or.inl h) 0 (lw_Fg q287 q291 q293 q121 q295) q289 q288 q294 q292 q290 (by decide +kernel) rfl (by decide) (by omega) rfl (Nat.le_of_ble_eq_true rfl) dX3_init_23 ?_
      refine Or.inl ⟨rfl, ?_⟩
      rintro _ _ _ ⟨rfl, rfl, rfl⟩ -
      refine f_W (W2 := [wi, [(a, .inr (2, [.ref ad1]))], w1]) rfl ?_
      refine j_ifeqB hk dX3_init_28 rfl (tgt := 55) (fun h28 => ?_) (fun h28 => ?_)
      · have hkl := of_decide_eq_false h28
        refine f_sel (W2 := [[(a, .inr (2, [.ref ad1]))], w1]) [1, 2] rfl rfl ?_
        refine f_vret hk he hA dX3_init_55 (by omega) (by omega) ?_
        exact ⟨_, _, _, rfl, rfl, by rw [hl2, List.take_of_length_le (by omega)] at hw1; exact hw1⟩
      · have hkl := of_decide_eq_true h28
        obtain ⟨b, hb, hob, hok⟩ := hs.at (i := k) (by omega)
        refine j_ald4 hk dX3_init_31 rfl rfl ?_
        obtain ⟨rm6, hrm6⟩ := itW.mem hwi
        refine f_callF (Wc := [wi]) (Wr := [[(a, .inr (2, [.ref ad1]))], w1]) hE hk hl0 (fIn.of 0 rfl hrm6) (show vwCl[11]? = some (RJ3, TJ3, 4) from rfl) (fc_J3_next hls hE hN (z := z) hzc (it := it3) (k := k) (mc := mc) (a := ls) (wi := wi) (li := li) (b := b) (h) (hwi) (hb)) (fun _ h => Or.inl h) 0 (lw_Fg q303 q306 q308 q121 q310) q305 q304 q309 q307 q290 (by decide +kernel) rfl (by decide) (by omega) rfl (Nat.le_of_ble_eq_true rfl) dX3_init_32 ?_
        refine Or.inl ⟨rfl, ?_⟩
        rintro _ _ _ ⟨w17, rfl, rfl, rfl, hp7_0⟩ -
        refine f_W (W2 := [w17, [(a, .inr (2, [.ref ad1]))], w1]) rfl ?_
        refine f_castS hE hk (.inl hob) (show vwCl[5]? = some (RX6, TX6, 3) from rfl) q712 dX3_init_37 ?_
        refine j_ast3 hk dX3_init_40 rfl ?_
        refine j_ald4 hk dX3_init_41 rfl rfl ?_
        refine f_get hE hk in_X3 (fIn.at 1 0 rfl rfl) (show vwCl[2]? = some (RX3, TX3, 1) from rfl) 0 (by decide) q803 (Or.inl rfl) rfl dX3_init_42 ?_
        refine j_ald4 hk dX3_init_45 rfl rfl ?_
        have hl2l : l2.length = k := by rw [hl2, List.length_take]; omega
        refine f_sel (W2 := [w1, w17, [(a, .inr (2, [.ref ad1]))]]) [2, 0, 1] rfl rfl ?_
        obtain ⟨rm8, hrm8⟩ := alW.mem hw1
        refine f_callF (Wc := [w1]) (Wr := [w17, [(a, .inr (2, [.ref ad1]))]]) hE hk hl0 (fIn.of 0 rfl hrm8) (show vwCl[10]? = some (RJ2, TJ2, 3) from rfl) (fc_J2_add hls hE hN (z := z) hzc (a := ad1) (e := b) (mc := mv) (li := l2) (w0 := w1) (hw1) (by rw [hl2]; exact hs.el.sub (fun y hy => List.mem_of_mem_take hy)) (okO.op hob) (by omega)) (fun _ h => Or.inl h) 1 (lw_Fg q714 q717 q719 q120 q721) q716 q715 q720 q718 q222 (by decide +kernel) rfl (by decide) (by omega) rfl (Nat.le_of_ble_eq_true rfl) dX3_init_46 ?_
        refine Or.inl ⟨rfl, ?_⟩
        rintro _ _ _ ⟨w19, rfl, rfl, rfl, hp9_0⟩ -
        refine f_W (W2 := [w19, w17, [(a, .inr (2, [.ref ad1]))]]) rfl ?_
        refine j_pop hk rfl dX3_init_51 ?_
        refine j_goto (tgt := 22) hk dX3_init_52 rfl ?_
        refine j_forget (i := 3) ?_
        refine f_sel (W2 := [[(a, .inr (2, [.ref ad1]))], w19, w17]) [2, 0, 1] rfl rfl ?_
        refine j_wide (k2 := (k + 1) + 2) (n2 := 33 * (k + 1) + 7) (by omega) (by omega) ?_
        exact ih22 (k + 1) (mv + 1) (l2 ++ [b]) w19 w17 (by omega) (by omega) (hp9_0) (hp7_0) (by rw [hl2, take_S hb])
  refine f_sel (W2 := [[(a, .inr (2, [.ref ad1]))], w11, w13]) [2, 1, 0] rfl rfl ?_
  refine j_wide (k2 := 0 + 2) (n2 := 33 * 0 + 7) (by omega) (by omega) ?_
  exact loop22 _ 0 0 ([]) w11 w13 (Nat.lt_succ_self _) (Nat.zero_le _) (hp1_0) (hp3_0) (rfl)
