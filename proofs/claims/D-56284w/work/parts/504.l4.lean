/-! L, 4: remove; Integer -/
def icmp (a b : Int) : Int := if a < b then -1 else if a = b then 0 else 1
theorem icmp_r (a b : Int) : jr (icmp a b) := by unfold icmp; split <;> (try split) <;> exact ⟨by decide, by decide⟩
set_option maxHeartbeats 1500000 in
/-- J2 remove(Ljava/lang/Object;)Z -/
theorem fc_J2_remove {l : Launch} {E : jE} (hls : l.stackTraces = false) (hE : jSt E) (hN : jCn E) {z : jZ} (hzc : zLe (zS E) z) {a : Nat} {o : Nat} {li : List Nat} {mc : Int} {w0 : va_W} {i : Nat} {ofs : List Value} (h : alW E a mc li w0) (hel : elZ z li) (hi : li[i]? = some o) (hfst : ∀ j, j < i → li[j]? ≠ some o) (ho : z (o, .inr (5, ofs))) : fC l E yJ2_remove cJ2_remove 5 (some .boolean) 2 83 (0) (0) [.ref a, .ref o] z [w0] (fun rr z2 W2 => ∃ w1 : va_W, rr = some (.int (jI 1)) ∧ W2 = [w1] ∧ z = z2 ∧ alW E a (mc + 1) (li.eraseIdx i) w1) := by
  refine f_start (own := "java/util/ArrayList") (vs := [some (.ref a), some (.ref o), none, none, none]) hls (by decide +kernel) rfl rfl rfl (Nat.le_of_ble_eq_true rfl) ?_
  intro K H0 hk he hl0 hI hA
  obtain ⟨q, h⟩ := h
  have hil : i < li.length := (List.getElem?_eq_some_iff.mp hi).1
  have h0 := h
  obtain ⟨cap, f, rfl, hc, hl, hf⟩ := h.ne (by omega)
  have hcb := hc.le
  refine j_ald4 hk dJ2_remove_0 rfl rfl ?_
  refine f_get hE hk in_J2 (fIn.at 0 0 rfl rfl) (show vwCl[10]? = some (RJ2, TJ2, 3) from rfl) 1 (by decide) q196 (Or.inl rfl) rfl dJ2_remove_1 ?_
  refine j_ast2 hk dJ2_remove_4 rfl ?_
  refine j_ald4 hk dJ2_remove_5 rfl rfl ?_
  refine f_get hE hk in_J2 (fIn.at 0 0 rfl rfl) (show vwCl[10]? = some (RJ2, TJ2, 3) from rfl) 2 (by decide) q199 (Or.inl rfl) rfl dJ2_remove_6 ?_
  refine j_ist3 hk dJ2_remove_9 rfl ?_
  refine j_iconst (n := 0) hk dJ2_remove_10 ?_
  refine j_ist4 hk dJ2_remove_11 rfl ?_
  refine j_ald4 hk dJ2_remove_13 rfl rfl ?_
  refine j_ifnonnullR (tgt := 39) hk dJ2_remove_14 rfl ?_
  have loop39 : ∀ (fuel39 : Nat) (k : Nat), i + 1 - k < fuel39 → k ≤ i → jW K (fO K E z z [[(a, .inr (10, [.int (jI mc), .ref q, .int (jI ((li.length : Nat) : Int))])), (q, .inl (E.2.2 4, cap, .inr (.inr (.inr (.inr f)))))]]) (0) (0) 39 [some (.ref a), some (.ref o), some (.ref q), some (.int (jI ((li.length : Nat) : Int))), some (.int (jI ((k : Nat) : Int)))] [] := by
    intro fuel39
    induction fuel39 with
    | zero => intro k hm; exact absurd hm (Nat.not_lt_zero _)
    | succ fuel39 ih39 =>
      intro k hm39 hki
      refine j_ild hk dJ2_remove_39 rfl ?_
      refine j_ild4 hk dJ2_remove_41 rfl rfl ?_
      refine j_icmp_ge hk (by omega) (by omega) dJ2_remove_42 rfl (tgt := 65) (fun h42 => by exfalso; omega) (fun h42 => ?_)
      obtain ⟨b, hb⟩ : ∃ b, li[k]? = some b := ⟨_, List.getElem?_eq_getElem (by omega)⟩
      refine j_ald4 hk dJ2_remove_45 rfl rfl ?_
      refine j_ald4 hk dJ2_remove_46 rfl rfl ?_
      refine j_ild hk dJ2_remove_47 rfl ?_
      refine f_aald (n := cap) (t := 4) (f := f) hE hk rfl (fIn.at 0 1 rfl rfl) (k) (by omega) (by omega) (by omega) (v := .ref b) (by rw [hf _ (by omega), hb]; rfl) dJ2_remove_49 ?_
      refine f_callU (Wc := []) (Wr := [[(a, .inr (10, [.int (jI mc), .ref q, .int (jI ((li.length : Nat) : Int))])), (q, .inl (E.2.2 4, cap, .inr (.inr (.inr (.inr f)))))]]) (owner := "java/lang/Object") hE hk hl0 (.inl ho) (show vwCl[5]? = some (RX6, TX6, 3) from rfl) (fc_J37_equals hls hE hN (z := z) hzc (a := o) (b := b) ) (fun _ h => Or.inl h) 1 q1829 q1831 q1836 q1830 q3231 q1861 rfl (by decide +kernel) rfl (by decide) (by omega) rfl (Nat.le_of_ble_eq_true rfl) dJ2_remove_50 ?_
      refine Or.inl ⟨rfl, ?_⟩
      rintro _ _ _ ⟨rfl, rfl, rfl⟩ -
      refine f_W (W2 := [[(a, .inr (10, [.int (jI mc), .ref q, .int (jI ((li.length : Nat) : Int))])), (q, .inl (E.2.2 4, cap, .inr (.inr (.inr (.inr f)))))]]) rfl ?_
      refine j_ifeqB hk dJ2_remove_53 rfl (tgt := 59) (fun h53 => ?_) (fun h53 => ?_)
      · have hko : ¬ k = i := fun e => by
            subst e
            rw [hi] at hb
            exact of_decide_eq_false h53 (Option.some.inj hb)
        refine j_iinc4 hk dJ2_remove_59 rfl ?_
        refine j_goto (tgt := 39) hk dJ2_remove_62 rfl ?_
        exact ih39 (k + 1) (by omega) (by omega)
      · refine j_goto (tgt := 67) hk dJ2_remove_56 rfl ?_
        have hko : k = i := by
            have e := of_decide_eq_true h53
            subst e
            exact Nat.le_antisymm hki (Nat.not_lt.mp (fun q => hfst k q hb))
        subst hko
        refine j_ald4 hk dJ2_remove_67 rfl rfl ?_
        refine j_ald4 hk dJ2_remove_68 rfl rfl ?_
        refine j_ild hk dJ2_remove_69 rfl ?_
        refine f_callV (Wc := [[(a, .inr (10, [.int (jI mc), .ref q, .int (jI ((li.length : Nat) : Int))])), (q, .inl (E.2.2 4, cap, .inr (.inr (.inr (.inr f)))))]]) (Wr := []) hE hk hl0 (fIn.at 0 0 rfl rfl) (show vwCl[10]? = some (RJ2, TJ2, 3) from rfl) (fc_J2_fastRemove hls hE hN (z := z) hzc (a := a) (q := q) (i := k) (h0) (hel) (hil)) (fun _ h => Or.inl h) 2 (lw_V q1862 q1864 qs36 q120 q1865) (by decide +kernel) rfl (by decide) (by omega) rfl (Nat.le_of_ble_eq_true rfl) dJ2_remove_71 ?_
        refine Or.inl ⟨rfl, ?_⟩
        rintro _ _ _ ⟨w12, rfl, rfl, rfl, hp2_0⟩ -
        refine f_W (W2 := [w12]) rfl ?_
        refine j_iconst (n := 1) hk dJ2_remove_74 ?_
        refine f_iret hk he hA rfl dJ2_remove_75 (by omega) (by omega) ?_
        exact ⟨_, rfl, rfl, rfl, hp2_0⟩
  exact loop39 _ 0 (Nat.lt_succ_self _) (Nat.zero_le _)
set_option maxHeartbeats 1500000 in
/-- J21 init()V -/
theorem fc_J21_init {l : Launch} {E : jE} (hls : l.stackTraces = false) (hE : jSt E) (hN : jCn E) {z : jZ} (hzc : zLe (zS E) z) {a : Nat}  : fC l E yJ21_init cJ21_init 1 (none) 1 20 (0) (0) [.ref a] z [] (fun rr z2 W2 => rr = none ∧ W2 = [] ∧ z = z2) := by
  refine f_start (own := "java/lang/Number") (vs := [some (.ref a)]) hls (by decide +kernel) rfl rfl rfl (Nat.le_of_ble_eq_true rfl) ?_
  intro K H0 hk he hl0 hI hA
  refine j_ald4 hk dJ21_init_0 rfl rfl ?_
  refine j_objInit hk q940 q171 q172 ⟨by decide, by decide⟩ dJ21_init_1 ?_
  refine f_vret hk he hA dJ21_init_4 (by omega) (by omega) ?_
  exact ⟨rfl, rfl, rfl⟩
set_option maxHeartbeats 1500000 in
/-- J22 init(I)V -/
theorem fc_J22_init {l : Launch} {E : jE} (hls : l.stackTraces = false) (hE : jSt E) (hN : jCn E) {z : jZ} (hzc : zLe (zS E) z) {a : Nat} {v : Int}  : fC l E yJ22_init cJ22_init 2 (none) 2 40 (0) (0) [.ref a, .int (jI v)] z [[(a, .inr (17, [.int (jI 0)]))]] (fun rr z2 W2 => rr = none ∧ W2 = [[(a, .inr (17, [.int (jI v)]))]] ∧ z = z2) := by
  refine f_start (own := "java/lang/Integer") (vs := [some (.ref a), some (.int (jI v))]) hls (by decide +kernel) rfl rfl rfl (Nat.le_of_ble_eq_true rfl) ?_
  intro K H0 hk he hl0 hI hA
  refine j_ald4 hk dJ22_init_0 rfl rfl ?_
  refine f_callI (Wc := []) (Wr := [[(a, .inr (17, [.int (jI 0)]))]]) hk hl0 (fc_J21_init hls hE hN (z := z) hzc (a := a) ) (fun _ h => Or.inl h) 0 q939 q140 q937 q938 rfl (by decide +kernel) rfl (by decide) (by omega) rfl (Nat.le_of_ble_eq_true rfl) dJ22_init_1 ?_
  refine Or.inl ⟨rfl, ?_⟩
  rintro _ _ _ ⟨rfl, rfl, rfl⟩ -
  refine f_W (W2 := [[(a, .inr (17, [.int (jI 0)]))]]) rfl ?_
  refine j_ald4 hk dJ22_init_4 rfl rfl ?_
  refine j_ild4 hk dJ22_init_5 rfl rfl ?_
  refine f_put (fs := [.int (jI 0)]) (ty := .int) (W2 := [[(a, .inr (17, [.int (jI v)]))]]) hE hk in_J22 tyJ22_ok nmJ22 0 0 rfl rfl (show vwCl[17]? = some (RJ22, TJ22, 1) from rfl) 0 (by decide) q941 (Or.inl rfl) (Or.inr ⟨rfl, hI, rfl⟩) (by decide +kernel) rfl rfl (show 0 < 1 by decide) rfl dJ22_init_6 ?_
  refine f_vret hk he hA dJ22_init_9 (by omega) (by omega) ?_
  exact ⟨rfl, rfl, rfl⟩
set_option maxHeartbeats 1500000 in
/-- J22 valueOf(I)Ljava/lang/Integer; -/
theorem fc_J22_valueOf {l : Launch} {E : jE} (hls : l.stackTraces = false) (hE : jSt E) (hN : jCn E) {z : jZ} (hzc : zLe (zS E) z) {n : Nat} (h : n < 128) : fC l E yJ22_valueOf cJ22_valueOf 1 (some (.object "java/lang/Integer")) 1 12 (0) (0) [.int (jI ((n : Nat) : Int))] z [] (fun rr z2 W2 => rr = some (.ref (kInt E (128 + n))) ∧ W2 = [] ∧ z = z2) := by
  refine f_start (own := "java/lang/Integer") (vs := [some (.int (jI ((n : Nat) : Int)))]) hls (by decide +kernel) rfl rfl rfl (Nat.le_of_ble_eq_true rfl) ?_
  intro K H0 hk he hl0 hI hA
  refine j_ild4 hk dJ22_valueOf_0 rfl rfl ?_
  refine j_bipush (n := -128) hk rfl dJ22_valueOf_1 ?_
  refine j_icmp_lt hk (by omega) (by omega) dJ22_valueOf_3 rfl (tgt := 23) (fun h3 => by exfalso; omega) (fun h3 => ?_)
  refine j_ild4 hk dJ22_valueOf_6 rfl rfl ?_
  refine f_gets hk hN.high q928 dJ22_valueOf_7 ?_
  refine j_icmp_gt hk (by omega) (by omega) dJ22_valueOf_10 rfl (tgt := 23) (fun h10 => by exfalso; omega) (fun h10 => ?_)
  refine f_gets hk hN.cache q930 dJ22_valueOf_13 ?_
  refine j_ild4 hk dJ22_valueOf_16 rfl rfl ?_
  refine j_sipush (n := 128) hk rfl dJ22_valueOf_17 ?_
  refine j_iadd hk dJ22_valueOf_20 ?_
  refine f_aaldT hk hN.cacheT (n + 128) (by omega) (by omega) (by omega) (by rw [Nat.add_comm]) dJ22_valueOf_21 ?_
  refine f_aret hk he hA (Or.inl ⟨_, rfl⟩) (Or.inr ⟨_, rfl⟩) dJ22_valueOf_22 (by omega) (by omega) ?_
  exact ⟨rfl, rfl, rfl⟩
set_option maxHeartbeats 1500000 in
/-- J22 valueOf(I)Ljava/lang/Integer; -/
theorem fc_J22_valueOfG {l : Launch} {E : jE} (hls : l.stackTraces = false) (hE : jSt E) (hN : jCn E) {z : jZ} (hzc : zLe (zS E) z) {n : Nat} (h : n < 1000) : fC l E yJ22_valueOf cJ22_valueOf 1 (some (.object "java/lang/Integer")) 3 61 (1) (1) [.int (jI ((n : Nat) : Int))] z [] (fun rr z2 W2 => ∃ r : Nat, rr = some (.ref r) ∧ W2 = [] ∧ z2 (r, .inr (17, [.int (jI (n : Int))]))) := by
  refine f_start (own := "java/lang/Integer") (vs := [some (.int (jI ((n : Nat) : Int)))]) hls (by decide +kernel) rfl rfl rfl (Nat.le_of_ble_eq_true rfl) ?_
  intro K H0 hk he hl0 hI hA
  refine j_ild4 hk dJ22_valueOf_0 rfl rfl ?_
  refine j_bipush (n := -128) hk rfl dJ22_valueOf_1 ?_
  refine j_icmp_lt hk (by omega) (by omega) dJ22_valueOf_3 rfl (tgt := 23) (fun h3 => by exfalso; omega) (fun h3 => ?_)
  refine j_ild4 hk dJ22_valueOf_6 rfl rfl ?_
  refine f_gets hk hN.high q928 dJ22_valueOf_7 ?_
  refine j_icmp_gt hk (by omega) (by omega) dJ22_valueOf_10 rfl (tgt := 23) (fun h10 => ?_) (fun h10 => ?_)
  · refine f_new (fs := [.int (jI 0)]) hE hk in_J22 tyJ22 tyJ22_ok q932 q933 q141 (show vwCl[17]? = some (RJ22, TJ22, 1) from rfl) (fun j hj => match j, hj with | 0, _ => rfl | j + 1, h => absurd h (by omega)) ⟨by omega, by omega⟩ dJ22_valueOf_23 ?_
    intro ad1
    refine j_dup hk rfl dJ22_valueOf_26 ?_
    refine j_ild4 hk dJ22_valueOf_27 rfl rfl ?_
    refine f_callI (Wc := [[(ad1, .inr (17, [.int (jI 0)]))]]) (Wr := []) hk hl0 (fc_J22_init hls hE hN (z := z) hzc (a := ad1) (v := ((n : Nat) : Int)) ) (fun _ h => Or.inl h) 1 q936 q141 q934 q935 rfl (by decide +kernel) rfl (by decide) (by omega) rfl (Nat.le_of_ble_eq_true rfl) dJ22_valueOf_28 ?_
    refine Or.inl ⟨rfl, ?_⟩
    rintro _ _ _ ⟨rfl, rfl, rfl⟩ -
    refine f_W (W2 := [[(ad1, .inr (17, [.int (jI ((n : Nat) : Int))]))]]) rfl ?_
    refine f_freeze hk ?_
    intro z1 zl1 hm1
    have hzc := hzc.tr zl1
    refine f_aret hk he hA (Or.inl ⟨_, rfl⟩) (Or.inr ⟨_, rfl⟩) dJ22_valueOf_31 (by omega) (by omega) ?_
    exact ⟨ad1, rfl, rfl, hm1 _ (List.mem_singleton.mpr rfl)⟩
  · refine f_gets hk hN.cache q930 dJ22_valueOf_13 ?_
    refine j_ild4 hk dJ22_valueOf_16 rfl rfl ?_
    refine j_sipush (n := 128) hk rfl dJ22_valueOf_17 ?_
    refine j_iadd hk dJ22_valueOf_20 ?_
    refine f_aaldT hk hN.cacheT (n + 128) (by omega) (by omega) (by omega) (by rw [Nat.add_comm]) dJ22_valueOf_21 ?_
    refine f_aret hk he hA (Or.inl ⟨_, rfl⟩) (Or.inr ⟨_, rfl⟩) dJ22_valueOf_22 (by omega) (by omega) ?_
    exact ⟨_, rfl, rfl, hN.int hzc (by omega)⟩
set_option maxHeartbeats 1500000 in
/-- J22 intValue()I -/
theorem fc_J22_intValue {l : Launch} {E : jE} (hls : l.stackTraces = false) (hE : jSt E) (hN : jCn E) {z : jZ} (hzc : zLe (zS E) z) {a : Nat} {va : Int} (hi_a : z (a, .inr (17, [.int (jI va)]))) : fC l E yJ22_intValue cJ22_intValue 1 (some .int) 1 12 (0) (0) [.ref a] z [] (fun rr z2 W2 => rr = some (.int (jI va)) ∧ W2 = [] ∧ z = z2) := by
  refine f_start (own := "java/lang/Integer") (vs := [some (.ref a)]) hls (by decide +kernel) rfl rfl rfl (Nat.le_of_ble_eq_true rfl) ?_
  intro K H0 hk he hl0 hI hA
  refine j_ald4 hk dJ22_intValue_0 rfl rfl ?_
  refine f_get hE hk in_J22 (.inl hi_a) (show vwCl[17]? = some (RJ22, TJ22, 1) from rfl) 0 (by decide) q941 (Or.inl rfl) rfl dJ22_intValue_1 ?_
  refine f_iret hk he hA rfl dJ22_intValue_4 (by omega) (by omega) ?_
  exact ⟨rfl, rfl, rfl⟩
set_option maxHeartbeats 1500000 in
/-- J22 compare(II)I -/
theorem fc_J22_compare {l : Launch} {E : jE} (hls : l.stackTraces = false) (hE : jSt E) (hN : jCn E) {z : jZ} (hzc : zLe (zS E) z) {a : Int} {b : Int} (h : jr a ∧ jr b) : fC l E yJ22_compare cJ22_compare 2 (some .int) 1 12 (0) (0) [.int (jI a), .int (jI b)] z [] (fun rr z2 W2 => rr = some (.int (jI (icmp a b))) ∧ W2 = [] ∧ z = z2) := by
  refine f_start (own := "java/lang/Integer") (vs := [some (.int (jI a)), some (.int (jI b))]) hls (by decide +kernel) rfl rfl rfl (Nat.le_of_ble_eq_true rfl) ?_
  intro K H0 hk he hl0 hI hA
  refine j_ild4 hk dJ22_compare_0 rfl rfl ?_
  refine j_ild4 hk dJ22_compare_1 rfl rfl ?_
  refine j_icmp_ge hk (by omega) (by omega) dJ22_compare_2 rfl (tgt := 9) (fun h2 => ?_) (fun h2 => ?_)
  · refine j_ild4 hk dJ22_compare_9 rfl rfl ?_
    refine j_ild4 hk dJ22_compare_10 rfl rfl ?_
    refine j_icmp_ne hk (by omega) (by omega) dJ22_compare_11 rfl (tgt := 18) (fun h11 => ?_) (fun h11 => ?_)
    · refine j_iconst (n := 1) hk dJ22_compare_18 ?_
      refine f_iret hk he hA rfl dJ22_compare_19 (by omega) (by omega) ?_
      exact ⟨congrArg (fun z => some (Value.int (jI z))) (by unfold icmp; split <;> (try split) <;> omega), rfl, rfl⟩
    · refine j_iconst (n := 0) hk dJ22_compare_14 ?_
      refine j_goto (tgt := 19) hk dJ22_compare_15 rfl ?_
      refine f_iret hk he hA rfl dJ22_compare_19 (by omega) (by omega) ?_
      exact ⟨congrArg (fun z => some (Value.int (jI z))) (by unfold icmp; split <;> (try split) <;> omega), rfl, rfl⟩
  · refine j_iconst (n := -1) hk dJ22_compare_5 ?_
    refine j_goto (tgt := 19) hk dJ22_compare_6 rfl ?_
    refine f_iret hk he hA rfl dJ22_compare_19 (by omega) (by omega) ?_
    exact ⟨congrArg (fun z => some (Value.int (jI z))) (by unfold icmp; split <;> (try split) <;> omega), rfl, rfl⟩
set_option maxHeartbeats 1500000 in
/-- J22 compareTo_2(Ljava/lang/Integer;)I -/
theorem fc_J22_compareTo_2 {l : Launch} {E : jE} (hls : l.stackTraces = false) (hE : jSt E) (hN : jCn E) {z : jZ} (hzc : zLe (zS E) z) {a : Nat} {b : Nat} {va : Int} {vb : Int} (hi_a : z (a, .inr (17, [.int (jI va)]))) (hi_b : z (b, .inr (17, [.int (jI vb)]))) (h : jr va ∧ jr vb) : fC l E yJ22_compareTo_2 cJ22_compareTo_2 2 (some .int) 2 33 (0) (0) [.ref a, .ref b] z [] (fun rr z2 W2 => rr = some (.int (jI (icmp va vb))) ∧ W2 = [] ∧ z = z2) := by
  refine f_start (own := "java/lang/Integer") (vs := [some (.ref a), some (.ref b)]) hls (by decide +kernel) rfl rfl rfl (Nat.le_of_ble_eq_true rfl) ?_
  intro K H0 hk he hl0 hI hA
  refine j_ald4 hk dJ22_compareTo_2_0 rfl rfl ?_
  refine f_get hE hk in_J22 (.inl hi_a) (show vwCl[17]? = some (RJ22, TJ22, 1) from rfl) 0 (by decide) q941 (Or.inl rfl) rfl dJ22_compareTo_2_1 ?_
  refine j_ald4 hk dJ22_compareTo_2_4 rfl rfl ?_
  refine f_get hE hk in_J22 (.inl hi_b) (show vwCl[17]? = some (RJ22, TJ22, 1) from rfl) 0 (by decide) q941 (Or.inl rfl) rfl dJ22_compareTo_2_5 ?_
  refine f_callS (Wc := []) (Wr := []) hk hl0 (fc_J22_compare hls hE hN (z := z) hzc (a := va) (b := vb) (h)) (fun _ h => Or.inl h) 2 (lw_S q976 q977 q141 q978) (by decide +kernel) rfl (by decide) (by omega) rfl (Nat.le_of_ble_eq_true rfl) dJ22_compareTo_2_8 ?_
  refine Or.inl ⟨rfl, ?_⟩
  rintro _ _ _ ⟨rfl, rfl, rfl⟩ -
  refine f_W (W2 := []) rfl ?_
  refine f_iret hk he hA rfl dJ22_compareTo_2_11 (by omega) (by omega) ?_
  exact ⟨rfl, rfl, rfl⟩
set_option maxHeartbeats 1500000 in
/-- J22 compareTo(Ljava/lang/Object;)I -/
theorem fc_J22_compareTo {l : Launch} {E : jE} (hls : l.stackTraces = false) (hE : jSt E) (hN : jCn E) {z : jZ} (hzc : zLe (zS E) z) {a : Nat} {b : Nat} {va : Int} {vb : Int} (hi_a : z (a, .inr (17, [.int (jI va)]))) (hi_b : z (b, .inr (17, [.int (jI vb)]))) (h : jr va ∧ jr vb) : fC l E yJ22_compareTo cJ22_compareTo 2 (some .int) 3 54 (0) (0) [.ref a, .ref b] z [] (fun rr z2 W2 => rr = some (.int (jI (icmp va vb))) ∧ W2 = [] ∧ z = z2) := by
  refine f_start (own := "java/lang/Integer") (vs := [some (.ref a), some (.ref b)]) hls (by decide +kernel) rfl rfl rfl (Nat.le_of_ble_eq_true rfl) ?_
  intro K H0 hk he hl0 hI hA
  refine j_ald4 hk dJ22_compareTo_0 rfl rfl ?_
  refine j_ald4 hk dJ22_compareTo_1 rfl rfl ?_
  refine f_castS hE hk (.inl hi_b) (show vwCl[17]? = some (RJ22, TJ22, 1) from rfl) q932 dJ22_compareTo_2 ?_
  refine f_callV (Wc := []) (Wr := []) hE hk hl0 (.inl hi_a) (show vwCl[17]? = some (RJ22, TJ22, 1) from rfl) (fc_J22_compareTo_2 hls hE hN (z := z) hzc (a := a) (b := b) (va := va) (vb := vb) (hi_a) (hi_b) (h)) (fun _ h => Or.inl h) 1 (lw_V q972 q973 q974 q141 q975) (by decide +kernel) rfl (by decide) (by omega) rfl (Nat.le_of_ble_eq_true rfl) dJ22_compareTo_5 ?_
  refine Or.inl ⟨rfl, ?_⟩
  rintro _ _ _ ⟨rfl, rfl, rfl⟩ -
  refine f_W (W2 := []) rfl ?_
  refine f_iret hk he hA rfl dJ22_compareTo_8 (by omega) (by omega) ?_
  exact ⟨rfl, rfl, rfl⟩
