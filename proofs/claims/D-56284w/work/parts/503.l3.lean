/-! L, 3: add, set, remove -/
set_option maxHeartbeats 1500000 in
/-- J2 add_2(Ljava/lang/Object;[Ljava/lang/Object;I)V -/
theorem fc_J2_add_2 {l : Launch} {E : jE} (hls : l.stackTraces = false) (hE : jSt E) (hN : jCn E) {z : jZ} (hzc : zLe (zS E) z) {a : Nat} {e : Nat} {q : Nat} {li : List Nat} {mc : Int} {w0 : va_W} (h : alQ E a mc li q w0) (hel : elZ z li) (heo : okO z e) (hlen : li.length < 33) : fC l E yJ2_add_2 cJ2_add_2 4 (none) 5 147 (1) (33) [.ref a, .ref e, .ref q, .int (jI ((li.length : Nat) : Int))] z [w0] (fun rr z2 W2 => ∃ w1 : va_W, rr = none ∧ W2 = [w1] ∧ z = z2 ∧ alW E a mc (li ++ [e]) w1) := by
  refine f_start (own := "java/util/ArrayList") (vs := [some (.ref a), some (.ref e), some (.ref q), some (.int (jI ((li.length : Nat) : Int)))]) hls (by decide +kernel) rfl rfl rfl (Nat.le_of_ble_eq_true rfl) ?_
  intro K H0 hk he hl0 hI hA
  obtain ⟨eci_e, efs_e, er_e, he1_e, he2_e, he3_e⟩ := id heo
  rcases h with ⟨hli, rfl, rfl⟩ | ⟨cap, f, rfl, hc, hl, hf⟩
  · have hln : li.length = 0 := by rw [hli]; rfl
    have hkE := hzc _ hN.empC
    refine j_ild4 hk dJ2_add_2_0 rfl rfl ?_
    refine j_ald4 hk dJ2_add_2_1 rfl rfl ?_
    refine f_alen (n := 0) (t := 4) (f := .inr (.inr (.inr (.inr (fun _ => none))))) hE hk rfl (.inl hkE) dJ2_add_2_2 ?_
    refine j_icmp_ne hk (by omega) (by omega) dJ2_add_2_3 rfl (tgt := 11) (fun h3 => by exfalso; omega) (fun h3 => ?_)
    refine j_ald4 hk dJ2_add_2_6 rfl rfl ?_
    refine f_callV (Wc := [[(a, .inr (10, [.int (jI mc), .ref (kEmpty E), .int (jI 0)]))]]) (Wr := []) hE hk hl0 (fIn.at 0 0 rfl rfl) (show vwCl[10]? = some (RJ2, TJ2, 3) from rfl) (fc_J2_grow hls hE hN (z := z) hzc (a := a) (mc := mc) (li := li) (Or.inl ⟨hli, rfl⟩) (hel)) (fun _ h => Or.inl h) 0 (lw_V q726 q728 qs2 q120 q729) (by decide +kernel) rfl (by decide) (by omega) rfl (Nat.le_of_ble_eq_true rfl) dJ2_add_2_7 ?_
    refine Or.inl ⟨rfl, ?_⟩
    rintro _ _ _ ⟨q21, cap21, f21, rfl, rfl, rfl, hp1_0, hp1_1, hp1_2⟩ -
    refine f_W (W2 := [[(a, .inr (10, [.int (jI mc), .ref q21, .int (jI ((li.length : Nat) : Int))])), (q21, .inl (E.2.2 4, cap21, .inr (.inr (.inr (.inr f21)))))]]) rfl ?_
    have hcap := (hp1_0).le
    refine j_ast2 hk dJ2_add_2_10 rfl ?_
    refine j_ald4 hk dJ2_add_2_11 rfl rfl ?_
    refine j_ild4 hk dJ2_add_2_12 rfl rfl ?_
    refine j_ald4 hk dJ2_add_2_13 rfl rfl ?_
    refine f_aast (n := cap21) (t := 4) (f := f21) (W2 := [[(a, .inr (10, [.int (jI mc), .ref q21, .int (jI ((li.length : Nat) : Int))])), (q21, .inl (E.2.2 4, cap21, .inr (.inr (.inr (.inr (va_up f21 li.length (some e)))))))]]) hE hk rfl 0 1 rfl rfl (.inl he1_e) he2_e (Or.inr he3_e) (li.length) (by omega) (by omega) (by omega) rfl dJ2_add_2_14 ?_
    refine j_ald4 hk dJ2_add_2_15 rfl rfl ?_
    refine j_ild4 hk dJ2_add_2_16 rfl rfl ?_
    refine j_iconst (n := 1) hk dJ2_add_2_17 ?_
    refine j_iadd hk dJ2_add_2_18 ?_
    refine j_top (z2 := ((li.length + 1 : Nat) : Int)) (by omega) ?_
    refine f_put (fs := [.int (jI mc), .ref q21, .int (jI ((li.length : Nat) : Int))]) (ty := .int) (W2 := [[(a, .inr (10, [.int (jI mc), .ref q21, .int (jI ((li.length + 1 : Nat) : Int))])), (q21, .inl (E.2.2 4, cap21, .inr (.inr (.inr (.inr (va_up f21 li.length (some e)))))))]]) hE hk in_J2 tyJ2_ok nmJ2 0 0 rfl rfl (show vwCl[10]? = some (RJ2, TJ2, 3) from rfl) 2 (by decide) q199 (Or.inl rfl) (Or.inl rfl) (by decide +kernel) rfl rfl (show 2 < 3 by decide) rfl dJ2_add_2_19 ?_
    refine f_vret hk he hA dJ2_add_2_22 (by omega) (by omega) ?_
    exact ⟨_, rfl, rfl, rfl, q21, Or.inr ⟨cap21, va_up f21 li.length (some e), by rw [show (li ++ [e]).length = li.length + 1 by simp], hp1_0, by simp; omega, al_app hp1_2 hp1_1⟩⟩
  · have hcb := hc.le
    refine j_ild4 hk dJ2_add_2_0 rfl rfl ?_
    refine j_ald4 hk dJ2_add_2_1 rfl rfl ?_
    refine f_alen (n := cap) (t := 4) (f := .inr (.inr (.inr (.inr f)))) hE hk rfl (fIn.at 0 1 rfl rfl) dJ2_add_2_2 ?_
    refine j_icmp_ne hk (by omega) (by omega) dJ2_add_2_3 rfl (tgt := 11) (fun h3 => ?_) (fun h3 => ?_)
    · refine j_ald4 hk dJ2_add_2_11 rfl rfl ?_
      refine j_ild4 hk dJ2_add_2_12 rfl rfl ?_
      refine j_ald4 hk dJ2_add_2_13 rfl rfl ?_
      refine f_aast (n := cap) (t := 4) (f := f) (W2 := [[(a, .inr (10, [.int (jI mc), .ref q, .int (jI ((li.length : Nat) : Int))])), (q, .inl (E.2.2 4, cap, .inr (.inr (.inr (.inr (va_up f li.length (some e)))))))]]) hE hk rfl 0 1 rfl rfl (.inl he1_e) he2_e (Or.inr he3_e) (li.length) (by omega) (by omega) (by omega) rfl dJ2_add_2_14 ?_
      refine j_ald4 hk dJ2_add_2_15 rfl rfl ?_
      refine j_ild4 hk dJ2_add_2_16 rfl rfl ?_
      refine j_iconst (n := 1) hk dJ2_add_2_17 ?_
      refine j_iadd hk dJ2_add_2_18 ?_
      refine j_top (z2 := ((li.length + 1 : Nat) : Int)) (by omega) ?_
      refine f_put (fs := [.int (jI mc), .ref q, .int (jI ((li.length : Nat) : Int))]) (ty := .int) (W2 := [[(a, .inr (10, [.int (jI mc), .ref q, .int (jI ((li.length + 1 : Nat) : Int))])), (q, .inl (E.2.2 4, cap, .inr (.inr (.inr (.inr (va_up f li.length (some e)))))))]]) hE hk in_J2 tyJ2_ok nmJ2 0 0 rfl rfl (show vwCl[10]? = some (RJ2, TJ2, 3) from rfl) 2 (by decide) q199 (Or.inl rfl) (Or.inl rfl) (by decide +kernel) rfl rfl (show 2 < 3 by decide) rfl dJ2_add_2_19 ?_
      refine f_vret hk he hA dJ2_add_2_22 (by omega) (by omega) ?_
      exact ⟨_, rfl, rfl, rfl, q, Or.inr ⟨cap, va_up f li.length (some e), by rw [show (li ++ [e]).length = li.length + 1 by simp], hc, by simp; omega, al_app hf (by omega)⟩⟩
    · refine j_ald4 hk dJ2_add_2_6 rfl rfl ?_
      refine f_callV (Wc := [[(a, .inr (10, [.int (jI mc), .ref q, .int (jI ((li.length : Nat) : Int))])), (q, .inl (E.2.2 4, cap, .inr (.inr (.inr (.inr f)))))]]) (Wr := []) hE hk hl0 (fIn.at 0 0 rfl rfl) (show vwCl[10]? = some (RJ2, TJ2, 3) from rfl) (fc_J2_grow hls hE hN (z := z) hzc (a := a) (mc := mc) (li := li) (Or.inr ⟨q, f, by rw [show cap = li.length by omega], by unfold capOK at hc; omega, fun i hi => hf i (by omega)⟩) (hel)) (fun _ h => Or.inl h) 0 (lw_V q726 q728 qs2 q120 q729) (by decide +kernel) rfl (by decide) (by omega) rfl (Nat.le_of_ble_eq_true rfl) dJ2_add_2_7 ?_
      refine Or.inl ⟨rfl, ?_⟩
      rintro _ _ _ ⟨q22, cap22, f22, rfl, rfl, rfl, hp2_0, hp2_1, hp2_2⟩ -
      refine f_W (W2 := [[(a, .inr (10, [.int (jI mc), .ref q22, .int (jI ((li.length : Nat) : Int))])), (q22, .inl (E.2.2 4, cap22, .inr (.inr (.inr (.inr f22)))))]]) rfl ?_
      have hcap := (hp2_0).le
      refine j_ast2 hk dJ2_add_2_10 rfl ?_
      refine j_ald4 hk dJ2_add_2_11 rfl rfl ?_
      refine j_ild4 hk dJ2_add_2_12 rfl rfl ?_
      refine j_ald4 hk dJ2_add_2_13 rfl rfl ?_
      refine f_aast (n := cap22) (t := 4) (f := f22) (W2 := [[(a, .inr (10, [.int (jI mc), .ref q22, .int (jI ((li.length : Nat) : Int))])), (q22, .inl (E.2.2 4, cap22, .inr (.inr (.inr (.inr (va_up f22 li.length (some e)))))))]]) hE hk rfl 0 1 rfl rfl (.inl he1_e) he2_e (Or.inr he3_e) (li.length) (by omega) (by omega) (by omega) rfl dJ2_add_2_14 ?_
      refine j_ald4 hk dJ2_add_2_15 rfl rfl ?_
      refine j_ild4 hk dJ2_add_2_16 rfl rfl ?_
      refine j_iconst (n := 1) hk dJ2_add_2_17 ?_
      refine j_iadd hk dJ2_add_2_18 ?_
      refine j_top (z2 := ((li.length + 1 : Nat) : Int)) (by omega) ?_
      refine f_put (fs := [.int (jI mc), .ref q22, .int (jI ((li.length : Nat) : Int))]) (ty := .int) (W2 := [[(a, .inr (10, [.int (jI mc), .ref q22, .int (jI ((li.length + 1 : Nat) : Int))])), (q22, .inl (E.2.2 4, cap22, .inr (.inr (.inr (.inr (va_up f22 li.length (some e)))))))]]) hE hk in_J2 tyJ2_ok nmJ2 0 0 rfl rfl (show vwCl[10]? = some (RJ2, TJ2, 3) from rfl) 2 (by decide) q199 (Or.inl rfl) (Or.inl rfl) (by decide +kernel) rfl rfl (show 2 < 3 by decide) rfl dJ2_add_2_19 ?_
      refine f_vret hk he hA dJ2_add_2_22 (by omega) (by omega) ?_
      exact ⟨_, rfl, rfl, rfl, q22, Or.inr ⟨cap22, va_up f22 li.length (some e), by rw [show (li ++ [e]).length = li.length + 1 by simp], hp2_0, by simp; omega, al_app hp2_2 hp2_1⟩⟩
set_option maxHeartbeats 1500000 in
/-- J2 add(Ljava/lang/Object;)Z -/
theorem fc_J2_add {l : Launch} {E : jE} (hls : l.stackTraces = false) (hE : jSt E) (hN : jCn E) {z : jZ} (hzc : zLe (zS E) z) {a : Nat} {e : Nat} {li : List Nat} {mc : Int} {w0 : va_W} (h : alW E a mc li w0) (hel : elZ z li) (heo : okO z e) (hlen : li.length < 33) : fC l E yJ2_add cJ2_add 2 (some .boolean) 6 170 (1) (33) [.ref a, .ref e] z [w0] (fun rr z2 W2 => ∃ w1 : va_W, rr = some (.int (jI 1)) ∧ W2 = [w1] ∧ z = z2 ∧ alW E a (mc + 1) (li ++ [e]) w1) := by
  refine f_start (own := "java/util/ArrayList") (vs := [some (.ref a), some (.ref e)]) hls (by decide +kernel) rfl rfl rfl (Nat.le_of_ble_eq_true rfl) ?_
  intro K H0 hk he hl0 hI hA
  obtain ⟨q, h⟩ := h
  obtain ⟨r, rfl, hr⟩ := h.head
  refine j_ald4 hk dJ2_add_0 rfl rfl ?_
  refine j_dup hk rfl dJ2_add_1 ?_
  refine f_get hE hk in_J2 (fIn.at 0 0 rfl rfl) (show vwCl[10]? = some (RJ2, TJ2, 3) from rfl) 0 (by decide) q203 (Or.inr q202) rfl dJ2_add_2 ?_
  refine j_iconst (n := 1) hk dJ2_add_5 ?_
  refine j_iadd hk dJ2_add_6 ?_
  refine f_put (fs := [.int (jI mc), .ref q, .int (jI ((li.length : Nat) : Int))]) (ty := .int) (W2 := [((a, .inr (10, [.int (jI (mc + 1)), .ref q, .int (jI ((li.length : Nat) : Int))])) :: r)]) hE hk in_J2 tyJ2_ok nmJ2 0 0 rfl rfl (show vwCl[10]? = some (RJ2, TJ2, 3) from rfl) 0 (by decide) q203 (Or.inr q202) (Or.inl rfl) (by decide +kernel) rfl rfl (show 0 < 3 by decide) rfl dJ2_add_7 ?_
  refine j_ald4 hk dJ2_add_10 rfl rfl ?_
  refine j_ald4 hk dJ2_add_11 rfl rfl ?_
  refine j_ald4 hk dJ2_add_12 rfl rfl ?_
  refine f_get hE hk in_J2 (fIn.at 0 0 rfl rfl) (show vwCl[10]? = some (RJ2, TJ2, 3) from rfl) 1 (by decide) q196 (Or.inl rfl) rfl dJ2_add_13 ?_
  refine j_ald4 hk dJ2_add_16 rfl rfl ?_
  refine f_get hE hk in_J2 (fIn.at 0 0 rfl rfl) (show vwCl[10]? = some (RJ2, TJ2, 3) from rfl) 2 (by decide) q199 (Or.inl rfl) rfl dJ2_add_17 ?_
  refine f_callV (Wc := [((a, .inr (10, [.int (jI (mc + 1)), .ref q, .int (jI ((li.length : Nat) : Int))])) :: r)]) (Wr := []) hE hk hl0 (fIn.at 0 0 rfl rfl) (show vwCl[10]? = some (RJ2, TJ2, 3) from rfl) (fc_J2_add_2 hls hE hN (z := z) hzc (a := a) (e := e) (q := q) (hr (mc + 1)) (hel) (heo) (hlen)) (fun _ h => Or.inl h) 3 (lw_V q722 q724 qs1 q120 q725) (by decide +kernel) rfl (by decide) (by omega) rfl (Nat.le_of_ble_eq_true rfl) dJ2_add_20 ?_
  refine Or.inl ⟨rfl, ?_⟩
  rintro _ _ _ ⟨w11, rfl, rfl, rfl, hp1_0⟩ -
  refine f_W (W2 := [w11]) rfl ?_
  refine j_iconst (n := 1) hk dJ2_add_23 ?_
  refine f_iret hk he hA rfl dJ2_add_24 (by omega) (by omega) ?_
  exact ⟨_, rfl, rfl, rfl, hp1_0⟩
set_option maxHeartbeats 1500000 in
/-- J2 set(ILjava/lang/Object;)Ljava/lang/Object; -/
theorem fc_J2_set {l : Launch} {E : jE} (hls : l.stackTraces = false) (hE : jSt E) (hN : jCn E) {z : jZ} (hzc : zLe (zS E) z) {a : Nat} {i : Nat} {e : Nat} {li : List Nat} {mc : Int} {w0 : va_W} {b : Nat} (h : alW E a mc li w0) (hi : li[i]? = some b) (heo : okO z e) : fC l E yJ2_set cJ2_set 4 (some (.object "java/lang/Object")) 3 55 (0) (0) [.ref a, .int (jI ((i : Nat) : Int)), .ref e] z [w0] (fun rr z2 W2 => ∃ w1 : va_W, rr = some (.ref b) ∧ W2 = [w1] ∧ z = z2 ∧ alW E a mc (li.set i e) w1) := by
  refine f_start (own := "java/util/ArrayList") (vs := [some (.ref a), some (.int (jI ((i : Nat) : Int))), some (.ref e), none]) hls (by decide +kernel) rfl rfl rfl (Nat.le_of_ble_eq_true rfl) ?_
  intro K H0 hk he hl0 hI hA
  obtain ⟨eci_e, efs_e, er_e, he1_e, he2_e, he3_e⟩ := id heo
  obtain ⟨q, h⟩ := h
  have hil : i < li.length := (List.getElem?_eq_some_iff.mp hi).1
  obtain ⟨cap, f, rfl, hc, hl, hf⟩ := h.ne (by omega)
  have hcb := hc.le
  refine j_ild4 hk dJ2_set_0 rfl rfl ?_
  refine j_ald4 hk dJ2_set_1 rfl rfl ?_
  refine f_get hE hk in_J2 (fIn.at 0 0 rfl rfl) (show vwCl[10]? = some (RJ2, TJ2, 3) from rfl) 2 (by decide) q199 (Or.inl rfl) rfl dJ2_set_2 ?_
  refine f_callS (Wc := []) (Wr := [[(a, .inr (10, [.int (jI mc), .ref q, .int (jI ((li.length : Nat) : Int))])), (q, .inl (E.2.2 4, cap, .inr (.inr (.inr (.inr f)))))]]) hk hl0 (fc_J10_checkIndex hls hE hN (z := z) hzc (i := i) (n := li.length) (⟨hil, by omega⟩)) (fun _ h => Or.inl h) 2 (lw_S q398 q399 q128 q400) (by decide +kernel) rfl (by decide) (by omega) rfl (Nat.le_of_ble_eq_true rfl) dJ2_set_5 ?_
  refine Or.inl ⟨rfl, ?_⟩
  rintro _ _ _ ⟨rfl, rfl, rfl⟩ -
  refine f_W (W2 := [[(a, .inr (10, [.int (jI mc), .ref q, .int (jI ((li.length : Nat) : Int))])), (q, .inl (E.2.2 4, cap, .inr (.inr (.inr (.inr f)))))]]) rfl ?_
  refine j_pop hk rfl dJ2_set_8 ?_
  refine j_ald4 hk dJ2_set_9 rfl rfl ?_
  refine j_ild4 hk dJ2_set_10 rfl rfl ?_
  obtain ⟨zL2, hlL2, hmL2, hbL2⟩ := f_lend z [[(a, .inr (10, [.int (jI mc), .ref q, .int (jI ((li.length : Nat) : Int))])), (q, .inl (E.2.2 4, cap, .inr (.inr (.inr (.inr f)))))]] [[(a, .inr (10, [.int (jI mc), .ref q, .int (jI ((li.length : Nat) : Int))])), (q, .inl (E.2.2 4, cap, .inr (.inr (.inr (.inr f)))))]] (by simp)
  refine f_callV (Wc := []) (Wr := [[(a, .inr (10, [.int (jI mc), .ref q, .int (jI ((li.length : Nat) : Int))])), (q, .inl (E.2.2 4, cap, .inr (.inr (.inr (.inr f)))))]]) hE hk hl0 (fIn.at 0 0 rfl rfl) (show vwCl[10]? = some (RJ2, TJ2, 3) from rfl) (fc_J2_elementData hls hE hN (z := zL2) (hzc.tr hlL2) (a := a) (i := i) (b := b) (alW.z ⟨q, Or.inr ⟨cap, f, rfl, hc, hl, hf⟩⟩ (hmL2 _ (List.mem_cons_self))) (hi)) (hbL2) 1 (lw_V q404 q405 q406 q120 q407) (by decide +kernel) rfl (by decide) (by omega) rfl (Nat.le_of_ble_eq_true rfl) dJ2_set_11 ?_
  refine Or.inr ?_
  rintro _ _ _ ⟨rfl, rfl, -⟩ -
  refine f_W (W2 := [[(a, .inr (10, [.int (jI mc), .ref q, .int (jI ((li.length : Nat) : Int))])), (q, .inl (E.2.2 4, cap, .inr (.inr (.inr (.inr f)))))]]) rfl ?_
  refine j_ast3 hk dJ2_set_14 rfl ?_
  refine j_ald4 hk dJ2_set_15 rfl rfl ?_
  refine f_get hE hk in_J2 (fIn.at 0 0 rfl rfl) (show vwCl[10]? = some (RJ2, TJ2, 3) from rfl) 1 (by decide) q196 (Or.inl rfl) rfl dJ2_set_16 ?_
  refine j_ild4 hk dJ2_set_19 rfl rfl ?_
  refine j_ald4 hk dJ2_set_20 rfl rfl ?_
  refine f_aast (n := cap) (t := 4) (f := f) (W2 := [[(a, .inr (10, [.int (jI mc), .ref q, .int (jI ((li.length : Nat) : Int))])), (q, .inl (E.2.2 4, cap, .inr (.inr (.inr (.inr (va_up f i (some e)))))))]]) hE hk rfl 0 1 rfl rfl (.inl he1_e) he2_e (Or.inr he3_e) (i) (by omega) (by omega) (by omega) rfl dJ2_set_21 ?_
  refine j_ald4 hk dJ2_set_22 rfl rfl ?_
  refine f_aret hk he hA (Or.inl ⟨_, rfl⟩) (Or.inr ⟨_, rfl⟩) dJ2_set_23 (by omega) (by omega) ?_
  exact ⟨_, rfl, rfl, rfl, q, Or.inr ⟨cap, va_up f i (some e), by rw [List.length_set], hc, by rw [List.length_set]; exact hl, al_set hf hil⟩⟩
set_option maxHeartbeats 1500000 in
/-- J2 rangeCheckForAdd(I)V -/
theorem fc_J2_rangeCheckForAdd {l : Launch} {E : jE} (hls : l.stackTraces = false) (hE : jSt E) (hN : jCn E) {z : jZ} (hzc : zLe (zS E) z) {a : Nat} {i : Nat} {li : List Nat} {mc : Int} (h : alZ E z a mc li) (hi : i ≤ li.length) : fC l E yJ2_rangeCheckForAdd cJ2_rangeCheckForAdd 2 (none) 1 12 (0) (0) [.ref a, .int (jI ((i : Nat) : Int))] z [] (fun rr z2 W2 => rr = none ∧ W2 = [] ∧ z = z2) := by
  refine f_start (own := "java/util/ArrayList") (vs := [some (.ref a), some (.int (jI ((i : Nat) : Int)))]) hls (by decide +kernel) rfl rfl rfl (Nat.le_of_ble_eq_true rfl) ?_
  intro K H0 hk he hl0 hI hA
  have hlen_a := h.len
  obtain ⟨q_a, cap_a, f_a, hc1_a, hc2_a, hl1_a, hl2_a, hf_a⟩ := h.cell hN hzc
  refine j_ild4 hk dJ2_rangeCheckForAdd_0 rfl rfl ?_
  refine j_ald4 hk dJ2_rangeCheckForAdd_1 rfl rfl ?_
  refine f_get hE hk in_J2 (.inl hc1_a) (show vwCl[10]? = some (RJ2, TJ2, 3) from rfl) 2 (by decide) q199 (Or.inl rfl) rfl dJ2_rangeCheckForAdd_2 ?_
  refine j_icmp_gt hk (by omega) (by omega) dJ2_rangeCheckForAdd_5 rfl (tgt := 12) (fun h5 => by exfalso; omega) (fun h5 => ?_)
  refine j_ild4 hk dJ2_rangeCheckForAdd_8 rfl rfl ?_
  refine j_if_ge hk (by omega) dJ2_rangeCheckForAdd_9 rfl (tgt := 25) (fun h9 => ?_) (fun h9 => by exfalso; omega)
  refine f_vret hk he hA dJ2_rangeCheckForAdd_25 (by omega) (by omega) ?_
  exact ⟨rfl, rfl, rfl⟩
set_option maxHeartbeats 1500000 in
/-- J2 add_3(ILjava/lang/Object;)V -/
theorem fc_J2_add_3 {l : Launch} {E : jE} (hls : l.stackTraces = false) (hE : jSt E) (hN : jCn E) {z : jZ} (hzc : zLe (zS E) z) {a : Nat} {i : Nat} {e : Nat} {li : List Nat} {mc : Int} {w0 : va_W} (h : ∃ q, alQ E a mc li q w0) (hel : elZ z li) (heo : okO z e) (hlen : li.length < 33) (hi : i ≤ li.length) : fC l E yJ2_add_3 cJ2_add_3 5 (none) 5 147 (1) (33) [.ref a, .int (jI ((i : Nat) : Int)), .ref e] z [w0] (fun rr z2 W2 => ∃ w1 : va_W, rr = none ∧ W2 = [w1] ∧ z = z2 ∧ alW E a (mc + 1) (insAt li i e) w1) := by
  refine f_start (own := "java/util/ArrayList") (vs := [some (.ref a), some (.int (jI ((i : Nat) : Int))), some (.ref e), none, none]) hls (by decide +kernel) rfl rfl rfl (Nat.le_of_ble_eq_true rfl) ?_
  intro K H0 hk he hl0 hI hA
  obtain ⟨eci_e, efs_e, er_e, he1_e, he2_e, he3_e⟩ := id heo
  obtain ⟨q, h⟩ := h
  rcases h with ⟨hli, rfl, rfl⟩ | ⟨cap, f, rfl, hc, hl, hf⟩
  · have hln : li.length = 0 := by rw [hli]; rfl
    have hkE := hzc _ hN.empC
    refine j_ald4 hk dJ2_add_3_0 rfl rfl ?_
    refine j_ild4 hk dJ2_add_3_1 rfl rfl ?_
    obtain ⟨zL1, hlL1, hmL1, hbL1⟩ := f_lend z [[(a, .inr (10, [.int (jI mc), .ref (kEmpty E), .int (jI 0)]))]] [[(a, .inr (10, [.int (jI mc), .ref (kEmpty E), .int (jI 0)]))]] (by simp)
    refine f_callV (Wc := []) (Wr := [[(a, .inr (10, [.int (jI mc), .ref (kEmpty E), .int (jI 0)]))]]) hE hk hl0 (fIn.at 0 0 rfl rfl) (show vwCl[10]? = some (RJ2, TJ2, 3) from rfl) (fc_J2_rangeCheckForAdd hls hE hN (z := zL1) (hzc.tr hlL1) (a := a) (i := i) (alW.z ⟨kEmpty E, Or.inl ⟨hli, rfl, rfl⟩⟩ (hmL1 _ (List.mem_cons_self))) (hi)) (hbL1) 1 (lw_V q1167 q1169 qs5 q120 q1170) (by decide +kernel) rfl (by decide) (by omega) rfl (Nat.le_of_ble_eq_true rfl) dJ2_add_3_2 ?_
    refine Or.inr ?_
    rintro _ _ _ ⟨rfl, rfl, -⟩ -
    refine f_W (W2 := [[(a, .inr (10, [.int (jI mc), .ref (kEmpty E), .int (jI 0)]))]]) rfl ?_
    refine j_ald4 hk dJ2_add_3_5 rfl rfl ?_
    refine j_dup hk rfl dJ2_add_3_6 ?_
    refine f_get hE hk in_J2 (fIn.at 0 0 rfl rfl) (show vwCl[10]? = some (RJ2, TJ2, 3) from rfl) 0 (by decide) q203 (Or.inr q202) rfl dJ2_add_3_7 ?_
    refine j_iconst (n := 1) hk dJ2_add_3_10 ?_
    refine j_iadd hk dJ2_add_3_11 ?_
    refine f_put (fs := [.int (jI mc), .ref (kEmpty E), .int (jI 0)]) (ty := .int) (W2 := [[(a, .inr (10, [.int (jI (mc + 1)), .ref (kEmpty E), .int (jI 0)]))]]) hE hk in_J2 tyJ2_ok nmJ2 0 0 rfl rfl (show vwCl[10]? = some (RJ2, TJ2, 3) from rfl) 0 (by decide) q203 (Or.inr q202) (Or.inl rfl) (by decide +kernel) rfl rfl (show 0 < 3 by decide) rfl dJ2_add_3_12 ?_
    refine j_ald4 hk dJ2_add_3_15 rfl rfl ?_
    refine f_get hE hk in_J2 (fIn.at 0 0 rfl rfl) (show vwCl[10]? = some (RJ2, TJ2, 3) from rfl) 2 (by decide) q199 (Or.inl rfl) rfl dJ2_add_3_16 ?_
    refine j_dup hk rfl dJ2_add_3_19 ?_
    refine j_ist3 hk dJ2_add_3_20 rfl ?_
    refine j_top (z2 := ((li.length : Nat) : Int)) (by omega) ?_
    refine j_ald4 hk dJ2_add_3_21 rfl rfl ?_
    refine f_get hE hk in_J2 (fIn.at 0 0 rfl rfl) (show vwCl[10]? = some (RJ2, TJ2, 3) from rfl) 1 (by decide) q196 (Or.inl rfl) rfl dJ2_add_3_22 ?_
    refine j_dup hk rfl dJ2_add_3_25 ?_
    refine j_ast4 hk dJ2_add_3_26 rfl ?_
    refine f_alen (n := 0) (t := 4) (f := .inr (.inr (.inr (.inr (fun _ => none))))) hE hk rfl (.inl hkE) dJ2_add_3_28 ?_
    refine j_icmp_ne hk (by omega) (by omega) dJ2_add_3_29 rfl (tgt := 38) (fun h29 => by exfalso; omega) (fun h29 => ?_)
    refine j_ald4 hk dJ2_add_3_32 rfl rfl ?_
    refine f_callV (Wc := [[(a, .inr (10, [.int (jI (mc + 1)), .ref (kEmpty E), .int (jI 0)]))]]) (Wr := []) hE hk hl0 (fIn.at 0 0 rfl rfl) (show vwCl[10]? = some (RJ2, TJ2, 3) from rfl) (fc_J2_grow hls hE hN (z := z) hzc (a := a) (mc := mc + 1) (li := li) (Or.inl ⟨hli, rfl⟩) (hel)) (fun _ h => Or.inl h) 0 (lw_V q726 q728 qs2 q120 q729) (by decide +kernel) rfl (by decide) (by omega) rfl (Nat.le_of_ble_eq_true rfl) dJ2_add_3_33 ?_
    refine Or.inl ⟨rfl, ?_⟩
    rintro _ _ _ ⟨q23, cap23, f23, rfl, rfl, rfl, hp3_0, hp3_1, hp3_2⟩ -
    refine f_W (W2 := [[(a, .inr (10, [.int (jI (mc + 1)), .ref q23, .int (jI ((li.length : Nat) : Int))])), (q23, .inl (E.2.2 4, cap23, .inr (.inr (.inr (.inr f23)))))]]) rfl ?_
    have hcap := (hp3_0).le
    refine j_ast4 hk dJ2_add_3_36 rfl ?_
    refine j_ald hk dJ2_add_3_38 rfl ?_
    refine j_ild4 hk dJ2_add_3_40 rfl rfl ?_
    refine j_ald hk dJ2_add_3_41 rfl ?_
    refine j_ild4 hk dJ2_add_3_43 rfl rfl ?_
    refine j_iconst (n := 1) hk dJ2_add_3_44 ?_
    refine j_iadd hk dJ2_add_3_45 ?_
    refine j_ild4 hk dJ2_add_3_46 rfl rfl ?_
    refine j_ild4 hk dJ2_add_3_47 rfl rfl ?_
    refine j_isub hk dJ2_add_3_48 ?_
    refine j_top (z2 := ((li.length - i : Nat) : Int)) (by omega) ?_
    refine f_copyq (n0 := cap23) (n1 := cap23) (f := f23) (g := f23) (W2 := [[(a, .inr (10, [.int (jI (mc + 1)), .ref q23, .int (jI ((li.length : Nat) : Int))])), (q23, .inl (E.2.2 4, cap23, .inr (.inr (.inr (.inr (va_cpy f23 f23 i (i + 1) (li.length - i)))))))]]) hE hk q1184 q507 q506 q138 (fIn.at 0 1 rfl rfl) 0 1 rfl rfl (i) (i + 1) (li.length - i) (by omega) (by omega) (by omega) (by omega) (by omega) (by omega) (by omega) (fun j hj y hy => by exfalso; omega) ⟨by decide, Nat.le_of_ble_eq_true rfl⟩ rfl dJ2_add_3_49 ?_
    refine j_ald hk dJ2_add_3_52 rfl ?_
    refine j_ild4 hk dJ2_add_3_54 rfl rfl ?_
    refine j_ald4 hk dJ2_add_3_55 rfl rfl ?_
    refine f_aast (n := cap23) (t := 4) (f := va_cpy f23 f23 i (i + 1) (li.length - i)) (W2 := [[(a, .inr (10, [.int (jI (mc + 1)), .ref q23, .int (jI ((li.length : Nat) : Int))])), (q23, .inl (E.2.2 4, cap23, .inr (.inr (.inr (.inr (va_up (va_cpy f23 f23 i (i + 1) (li.length - i)) i (some e)))))))]]) hE hk rfl 0 1 rfl rfl (.inl he1_e) he2_e (Or.inr he3_e) (i) (by omega) (by omega) (by omega) rfl dJ2_add_3_56 ?_
    refine j_ald4 hk dJ2_add_3_57 rfl rfl ?_
    refine j_ild4 hk dJ2_add_3_58 rfl rfl ?_
    refine j_iconst (n := 1) hk dJ2_add_3_59 ?_
    refine j_iadd hk dJ2_add_3_60 ?_
    refine j_top (z2 := ((li.length + 1 : Nat) : Int)) (by omega) ?_
    refine f_put (fs := [.int (jI (mc + 1)), .ref q23, .int (jI ((li.length : Nat) : Int))]) (ty := .int) (W2 := [[(a, .inr (10, [.int (jI (mc + 1)), .ref q23, .int (jI ((li.length + 1 : Nat) : Int))])), (q23, .inl (E.2.2 4, cap23, .inr (.inr (.inr (.inr (va_up (va_cpy f23 f23 i (i + 1) (li.length - i)) i (some e)))))))]]) hE hk in_J2 tyJ2_ok nmJ2 0 0 rfl rfl (show vwCl[10]? = some (RJ2, TJ2, 3) from rfl) 2 (by decide) q199 (Or.inl rfl) (Or.inl rfl) (by decide +kernel) rfl rfl (show 2 < 3 by decide) rfl dJ2_add_3_61 ?_
    refine f_vret hk he hA dJ2_add_3_64 (by omega) (by omega) ?_
    exact ⟨_, rfl, rfl, rfl, q23, Or.inr ⟨cap23, va_up (va_cpy f23 f23 i (i + 1) (li.length - i)) i (some e), by rw [insAt_len hi], hp3_0, by rw [insAt_len hi]; omega, al_ins hp3_2 hi hp3_1⟩⟩
  · have hcb := hc.le
    refine j_ald4 hk dJ2_add_3_0 rfl rfl ?_
    refine j_ild4 hk dJ2_add_3_1 rfl rfl ?_
    obtain ⟨zL4, hlL4, hmL4, hbL4⟩ := f_lend z [[(a, .inr (10, [.int (jI mc), .ref q, .int (jI ((li.length : Nat) : Int))])), (q, .inl (E.2.2 4, cap, .inr (.inr (.inr (.inr f)))))]] [[(a, .inr (10, [.int (jI mc), .ref q, .int (jI ((li.length : Nat) : Int))])), (q, .inl (E.2.2 4, cap, .inr (.inr (.inr (.inr f)))))]] (by simp)
    refine f_callV (Wc := []) (Wr := [[(a, .inr (10, [.int (jI mc), .ref q, .int (jI ((li.length : Nat) : Int))])), (q, .inl (E.2.2 4, cap, .inr (.inr (.inr (.inr f)))))]]) hE hk hl0 (fIn.at 0 0 rfl rfl) (show vwCl[10]? = some (RJ2, TJ2, 3) from rfl) (fc_J2_rangeCheckForAdd hls hE hN (z := zL4) (hzc.tr hlL4) (a := a) (i := i) (alW.z ⟨q, Or.inr ⟨cap, f, rfl, hc, hl, hf⟩⟩ (hmL4 _ (List.mem_cons_self))) (hi)) (hbL4) 1 (lw_V q1167 q1169 qs5 q120 q1170) (by decide +kernel) rfl (by decide) (by omega) rfl (Nat.le_of_ble_eq_true rfl) dJ2_add_3_2 ?_
    refine Or.inr ?_
    rintro _ _ _ ⟨rfl, rfl, -⟩ -
    refine f_W (W2 := [[(a, .inr (10, [.int (jI mc), .ref q, .int (jI ((li.length : Nat) : Int))])), (q, .inl (E.2.2 4, cap, .inr (.inr (.inr (.inr f)))))]]) rfl ?_
    refine j_ald4 hk dJ2_add_3_5 rfl rfl ?_
    refine j_dup hk rfl dJ2_add_3_6 ?_
    refine f_get hE hk in_J2 (fIn.at 0 0 rfl rfl) (show vwCl[10]? = some (RJ2, TJ2, 3) from rfl) 0 (by decide) q203 (Or.inr q202) rfl dJ2_add_3_7 ?_
    refine j_iconst (n := 1) hk dJ2_add_3_10 ?_
    refine j_iadd hk dJ2_add_3_11 ?_
    refine f_put (fs := [.int (jI mc), .ref q, .int (jI ((li.length : Nat) : Int))]) (ty := .int) (W2 := [[(a, .inr (10, [.int (jI (mc + 1)), .ref q, .int (jI ((li.length : Nat) : Int))])), (q, .inl (E.2.2 4, cap, .inr (.inr (.inr (.inr f)))))]]) hE hk in_J2 tyJ2_ok nmJ2 0 0 rfl rfl (show vwCl[10]? = some (RJ2, TJ2, 3) from rfl) 0 (by decide) q203 (Or.inr q202) (Or.inl rfl) (by decide +kernel) rfl rfl (show 0 < 3 by decide) rfl dJ2_add_3_12 ?_
    refine j_ald4 hk dJ2_add_3_15 rfl rfl ?_
    refine f_get hE hk in_J2 (fIn.at 0 0 rfl rfl) (show vwCl[10]? = some (RJ2, TJ2, 3) from rfl) 2 (by decide) q199 (Or.inl rfl) rfl dJ2_add_3_16 ?_
    refine j_dup hk rfl dJ2_add_3_19 ?_
    refine j_ist3 hk dJ2_add_3_20 rfl ?_
    refine j_ald4 hk dJ2_add_3_21 rfl rfl ?_
    refine f_get hE hk in_J2 (fIn.at 0 0 rfl rfl) (show vwCl[10]? = some (RJ2, TJ2, 3) from rfl) 1 (by decide) q196 (Or.inl rfl) rfl dJ2_add_3_22 ?_
    refine j_dup hk rfl dJ2_add_3_25 ?_
    refine j_ast4 hk dJ2_add_3_26 rfl ?_
    refine f_alen (n := cap) (t := 4) (f := .inr (.inr (.inr (.inr f)))) hE hk rfl (fIn.at 0 1 rfl rfl) dJ2_add_3_28 ?_
    refine j_icmp_ne hk (by omega) (by omega) dJ2_add_3_29 rfl (tgt := 38) (fun h29 => ?_) (fun h29 => ?_)
    · refine j_ald hk dJ2_add_3_38 rfl ?_
      refine j_ild4 hk dJ2_add_3_40 rfl rfl ?_
      refine j_ald hk dJ2_add_3_41 rfl ?_
      refine j_ild4 hk dJ2_add_3_43 rfl rfl ?_
      refine j_iconst (n := 1) hk dJ2_add_3_44 ?_
      refine j_iadd hk dJ2_add_3_45 ?_
      refine j_ild4 hk dJ2_add_3_46 rfl rfl ?_
      refine j_ild4 hk dJ2_add_3_47 rfl rfl ?_
      refine j_isub hk dJ2_add_3_48 ?_
      refine j_top (z2 := ((li.length - i : Nat) : Int)) (by omega) ?_
      refine f_copyq (n0 := cap) (n1 := cap) (f := f) (g := f) (W2 := [[(a, .inr (10, [.int (jI (mc + 1)), .ref q, .int (jI ((li.length : Nat) : Int))])), (q, .inl (E.2.2 4, cap, .inr (.inr (.inr (.inr (va_cpy f f i (i + 1) (li.length - i)))))))]]) hE hk q1184 q507 q506 q138 (fIn.at 0 1 rfl rfl) 0 1 rfl rfl (i) (i + 1) (li.length - i) (by omega) (by omega) (by omega) (by omega) (by omega) (by omega) (by omega) (fun j hj y hy => hel y (List.mem_of_getElem? (by first | (rw [← hf2 (i + j) (by omega)]; exact hy) | (rw [← hf (i + j) (by omega)]; exact hy)))) ⟨by decide, Nat.le_of_ble_eq_true rfl⟩ rfl dJ2_add_3_49 ?_
      refine j_ald hk dJ2_add_3_52 rfl ?_
      refine j_ild4 hk dJ2_add_3_54 rfl rfl ?_
      refine j_ald4 hk dJ2_add_3_55 rfl rfl ?_
      refine f_aast (n := cap) (t := 4) (f := va_cpy f f i (i + 1) (li.length - i)) (W2 := [[(a, .inr (10, [.int (jI (mc + 1)), .ref q, .int (jI ((li.length : Nat) : Int))])), (q, .inl (E.2.2 4, cap, .inr (.inr (.inr (.inr (va_up (va_cpy f f i (i + 1) (li.length - i)) i (some e)))))))]]) hE hk rfl 0 1 rfl rfl (.inl he1_e) he2_e (Or.inr he3_e) (i) (by omega) (by omega) (by omega) rfl dJ2_add_3_56 ?_
      refine j_ald4 hk dJ2_add_3_57 rfl rfl ?_
      refine j_ild4 hk dJ2_add_3_58 rfl rfl ?_
      refine j_iconst (n := 1) hk dJ2_add_3_59 ?_
      refine j_iadd hk dJ2_add_3_60 ?_
      refine j_top (z2 := ((li.length + 1 : Nat) : Int)) (by omega) ?_
      refine f_put (fs := [.int (jI (mc + 1)), .ref q, .int (jI ((li.length : Nat) : Int))]) (ty := .int) (W2 := [[(a, .inr (10, [.int (jI (mc + 1)), .ref q, .int (jI ((li.length + 1 : Nat) : Int))])), (q, .inl (E.2.2 4, cap, .inr (.inr (.inr (.inr (va_up (va_cpy f f i (i + 1) (li.length - i)) i (some e)))))))]]) hE hk in_J2 tyJ2_ok nmJ2 0 0 rfl rfl (show vwCl[10]? = some (RJ2, TJ2, 3) from rfl) 2 (by decide) q199 (Or.inl rfl) (Or.inl rfl) (by decide +kernel) rfl rfl (show 2 < 3 by decide) rfl dJ2_add_3_61 ?_
      refine f_vret hk he hA dJ2_add_3_64 (by omega) (by omega) ?_
      exact ⟨_, rfl, rfl, rfl, q, Or.inr ⟨cap, va_up (va_cpy f f i (i + 1) (li.length - i)) i (some e), by rw [insAt_len hi], hc, by rw [insAt_len hi]; omega, al_ins hf hi (by omega)⟩⟩
    · refine j_ald4 hk dJ2_add_3_32 rfl rfl ?_
      refine f_callV (Wc := [[(a, .inr (10, [.int (jI (mc + 1)), .ref q, .int (jI ((li.length : Nat) : Int))])), (q, .inl (E.2.2 4, cap, .inr (.inr (.inr (.inr f)))))]]) (Wr := []) hE hk hl0 (fIn.at 0 0 rfl rfl) (show vwCl[10]? = some (RJ2, TJ2, 3) from rfl) (fc_J2_grow hls hE hN (z := z) hzc (a := a) (mc := mc + 1) (li := li) (Or.inr ⟨q, f, by rw [show cap = li.length by omega], by unfold capOK at hc; omega, fun i hi => hf i (by omega)⟩) (hel)) (fun _ h => Or.inl h) 0 (lw_V q726 q728 qs2 q120 q729) (by decide +kernel) rfl (by decide) (by omega) rfl (Nat.le_of_ble_eq_true rfl) dJ2_add_3_33 ?_
      refine Or.inl ⟨rfl, ?_⟩
      rintro _ _ _ ⟨q26, cap26, f26, rfl, rfl, rfl, hp6_0, hp6_1, hp6_2⟩ -
      refine f_W (W2 := [[(a, .inr (10, [.int (jI (mc + 1)), .ref q26, .int (jI ((li.length : Nat) : Int))])), (q26, .inl (E.2.2 4, cap26, .inr (.inr (.inr (.inr f26)))))]]) rfl ?_
      have hcap := (hp6_0).le
      have hf2 := hp6_2
      refine j_ast4 hk dJ2_add_3_36 rfl ?_
      refine j_ald hk dJ2_add_3_38 rfl ?_
      refine j_ild4 hk dJ2_add_3_40 rfl rfl ?_
      refine j_ald hk dJ2_add_3_41 rfl ?_
      refine j_ild4 hk dJ2_add_3_43 rfl rfl ?_
      refine j_iconst (n := 1) hk dJ2_add_3_44 ?_
      refine j_iadd hk dJ2_add_3_45 ?_
      refine j_ild4 hk dJ2_add_3_46 rfl rfl ?_
      refine j_ild4 hk dJ2_add_3_47 rfl rfl ?_
      refine j_isub hk dJ2_add_3_48 ?_
      refine j_top (z2 := ((li.length - i : Nat) : Int)) (by omega) ?_
      refine f_copyq (n0 := cap26) (n1 := cap26) (f := f26) (g := f26) (W2 := [[(a, .inr (10, [.int (jI (mc + 1)), .ref q26, .int (jI ((li.length : Nat) : Int))])), (q26, .inl (E.2.2 4, cap26, .inr (.inr (.inr (.inr (va_cpy f26 f26 i (i + 1) (li.length - i)))))))]]) hE hk q1184 q507 q506 q138 (fIn.at 0 1 rfl rfl) 0 1 rfl rfl (i) (i + 1) (li.length - i) (by omega) (by omega) (by omega) (by omega) (by omega) (by omega) (by omega) (fun j hj y hy => hel y (List.mem_of_getElem? (by first | (rw [← hf2 (i + j) (by omega)]; exact hy) | (rw [← hf (i + j) (by omega)]; exact hy)))) ⟨by decide, Nat.le_of_ble_eq_true rfl⟩ rfl dJ2_add_3_49 ?_
      refine j_ald hk dJ2_add_3_52 rfl ?_
      refine j_ild4 hk dJ2_add_3_54 rfl rfl ?_
      refine j_ald4 hk dJ2_add_3_55 rfl rfl ?_
      refine f_aast (n := cap26) (t := 4) (f := va_cpy f26 f26 i (i + 1) (li.length - i)) (W2 := [[(a, .inr (10, [.int (jI (mc + 1)), .ref q26, .int (jI ((li.length : Nat) : Int))])), (q26, .inl (E.2.2 4, cap26, .inr (.inr (.inr (.inr (va_up (va_cpy f26 f26 i (i + 1) (li.length - i)) i (some e)))))))]]) hE hk rfl 0 1 rfl rfl (.inl he1_e) he2_e (Or.inr he3_e) (i) (by omega) (by omega) (by omega) rfl dJ2_add_3_56 ?_
      refine j_ald4 hk dJ2_add_3_57 rfl rfl ?_
      refine j_ild4 hk dJ2_add_3_58 rfl rfl ?_
      refine j_iconst (n := 1) hk dJ2_add_3_59 ?_
      refine j_iadd hk dJ2_add_3_60 ?_
      refine j_top (z2 := ((li.length + 1 : Nat) : Int)) (by omega) ?_
      refine f_put (fs := [.int (jI (mc + 1)), .ref q26, .int (jI ((li.length : Nat) : Int))]) (ty := .int) (W2 := [[(a, .inr (10, [.int (jI (mc + 1)), .ref q26, .int (jI ((li.length + 1 : Nat) : Int))])), (q26, .inl (E.2.2 4, cap26, .inr (.inr (.inr (.inr (va_up (va_cpy f26 f26 i (i + 1) (li.length - i)) i (some e)))))))]]) hE hk in_J2 tyJ2_ok nmJ2 0 0 rfl rfl (show vwCl[10]? = some (RJ2, TJ2, 3) from rfl) 2 (by decide) q199 (Or.inl rfl) (Or.inl rfl) (by decide +kernel) rfl rfl (show 2 < 3 by decide) rfl dJ2_add_3_61 ?_
      refine f_vret hk he hA dJ2_add_3_64 (by omega) (by omega) ?_
      exact ⟨_, rfl, rfl, rfl, q26, Or.inr ⟨cap26, va_up (va_cpy f26 f26 i (i + 1) (li.length - i)) i (some e), by rw [insAt_len hi], hp6_0, by rw [insAt_len hi]; omega, al_ins hp6_2 hi hp6_1⟩⟩
set_option maxHeartbeats 1500000 in
/-- J37 equals(Ljava/lang/Object;)Z -/
theorem fc_J37_equals {l : Launch} {E : jE} (hls : l.stackTraces = false) (hE : jSt E) (hN : jCn E) {z : jZ} (hzc : zLe (zS E) z) {a : Nat} {b : Nat}  : fC l E yJ37_equals cJ37_equals 2 (some .boolean) 1 12 (0) (0) [.ref a, .ref b] z [] (fun rr z2 W2 => rr = some (.int (jI (jB (decide (a = b))))) ∧ W2 = [] ∧ z = z2) := by
  refine f_startF (own := "java/lang/Object") (vs := [some (.ref a), some (.ref b)]) hls (by decide +kernel) rfl rfl rfl (Nat.le_of_ble_eq_true rfl) ?_
  intro K H0 hk he hl0 hI hA
  refine j_ald4 hk dJ37_equals_0 rfl rfl ?_
  refine j_ald4 hk dJ37_equals_1 rfl rfl ?_
  refine j_acmp_ne (tgt := 9) hk dJ37_equals_2 rfl (fun h2 => ?_) (fun h2 => ?_)
  · refine j_iconst (n := 0) hk dJ37_equals_9 ?_
    refine f_iret hk he hA rfl dJ37_equals_10 (by omega) (by omega) ?_
    exact ⟨congrArg (fun z => some (Value.int (jI z))) (by rw [show decide (a = b) = false from decide_eq_false (by assumption)]; rfl), rfl, rfl⟩
  · refine j_iconst (n := 1) hk dJ37_equals_5 ?_
    refine j_goto (tgt := 10) hk dJ37_equals_6 rfl ?_
    refine f_iret hk he hA rfl dJ37_equals_10 (by omega) (by omega) ?_
    exact ⟨congrArg (fun z => some (Value.int (jI z))) (by rw [show decide (a = b) = true from decide_eq_true (by assumption)]; rfl), rfl, rfl⟩
set_option maxHeartbeats 1500000 in
/-- J2 fastRemove([Ljava/lang/Object;I)V -/
theorem fc_J2_fastRemove {l : Launch} {E : jE} (hls : l.stackTraces = false) (hE : jSt E) (hN : jCn E) {z : jZ} (hzc : zLe (zS E) z) {a : Nat} {q : Nat} {i : Nat} {li : List Nat} {mc : Int} {w0 : va_W} (h : alQ E a mc li q w0) (hel : elZ z li) (hi : i < li.length) : fC l E yJ2_fastRemove cJ2_fastRemove 4 (none) 1 60 (0) (0) [.ref a, .ref q, .int (jI ((i : Nat) : Int))] z [w0] (fun rr z2 W2 => ∃ w1 : va_W, rr = none ∧ W2 = [w1] ∧ z = z2 ∧ alW E a (mc + 1) (li.eraseIdx i) w1) := by
  refine f_start (own := "java/util/ArrayList") (vs := [some (.ref a), some (.ref q), some (.int (jI ((i : Nat) : Int))), none]) hls (by decide +kernel) rfl rfl rfl (Nat.le_of_ble_eq_true rfl) ?_
  intro K H0 hk he hl0 hI hA
  obtain ⟨cap, f, rfl, hc, hl, hf⟩ := h.ne (by omega)
  have hcb := hc.le
  refine j_ald4 hk dJ2_fastRemove_0 rfl rfl ?_
  refine j_dup hk rfl dJ2_fastRemove_1 ?_
  refine f_get hE hk in_J2 (fIn.at 0 0 rfl rfl) (show vwCl[10]? = some (RJ2, TJ2, 3) from rfl) 0 (by decide) q203 (Or.inr q202) rfl dJ2_fastRemove_2 ?_
  refine j_iconst (n := 1) hk dJ2_fastRemove_5 ?_
  refine j_iadd hk dJ2_fastRemove_6 ?_
  refine f_put (fs := [.int (jI mc), .ref q, .int (jI ((li.length : Nat) : Int))]) (ty := .int) (W2 := [[(a, .inr (10, [.int (jI (mc + 1)), .ref q, .int (jI ((li.length : Nat) : Int))])), (q, .inl (E.2.2 4, cap, .inr (.inr (.inr (.inr f)))))]]) hE hk in_J2 tyJ2_ok nmJ2 0 0 rfl rfl (show vwCl[10]? = some (RJ2, TJ2, 3) from rfl) 0 (by decide) q203 (Or.inr q202) (Or.inl rfl) (by decide +kernel) rfl rfl (show 0 < 3 by decide) rfl dJ2_fastRemove_7 ?_
  refine j_ald4 hk dJ2_fastRemove_10 rfl rfl ?_
  refine f_get hE hk in_J2 (fIn.at 0 0 rfl rfl) (show vwCl[10]? = some (RJ2, TJ2, 3) from rfl) 2 (by decide) q199 (Or.inl rfl) rfl dJ2_fastRemove_11 ?_
  refine j_iconst (n := 1) hk dJ2_fastRemove_14 ?_
  refine j_isub hk dJ2_fastRemove_15 ?_
  refine j_top (z2 := ((li.length - 1 : Nat) : Int)) (by omega) ?_
  refine j_dup hk rfl dJ2_fastRemove_16 ?_
  refine j_ist3 hk dJ2_fastRemove_17 rfl ?_
  refine j_ild4 hk dJ2_fastRemove_18 rfl rfl ?_
  refine j_icmp_le hk (by omega) (by omega) dJ2_fastRemove_19 rfl (tgt := 34) (fun h19 => ?_) (fun h19 => ?_)
  · refine j_ald4 hk dJ2_fastRemove_34 rfl rfl ?_
    refine j_ald4 hk dJ2_fastRemove_35 rfl rfl ?_
    refine j_ild4 hk dJ2_fastRemove_36 rfl rfl ?_
    refine j_dup_x1 hk rfl rfl dJ2_fastRemove_37 ?_
    refine f_put (fs := [.int (jI (mc + 1)), .ref q, .int (jI ((li.length : Nat) : Int))]) (ty := .int) (W2 := [[(a, .inr (10, [.int (jI (mc + 1)), .ref q, .int (jI ((li.length - 1 : Nat) : Int))])), (q, .inl (E.2.2 4, cap, .inr (.inr (.inr (.inr f)))))]]) hE hk in_J2 tyJ2_ok nmJ2 0 0 rfl rfl (show vwCl[10]? = some (RJ2, TJ2, 3) from rfl) 2 (by decide) q199 (Or.inl rfl) (Or.inl rfl) (by decide +kernel) rfl rfl (show 2 < 3 by decide) rfl dJ2_fastRemove_38 ?_
    refine j_null hk dJ2_fastRemove_41 ?_
    refine f_aastN (n := cap) (t := 4) (f := f) (W2 := [[(a, .inr (10, [.int (jI (mc + 1)), .ref q, .int (jI ((li.length - 1 : Nat) : Int))])), (q, .inl (E.2.2 4, cap, .inr (.inr (.inr (.inr (va_up f (li.length - 1) none))))))]]) hE hk rfl 0 1 rfl rfl (li.length - 1) (by omega) (by omega) (by omega) rfl dJ2_fastRemove_42 ?_
    refine f_vret hk he hA dJ2_fastRemove_43 (by omega) (by omega) ?_
    exact ⟨_, rfl, rfl, rfl, q, Or.inr ⟨cap, va_up f (li.length - 1) none, by rw [List.length_eraseIdx_of_lt hi], hc, by rw [List.length_eraseIdx_of_lt hi]; omega, al_rem hf hi hl (fun k hk => by rw [if_pos (show k < i by omega)]) (fun k _ _ => rfl)⟩⟩
  · refine j_ald4 hk dJ2_fastRemove_22 rfl rfl ?_
    refine j_ild4 hk dJ2_fastRemove_23 rfl rfl ?_
    refine j_iconst (n := 1) hk dJ2_fastRemove_24 ?_
    refine j_iadd hk dJ2_fastRemove_25 ?_
    refine j_ald4 hk dJ2_fastRemove_26 rfl rfl ?_
    refine j_ild4 hk dJ2_fastRemove_27 rfl rfl ?_
    refine j_ild4 hk dJ2_fastRemove_28 rfl rfl ?_
    refine j_ild4 hk dJ2_fastRemove_29 rfl rfl ?_
    refine j_isub hk dJ2_fastRemove_30 ?_
    refine j_top (z2 := ((li.length - 1 - i : Nat) : Int)) (by omega) ?_
    refine f_copyq (n0 := cap) (n1 := cap) (f := f) (g := f) (W2 := [[(a, .inr (10, [.int (jI (mc + 1)), .ref q, .int (jI ((li.length : Nat) : Int))])), (q, .inl (E.2.2 4, cap, .inr (.inr (.inr (.inr (va_cpy f f (i + 1) i (li.length - 1 - i)))))))]]) hE hk q1184 q507 q506 q138 (fIn.at 0 1 rfl rfl) 0 1 rfl rfl (i + 1) (i) (li.length - 1 - i) (by omega) (by omega) (by omega) (by omega) (by omega) (by omega) (by omega) (fun j hj y hy => hel y (List.mem_of_getElem? (by rw [← hf (i + 1 + j) (by omega)]; exact hy))) ⟨by decide, Nat.le_of_ble_eq_true rfl⟩ rfl dJ2_fastRemove_31 ?_
    refine j_ald4 hk dJ2_fastRemove_34 rfl rfl ?_
    refine j_ald4 hk dJ2_fastRemove_35 rfl rfl ?_
    refine j_ild4 hk dJ2_fastRemove_36 rfl rfl ?_
    refine j_dup_x1 hk rfl rfl dJ2_fastRemove_37 ?_
    refine f_put (fs := [.int (jI (mc + 1)), .ref q, .int (jI ((li.length : Nat) : Int))]) (ty := .int) (W2 := [[(a, .inr (10, [.int (jI (mc + 1)), .ref q, .int (jI ((li.length - 1 : Nat) : Int))])), (q, .inl (E.2.2 4, cap, .inr (.inr (.inr (.inr (va_cpy f f (i + 1) i (li.length - 1 - i)))))))]]) hE hk in_J2 tyJ2_ok nmJ2 0 0 rfl rfl (show vwCl[10]? = some (RJ2, TJ2, 3) from rfl) 2 (by decide) q199 (Or.inl rfl) (Or.inl rfl) (by decide +kernel) rfl rfl (show 2 < 3 by decide) rfl dJ2_fastRemove_38 ?_
    refine j_null hk dJ2_fastRemove_41 ?_
    refine f_aastN (n := cap) (t := 4) (f := va_cpy f f (i + 1) i (li.length - 1 - i)) (W2 := [[(a, .inr (10, [.int (jI (mc + 1)), .ref q, .int (jI ((li.length - 1 : Nat) : Int))])), (q, .inl (E.2.2 4, cap, .inr (.inr (.inr (.inr (va_up (va_cpy f f (i + 1) i (li.length - 1 - i)) (li.length - 1) none))))))]]) hE hk rfl 0 1 rfl rfl (li.length - 1) (by omega) (by omega) (by omega) rfl dJ2_fastRemove_42 ?_
    refine f_vret hk he hA dJ2_fastRemove_43 (by omega) (by omega) ?_
    exact ⟨_, rfl, rfl, rfl, q, Or.inr ⟨cap, va_up (va_cpy f f (i + 1) i (li.length - 1 - i)) (li.length - 1) none, by rw [List.length_eraseIdx_of_lt hi], hc, by rw [List.length_eraseIdx_of_lt hi]; omega, al_rem hf hi hl (fun k hk => by
      unfold va_cpy
      by_cases h9 : k < i
      · rw [if_neg (by omega), if_pos h9]
      · rw [if_pos ⟨by omega, by omega⟩, if_neg h9, show i + 1 + (k - i) = k + 1 by omega]) (fun k h1 h2 => by unfold va_cpy; rw [if_neg (by omega)])⟩⟩
