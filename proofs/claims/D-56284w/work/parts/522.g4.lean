/-! G, 4 -/
theorem jan32 {a b : Nat} (h : a < 32) : jandn a b < 32 := by
  unfold jandn
  have h1 : a &&& b < 2 ^ 5 := Nat.lt_of_le_of_lt Nat.and_le_left h
  exact Nat.xor_lt_two_pow (n := 5) h h1
def cnG (ns : List Nat) (b : Nat → Nat) (t u : Nat) : Bool := !decide (ixG ns t = -1) && (!decide (ixG ns u = -1) && (b (ixG ns u).toNat).testBit (ixG ns t).toNat)
def cfG (b : Nat → Nat) (i p : Nat) : Bool := !p.testBit i && decide (jandn (b i) p = 0)
set_option maxHeartbeats 1500000 in
/-- X1 isIn(II)Z -/
theorem fc_X1_isIn {l : Launch} {E : jE} (hls : l.stackTraces = false) (hE : jSt E) (hN : jCn E) {z : jZ} (hzc : zLe (zS E) z) {i : Nat} {m : Nat} (hi : i < 32) (hm : m < 2147483648) : fC l E yX1_isIn cX1_isIn 2 (some .boolean) 1 12 (0) (0) [.int (jI ((i : Nat) : Int)), .int (jI ((m : Nat) : Int))] z [] (fun rr z2 W2 => rr = some (.int (jI (jB (m.testBit i)))) ∧ W2 = [] ∧ z = z2) := by
  refine f_start (own := "ScheduleAnalyzer") (vs := [some (.int (jI ((i : Nat) : Int))), some (.int (jI ((m : Nat) : Int)))]) hls (by decide +kernel) rfl rfl rfl (Nat.le_of_ble_eq_true rfl) ?_
  intro K H0 hk he hl0 hI hA
  refine j_ild4 hk dX1_isIn_0 rfl rfl ?_
  refine j_ild4 hk dX1_isIn_1 rfl rfl ?_
  refine j_ishr (a := m) (b := i) hk (by first | omega | exact jB_r _) (by first | omega | exact jB_r _) dX1_isIn_2 ?_
  refine j_iconst (n := 1) hk dX1_isIn_3 ?_
  refine j_ibit (a := m) (b := i) hk dX1_isIn_4 ?_
  refine j_iconst (n := 1) hk dX1_isIn_5 ?_
  refine j_icmpB_ne hk dX1_isIn_6 rfl (tgt := 13) (fun h6 => ?_) (fun h6 => ?_)
  · refine j_iconst (n := 0) hk dX1_isIn_13 ?_
    refine f_iret hk he hA rfl dX1_isIn_14 (by omega) (by omega) ?_
    exact ⟨congrArg (fun z => some (Value.int (jI z))) (by (cases hq : m.testBit i <;> rw [hq] at h6 <;> first | rfl | exact absurd h6 (by decide) | exact absurd rfl h6)), rfl, rfl⟩
  · refine j_iconst (n := 1) hk dX1_isIn_9 ?_
    refine j_goto (tgt := 14) hk dX1_isIn_10 rfl ?_
    refine f_iret hk he hA rfl dX1_isIn_14 (by omega) (by omega) ?_
    exact ⟨congrArg (fun z => some (Value.int (jI z))) (by (cases hq : m.testBit i <;> rw [hq] at h6 <;> first | rfl | exact absurd h6 (by decide) | exact absurd rfl h6)), rfl, rfl⟩
set_option maxHeartbeats 1500000 in
/-- X7 isConnected(Ljava/lang/Comparable;Ljava/lang/Comparable;)Z -/
theorem fc_X7_isConnected {l : Launch} {E : jE} (hls : l.stackTraces = false) (hE : jSt E) (hN : jCn E) {z : jZ} (hzc : zLe (zS E) z) {a : Nat} {ns : List Nat} {b : Nat → Nat} {t : Nat} {u : Nat} (h : grZ E z a ns b) (ht : t < 128) (hu : u < 128) : fC l E yX7_isConnected cX7_isConnected 5 (some .boolean) 5 98 (0) (0) [.ref a, .ref (kInt E (128 + t)), .ref (kInt E (128 + u))] z [] (fun rr z2 W2 => rr = some (.int (jI (jB (cnG ns b t u)))) ∧ W2 = [] ∧ z = z2) := by
  refine f_start (own := "ScheduleAnalyzer$Graph") (vs := [some (.ref a), some (.ref (kInt E (128 + t))), some (.ref (kInt E (128 + u))), none, none]) hls (by decide +kernel) rfl rfl rfl (Nat.le_of_ble_eq_true rfl) ?_
  intro K H0 hk he hl0 hI hA
  have h9 := id h
  obtain ⟨ba, hgn, hba, h32⟩ := h9
  obtain ⟨-, -, -, -, h128, hn5, hnd⟩ := id hgn
  refine j_ald4 hk dX7_isConnected_0 rfl rfl ?_
  refine j_ald4 hk dX7_isConnected_1 rfl rfl ?_
  obtain ⟨bag1, hgng1, hbag1, hb32g1⟩ := id h
  obtain ⟨nln2, mnn2, hgn2, hnln2, hnsn2, hn5n2, hnnn2⟩ := id hgn
  have hkln2 : (kIs E ns).length = ns.length := kIs_len
  refine f_callV (Wc := []) (Wr := []) hE hk hl0 (.inl hgn2) (show vwCl[6]? = some (RX7, TX7, 2) from rfl) (fc_X7_indexOf hls hE hN (z := z) hzc (a := a) (t := t) (ba := bag1) (ns := ns) (hgng1) (ht)) (fun _ h => Or.inl h) 1 (lw_V q1214 q1216 qs7 q151 q1217) (by decide +kernel) rfl (by decide) (by omega) rfl (Nat.le_of_ble_eq_true rfl) dX7_isConnected_2 ?_
  refine Or.inl ⟨rfl, ?_⟩
  rintro _ _ _ ⟨rfl, rfl, rfl⟩ -
  refine f_W (W2 := []) rfl ?_
  have rf4 := ixG_r ns t
  refine j_ist3 hk dX7_isConnected_5 rfl ?_
  refine j_ald4 hk dX7_isConnected_6 rfl rfl ?_
  refine j_ald4 hk dX7_isConnected_7 rfl rfl ?_
  refine f_callV (Wc := []) (Wr := []) hE hk hl0 (.inl hgn2) (show vwCl[6]? = some (RX7, TX7, 2) from rfl) (fc_X7_indexOf hls hE hN (z := z) hzc (a := a) (t := u) (ba := bag1) (ns := ns) (hgng1) (hu)) (fun _ h => Or.inl h) 1 (lw_V q1214 q1216 qs7 q151 q1217) (by decide +kernel) rfl (by decide) (by omega) rfl (Nat.le_of_ble_eq_true rfl) dX7_isConnected_8 ?_
  refine Or.inl ⟨rfl, ?_⟩
  rintro _ _ _ ⟨rfl, rfl, rfl⟩ -
  refine f_W (W2 := []) rfl ?_
  have rf6 := ixG_r ns u
  refine j_ist4 hk dX7_isConnected_11 rfl ?_
  refine j_ild4 hk dX7_isConnected_13 rfl rfl ?_
  refine j_iconst (n := -1) hk dX7_isConnected_14 ?_
  refine j_icmp_eq hk (by omega) (by omega) dX7_isConnected_15 rfl (tgt := 42) (fun h15 => ?_) (fun h15 => ?_)
  · refine j_iconst (n := 0) hk dX7_isConnected_42 ?_
    refine f_iret hk he hA rfl dX7_isConnected_43 (by omega) (by omega) ?_
    exact ⟨congrArg (fun z => some (Value.int (jI z))) (by unfold cnG; first | (rw [decide_eq_true (show ixG ns t = -1 by omega)]; rfl) | (rw [decide_eq_false (show ¬ ixG ns t = -1 by omega), decide_eq_true (show ixG ns u = -1 by omega)]; rfl) | (rw [decide_eq_false (show ¬ ixG ns t = -1 by omega), decide_eq_false (show ¬ ixG ns u = -1 by omega), h35]; rfl)), rfl, rfl⟩
  · refine j_ild hk dX7_isConnected_18 rfl ?_
    refine j_iconst (n := -1) hk dX7_isConnected_20 ?_
    refine j_icmp_eq hk (by omega) (by omega) dX7_isConnected_21 rfl (tgt := 42) (fun h21 => ?_) (fun h21 => ?_)
    · refine j_iconst (n := 0) hk dX7_isConnected_42 ?_
      refine f_iret hk he hA rfl dX7_isConnected_43 (by omega) (by omega) ?_
      exact ⟨congrArg (fun z => some (Value.int (jI z))) (by unfold cnG; first | (rw [decide_eq_true (show ixG ns t = -1 by omega)]; rfl) | (rw [decide_eq_false (show ¬ ixG ns t = -1 by omega), decide_eq_true (show ixG ns u = -1 by omega)]; rfl) | (rw [decide_eq_false (show ¬ ixG ns t = -1 by omega), decide_eq_false (show ¬ ixG ns u = -1 by omega), h35]; rfl)), rfl, rfl⟩
    · refine j_ild4 hk dX7_isConnected_24 rfl rfl ?_
      refine j_top (z2 := (((ixG ns t).toNat : Nat) : Int)) (by omega) ?_
      have hb9 := h32 (ixG ns u).toNat
      refine j_ald4 hk dX7_isConnected_25 rfl rfl ?_
      refine f_get hE hk in_X7 (.inl hgn2) (show vwCl[6]? = some (RX7, TX7, 2) from rfl) 1 (by decide) q1194 (Or.inl rfl) rfl dX7_isConnected_26 ?_
      refine j_ild hk dX7_isConnected_29 rfl ?_
      refine j_top (z2 := (((ixG ns u).toNat : Nat) : Int)) (by omega) ?_
      refine f_iald (n := 5) (f := (fun j => ((b j : Nat) : Int))) hE hk (.inl hba) ((ixG ns u).toNat) (by omega) (by omega) (by omega) dX7_isConnected_31 ?_
      refine f_callSN (Wc := []) (Wr := []) hE hk hl0 (fc_X1_isIn hls hE hN (z := z) hzc (i := (ixG ns t).toNat) (m := b ((ixG ns u).toNat)) (by omega) (by omega)) (fun _ h => Or.inl h) 2 q1291 q115 q1289 q1290 (by decide +kernel) rfl (by decide) (by omega) rfl (Nat.le_of_ble_eq_true rfl) dX7_isConnected_32 ?_
      refine Or.inl ⟨rfl, ?_⟩
      rintro _ _ _ ⟨rfl, rfl, rfl⟩ -
      refine f_W (W2 := []) rfl ?_
      refine j_ifeqB hk dX7_isConnected_35 rfl (tgt := 42) (fun h35 => ?_) (fun h35 => ?_)
      · refine j_iconst (n := 0) hk dX7_isConnected_42 ?_
        refine f_iret hk he hA rfl dX7_isConnected_43 (by omega) (by omega) ?_
        exact ⟨congrArg (fun z => some (Value.int (jI z))) (by unfold cnG; first | (rw [decide_eq_true (show ixG ns t = -1 by omega)]; rfl) | (rw [decide_eq_false (show ¬ ixG ns t = -1 by omega), decide_eq_true (show ixG ns u = -1 by omega)]; rfl) | (rw [decide_eq_false (show ¬ ixG ns t = -1 by omega), decide_eq_false (show ¬ ixG ns u = -1 by omega), h35]; rfl)), rfl, rfl⟩
      · refine j_iconst (n := 1) hk dX7_isConnected_38 ?_
        refine j_goto (tgt := 43) hk dX7_isConnected_39 rfl ?_
        refine f_iret hk he hA rfl dX7_isConnected_43 (by omega) (by omega) ?_
        exact ⟨congrArg (fun z => some (Value.int (jI z))) (by unfold cnG; first | (rw [decide_eq_true (show ixG ns t = -1 by omega)]; rfl) | (rw [decide_eq_false (show ¬ ixG ns t = -1 by omega), decide_eq_true (show ixG ns u = -1 by omega)]; rfl) | (rw [decide_eq_false (show ¬ ixG ns t = -1 by omega), decide_eq_false (show ¬ ixG ns u = -1 by omega), h35]; rfl)), rfl, rfl⟩
set_option maxHeartbeats 1500000 in
/-- X7 canFollow(II)Z -/
theorem fc_X7_canFollow {l : Launch} {E : jE} (hls : l.stackTraces = false) (hE : jSt E) (hN : jCn E) {z : jZ} (hzc : zLe (zS E) z) {a : Nat} {i : Nat} {p : Nat} {ns : List Nat} {b : Nat → Nat} (h : grZ E z a ns b) (hi : i < ns.length) (hp : p < 32) : fC l E yX7_canFollow cX7_canFollow 3 (some .boolean) 2 33 (0) (0) [.ref a, .int (jI ((i : Nat) : Int)), .int (jI ((p : Nat) : Int))] z [] (fun rr z2 W2 => rr = some (.int (jI (jB (cfG b i p)))) ∧ W2 = [] ∧ z = z2) := by
  refine f_start (own := "ScheduleAnalyzer$Graph") (vs := [some (.ref a), some (.int (jI ((i : Nat) : Int))), some (.int (jI ((p : Nat) : Int)))]) hls (by decide +kernel) rfl rfl rfl (Nat.le_of_ble_eq_true rfl) ?_
  intro K H0 hk he hl0 hI hA
  have h9 := id h
  obtain ⟨ba, hgn, hba, h32⟩ := h9
  obtain ⟨-, -, -, -, h128, hn5, hnd⟩ := id hgn
  have hbi := h32 i
  refine j_ild4 hk dX7_canFollow_0 rfl rfl ?_
  refine j_ild4 hk dX7_canFollow_1 rfl rfl ?_
  refine f_callSN (Wc := []) (Wr := []) hE hk hl0 (fc_X1_isIn hls hE hN (z := z) hzc (i := i) (m := p) (by omega) (by omega)) (fun _ h => Or.inl h) 2 q1291 q115 q1289 q1290 (by decide +kernel) rfl (by decide) (by omega) rfl (Nat.le_of_ble_eq_true rfl) dX7_canFollow_2 ?_
  refine Or.inl ⟨rfl, ?_⟩
  rintro _ _ _ ⟨rfl, rfl, rfl⟩ -
  refine f_W (W2 := []) rfl ?_
  refine j_ifneB hk dX7_canFollow_5 rfl (tgt := 25) (fun h5 => ?_) (fun h5 => ?_)
  · refine j_iconst (n := 0) hk dX7_canFollow_25 ?_
    refine f_iret hk he hA rfl dX7_canFollow_26 (by omega) (by omega) ?_
    exact ⟨congrArg (fun z => some (Value.int (jI z))) (by unfold cfG; rw [h5]; first | rfl | (rw [decide_eq_true (show jandn (b i) p = 0 by omega)]; rfl) | (rw [decide_eq_false (show ¬ jandn (b i) p = 0 by omega)]; rfl)), rfl, rfl⟩
  · refine j_ald4 hk dX7_canFollow_8 rfl rfl ?_
    obtain ⟨bag2, hgng2, hbag2, hb32g2⟩ := id h
    obtain ⟨nln3, mnn3, hgn3, hnln3, hnsn3, hn5n3, hnnn3⟩ := id hgn
    have hkln3 : (kIs E ns).length = ns.length := kIs_len
    refine f_get hE hk in_X7 (.inl hgn3) (show vwCl[6]? = some (RX7, TX7, 2) from rfl) 1 (by decide) q1194 (Or.inl rfl) rfl dX7_canFollow_9 ?_
    refine j_ild4 hk dX7_canFollow_12 rfl rfl ?_
    refine f_iald (n := 5) (f := (fun j => ((b j : Nat) : Int))) hE hk (.inl hba) (i) (by omega) (by omega) (by omega) dX7_canFollow_13 ?_
    refine j_ild4 hk dX7_canFollow_14 rfl rfl ?_
    refine j_iconst (n := -1) hk dX7_canFollow_15 ?_
    refine j_inot hk dX7_canFollow_16 ?_
    refine j_iandn (a := b i) (b := p) hk dX7_canFollow_17 ?_
    have hj9 := jan32 (b := p) hbi
    refine j_if_ne hk (by omega) dX7_canFollow_18 rfl (tgt := 25) (fun h18 => ?_) (fun h18 => ?_)
    · refine j_iconst (n := 0) hk dX7_canFollow_25 ?_
      refine f_iret hk he hA rfl dX7_canFollow_26 (by omega) (by omega) ?_
      exact ⟨congrArg (fun z => some (Value.int (jI z))) (by unfold cfG; rw [h5]; first | rfl | (rw [decide_eq_true (show jandn (b i) p = 0 by omega)]; rfl) | (rw [decide_eq_false (show ¬ jandn (b i) p = 0 by omega)]; rfl)), rfl, rfl⟩
    · refine j_iconst (n := 1) hk dX7_canFollow_21 ?_
      refine j_goto (tgt := 26) hk dX7_canFollow_22 rfl ?_
      refine f_iret hk he hA rfl dX7_canFollow_26 (by omega) (by omega) ?_
      exact ⟨congrArg (fun z => some (Value.int (jI z))) (by unfold cfG; rw [h5]; first | rfl | (rw [decide_eq_true (show jandn (b i) p = 0 by omega)]; rfl) | (rw [decide_eq_false (show ¬ jandn (b i) p = 0 by omega)]; rfl)), rfl, rfl⟩
