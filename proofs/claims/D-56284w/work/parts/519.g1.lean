/-! G, 1 -/
theorem icmp_0 (a : Int) : icmp a a = 0 := by unfold icmp; rw [if_neg (by omega), if_pos rfl]
theorem icmp_e {a b : Nat} (h : icmp ((a : Nat) : Int) ((b : Nat) : Int) = 0) : a = b := by
  unfold icmp at h
  split at h
  · cases h
  · split at h
    · omega
    · cases h
set_option maxHeartbeats 1500000 in
/-- X7 size()I -/
theorem fc_X7_size {l : Launch} {E : jE} (hls : l.stackTraces = false) (hE : jSt E) (hN : jCn E) {z : jZ} (hzc : zLe (zS E) z) {a : Nat} {ba : Nat} {ns : List Nat} (h : gnZ E z a ba ns) : fC l E yX7_size cX7_size 1 (some .int) 2 32 (0) (0) [.ref a] z [] (fun rr z2 W2 => rr = some (.int (jI ((ns.length : Nat) : Int))) ∧ W2 = [] ∧ z = z2) := by
  refine f_start (own := "ScheduleAnalyzer$Graph") (vs := [some (.ref a)]) hls (by decide +kernel) rfl rfl rfl (Nat.le_of_ble_eq_true rfl) ?_
  intro K H0 hk he hl0 hI hA
  refine j_ald4 hk dX7_size_0 rfl rfl ?_
  obtain ⟨nln1, mnn1, hgn1, hnln1, hnsn1, hn5n1, hnnn1⟩ := id h
  have hkln1 : (kIs E ns).length = ns.length := kIs_len
  refine f_get hE hk in_X7 (.inl hgn1) (show vwCl[6]? = some (RX7, TX7, 2) from rfl) 0 (by decide) q1193 (Or.inl rfl) rfl dX7_size_1 ?_
  obtain ⟨qo2, capo2, fo2, hc1o2, hc2o2, hl1o2, hl2o2, hfo2⟩ := hnln1.cell hN hzc
  refine f_callF (Wc := []) (Wr := []) hE hk hl0 (.inl hc1o2) (show vwCl[10]? = some (RJ2, TJ2, 3) from rfl) (fc_J2_size hls hE hN (z := z) hzc (a := nln1) (mc := mnn1) (li := kIs E ns) (hnln1)) (fun _ h => Or.inl h) 0 (lw_Fg q959 q896 q898 q120 q900) q895 q894 q899 q897 q222 (by decide +kernel) rfl (by decide) (by omega) rfl (Nat.le_of_ble_eq_true rfl) dX7_size_4 ?_
  refine Or.inl ⟨rfl, ?_⟩
  rintro _ _ _ ⟨rfl, rfl, rfl⟩ -
  refine f_W (W2 := []) rfl ?_
  refine f_iret hk he hA rfl dX7_size_9 (by omega) (by omega) ?_
  exact ⟨congrArg (fun z => some (Value.int (jI z))) (by rw [kIs_len]), rfl, rfl⟩
set_option maxHeartbeats 1500000 in
/-- X7 all()I -/
theorem fc_X7_all {l : Launch} {E : jE} (hls : l.stackTraces = false) (hE : jSt E) (hN : jCn E) {z : jZ} (hzc : zLe (zS E) z) {a : Nat} {ba : Nat} {ns : List Nat} (h : gnZ E z a ba ns) : fC l E yX7_all cX7_all 1 (some .int) 3 52 (0) (0) [.ref a] z [] (fun rr z2 W2 => rr = some (.int (jI ((2 ^ ns.length - 1 : Nat) : Int))) ∧ W2 = [] ∧ z = z2) := by
  refine f_start (own := "ScheduleAnalyzer$Graph") (vs := [some (.ref a)]) hls (by decide +kernel) rfl rfl rfl (Nat.le_of_ble_eq_true rfl) ?_
  intro K H0 hk he hl0 hI hA
  obtain ⟨-, -, -, -, -, h5, -⟩ := id h
  refine j_iconst (n := 1) hk dX7_all_0 ?_
  refine j_ald4 hk dX7_all_1 rfl rfl ?_
  obtain ⟨nln1, mnn1, hgn1, hnln1, hnsn1, hn5n1, hnnn1⟩ := id h
  have hkln1 : (kIs E ns).length = ns.length := kIs_len
  refine f_callV (Wc := []) (Wr := []) hE hk hl0 (.inl hgn1) (show vwCl[6]? = some (RX7, TX7, 2) from rfl) (fc_X7_size hls hE hN (z := z) hzc (a := a) (ba := ba) (ns := ns) (h)) (fun _ h => Or.inl h) 0 (lw_V q1218 q1219 q1220 q151 q1221) (by decide +kernel) rfl (by decide) (by omega) rfl (Nat.le_of_ble_eq_true rfl) dX7_all_2 ?_
  refine Or.inl ⟨rfl, ?_⟩
  rintro _ _ _ ⟨rfl, rfl, rfl⟩ -
  refine f_W (W2 := []) rfl ?_
  refine j_ishl (a := 1) (b := ns.length) hk (by omega) dX7_all_5 ?_
  refine j_iconst (n := 1) hk dX7_all_6 ?_
  refine j_isub hk dX7_all_7 ?_
  refine f_iret hk he hA rfl dX7_all_8 (by omega) (by omega) ?_
  exact ⟨congrArg (fun z => some (Value.int (jI z))) (by (have := Nat.one_le_two_pow (n := ns.length)); omega), rfl, rfl⟩
set_option maxHeartbeats 1500000 in
/-- X7 indexOf(Ljava/lang/Comparable;)I -/
theorem fc_X7_indexOf {l : Launch} {E : jE} (hls : l.stackTraces = false) (hE : jSt E) (hN : jCn E) {z : jZ} (hzc : zLe (zS E) z) {a : Nat} {ba : Nat} {ns : List Nat} {t : Nat} (h : gnZ E z a ba ns) (ht : t < 128) : fC l E yX7_indexOf cX7_indexOf 3 (some .int) 4 76 (0) (0) [.ref a, .ref (kInt E (128 + t))] z [] (fun rr z2 W2 => rr = some (.int (jI (ixG ns t))) ∧ W2 = [] ∧ z = z2) := by
  refine f_start (own := "ScheduleAnalyzer$Graph") (vs := [some (.ref a), some (.ref (kInt E (128 + t))), none]) hls (by decide +kernel) rfl rfl rfl (Nat.le_of_ble_eq_true rfl) ?_
  intro K H0 hk he hl0 hI hA
  have hkt := hN.int hzc ht
  obtain ⟨-, -, -, -, -, h5, -⟩ := id h
  refine j_iconst (n := 0) hk dX7_indexOf_0 ?_
  refine j_ist2 hk dX7_indexOf_1 rfl ?_
  have loop2 : ∀ (fuel2 : Nat) (i : Nat), ns.length - i < fuel2 → i ≤ ns.length → i ≤ ns.idxOf t → jW K (fO K E z z []) (0) (0) 2 [some (.ref a), some (.ref (kInt E (128 + t))), some (.int (jI ((i : Nat) : Int)))] [] := by
    intro fuel2
    induction fuel2 with
    | zero => intro i hm; exact absurd hm (Nat.not_lt_zero _)
    | succ fuel2 ih2 =>
      intro i hm2 hin hix
      refine j_ild4 hk dX7_indexOf_2 rfl rfl ?_
      refine j_ald4 hk dX7_indexOf_3 rfl rfl ?_
      obtain ⟨nln1, mnn1, hgn1, hnln1, hnsn1, hn5n1, hnnn1⟩ := id h
      have hkln1 : (kIs E ns).length = ns.length := kIs_len
      refine f_callV (Wc := []) (Wr := []) hE hk hl0 (.inl hgn1) (show vwCl[6]? = some (RX7, TX7, 2) from rfl) (fc_X7_size hls hE hN (z := z) hzc (a := a) (ba := ba) (ns := ns) (h)) (fun _ h => Or.inl h) 0 (lw_V q1218 q1219 q1220 q151 q1221) (by decide +kernel) rfl (by decide) (by omega) rfl (Nat.le_of_ble_eq_true rfl) dX7_indexOf_4 ?_
      refine Or.inl ⟨rfl, ?_⟩
      rintro _ _ _ ⟨rfl, rfl, rfl⟩ -
      refine f_W (W2 := []) rfl ?_
      refine j_icmp_ge hk (by omega) (by omega) dX7_indexOf_7 rfl (tgt := 38) (fun h7 => ?_) (fun h7 => ?_)
      · refine j_ild4 hk dX7_indexOf_38 rfl rfl ?_
        refine j_ald4 hk dX7_indexOf_39 rfl rfl ?_
        refine f_callV (Wc := []) (Wr := []) hE hk hl0 (.inl hgn1) (show vwCl[6]? = some (RX7, TX7, 2) from rfl) (fc_X7_size hls hE hN (z := z) hzc (a := a) (ba := ba) (ns := ns) (h)) (fun _ h => Or.inl h) 0 (lw_V q1218 q1219 q1220 q151 q1221) (by decide +kernel) rfl (by decide) (by omega) rfl (Nat.le_of_ble_eq_true rfl) dX7_indexOf_40 ?_
        refine Or.inl ⟨rfl, ?_⟩
        rintro _ _ _ ⟨rfl, rfl, rfl⟩ -
        refine f_W (W2 := []) rfl ?_
        refine j_icmp_ge hk (by omega) (by omega) dX7_indexOf_43 rfl (tgt := 50) (fun h43 => ?_) (fun h43 => ?_)
        · refine j_iconst (n := -1) hk dX7_indexOf_50 ?_
          refine f_iret hk he hA rfl dX7_indexOf_51 (by omega) (by omega) ?_
          exact ⟨congrArg (fun z => some (Value.int (jI z))) (by unfold ixG; first | (exfalso; omega) | (rw [if_neg (by omega)]) | (rw [if_pos (show ns.idxOf t < ns.length by have := ix_le (show i < ns.length by omega) (icmp_e h29); omega)]; have := ix_le (show i < ns.length by omega) (icmp_e h29); omega)), rfl, rfl⟩
        · refine j_ild4 hk dX7_indexOf_46 rfl rfl ?_
          refine j_goto (tgt := 51) hk dX7_indexOf_47 rfl ?_
          refine f_iret hk he hA rfl dX7_indexOf_51 (by omega) (by omega) ?_
          exact ⟨congrArg (fun z => some (Value.int (jI z))) (by unfold ixG; first | (exfalso; omega) | (rw [if_neg (by omega)]) | (rw [if_pos (show ns.idxOf t < ns.length by have := ix_le (show i < ns.length by omega) (icmp_e h29); omega)]; have := ix_le (show i < ns.length by omega) (icmp_e h29); omega)), rfl, rfl⟩
      · refine j_ald4 hk dX7_indexOf_10 rfl rfl ?_
        refine f_get hE hk in_X7 (.inl hgn1) (show vwCl[6]? = some (RX7, TX7, 2) from rfl) 0 (by decide) q1193 (Or.inl rfl) rfl dX7_indexOf_11 ?_
        refine j_ild4 hk dX7_indexOf_14 rfl rfl ?_
        have hko := kIs_at (E := E) (l := ns) (show i < ns.length by omega)
        have htk : ns.getD i 0 < 128 := hnsn1 _ (by rw [List.getD_eq_getElem?_getD, List.getElem?_eq_getElem (show i < ns.length by omega)]; exact List.getElem_mem _)
        have hki := hN.int hzc htk
        obtain ⟨qo4, capo4, fo4, hc1o4, hc2o4, hl1o4, hl2o4, hfo4⟩ := hnln1.cell hN hzc
        refine f_callF (Wc := []) (Wr := []) hE hk hl0 (.inl hc1o4) (show vwCl[10]? = some (RJ2, TJ2, 3) from rfl) (fc_J2_get hls hE hN (z := z) hzc (a := nln1) (i := i) (mc := mnn1) (li := kIs E ns) (b := kInt E (128 + ns.getD i 0)) (hnln1) (hko)) (fun _ h => Or.inl h) 1 (lw_Fg q961 q393 q395 q120 q397) q392 q391 q396 q394 q222 (by decide +kernel) rfl (by decide) (by omega) rfl (Nat.le_of_ble_eq_true rfl) dX7_indexOf_15 ?_
        refine Or.inl ⟨rfl, ?_⟩
        rintro _ _ _ ⟨rfl, rfl, rfl⟩ -
        refine f_W (W2 := []) rfl ?_
        refine f_castY hE hk (.inl hki) (show vwCl[17]? = some (RJ22, TJ22, 1) from rfl) q957 q966 dX7_indexOf_20 ?_
        refine j_ald4 hk dX7_indexOf_23 rfl rfl ?_
        refine f_callF (Wc := []) (Wr := []) hE hk hl0 (.inl hki) (show vwCl[17]? = some (RJ22, TJ22, 1) from rfl) (fc_J22_compareTo hls hE hN (z := z) hzc (a := (kInt E (128 + ns.getD i 0))) (b := kInt E (128 + t)) (va := ((ns.getD i 0 : Nat) : Int)) (vb := ((t : Nat) : Int)) (hki) (hkt) (⟨⟨by omega, by omega⟩, by omega, by omega⟩)) (fun _ h => Or.inl h) 1 (lw_Fg q963 q967 q969 q141 q971) q965 q964 q970 q968 q966 (by decide +kernel) rfl (by decide) (by omega) rfl (Nat.le_of_ble_eq_true rfl) dX7_indexOf_24 ?_
        refine Or.inl ⟨rfl, ?_⟩
        rintro _ _ _ ⟨rfl, rfl, rfl⟩ -
        refine f_W (W2 := []) rfl ?_
        have hcr := icmp_r ((ns.getD i 0 : Nat) : Int) ((t : Nat) : Int)
        refine j_if_eq hk (by omega) dX7_indexOf_29 rfl (tgt := 38) (fun h29 => ?_) (fun h29 => ?_)
        · refine j_ild4 hk dX7_indexOf_38 rfl rfl ?_
          refine j_ald4 hk dX7_indexOf_39 rfl rfl ?_
          refine f_callV (Wc := []) (Wr := []) hE hk hl0 (.inl hgn1) (show vwCl[6]? = some (RX7, TX7, 2) from rfl) (fc_X7_size hls hE hN (z := z) hzc (a := a) (ba := ba) (ns := ns) (h)) (fun _ h => Or.inl h) 0 (lw_V q1218 q1219 q1220 q151 q1221) (by decide +kernel) rfl (by decide) (by omega) rfl (Nat.le_of_ble_eq_true rfl) dX7_indexOf_40 ?_
          refine Or.inl ⟨rfl, ?_⟩
          rintro _ _ _ ⟨rfl, rfl, rfl⟩ -
          refine f_W (W2 := []) rfl ?_
          refine j_icmp_ge hk (by omega) (by omega) dX7_indexOf_43 rfl (tgt := 50) (fun h43 => ?_) (fun h43 => ?_)
          · refine j_iconst (n := -1) hk dX7_indexOf_50 ?_
            refine f_iret hk he hA rfl dX7_indexOf_51 (by omega) (by omega) ?_
            exact ⟨congrArg (fun z => some (Value.int (jI z))) (by unfold ixG; first | (exfalso; omega) | (rw [if_neg (by omega)]) | (rw [if_pos (show ns.idxOf t < ns.length by have := ix_le (show i < ns.length by omega) (icmp_e h29); omega)]; have := ix_le (show i < ns.length by omega) (icmp_e h29); omega)), rfl, rfl⟩
          · refine j_ild4 hk dX7_indexOf_46 rfl rfl ?_
            refine j_goto (tgt := 51) hk dX7_indexOf_47 rfl ?_
            refine f_iret hk he hA rfl dX7_indexOf_51 (by omega) (by omega) ?_
            exact ⟨congrArg (fun z => some (Value.int (jI z))) (by unfold ixG; first | (exfalso; omega) | (rw [if_neg (by omega)]) | (rw [if_pos (show ns.idxOf t < ns.length by have := ix_le (show i < ns.length by omega) (icmp_e h29); omega)]; have := ix_le (show i < ns.length by omega) (icmp_e h29); omega)), rfl, rfl⟩
        · refine j_iinc2 hk dX7_indexOf_32 rfl ?_
          refine j_goto (tgt := 2) hk dX7_indexOf_35 rfl ?_
          exact ih2 (i + 1) (by omega) (by omega) (ix_S (by omega) hix (fun e => by rw [e] at h29; exact h29 (icmp_0 _)))
  exact loop2 _ 0 (Nat.lt_succ_self _) (Nat.zero_le _) (Nat.zero_le _)
set_option maxHeartbeats 1500000 in
/-- X7 connect(Ljava/lang/Comparable;Ljava/lang/Comparable;)V -/
theorem fc_X7_connect {l : Launch} {E : jE} (hls : l.stackTraces = false) (hE : jSt E) (hN : jCn E) {z : jZ} (hzc : zLe (zS E) z) {a : Nat} {ba : Nat} {ns : List Nat} {t : Nat} {u : Nat} {b : Nat → Nat} (h : gnZ E z a ba ns) (ht : t ∈ ns) (hu : u ∈ ns) : fC l E yX7_connect cX7_connect 3 (none) 5 98 (0) (0) [.ref a, .ref (kInt E (128 + t)), .ref (kInt E (128 + u))] z [[(ba, .inl (E.2.2 0, 5, .inl (fun j => jI ((fun j => ((b j : Nat) : Int)) j))))]] (fun rr z2 W2 => rr = none ∧ W2 = [[(ba, .inl (E.2.2 0, 5, .inl (fun j => jI ((fun j => ((nup b (ns.idxOf u) (b (ns.idxOf u) ||| 2 ^ ns.idxOf t) j : Nat) : Int)) j))))]] ∧ z = z2) := by
  refine f_start (own := "ScheduleAnalyzer$Graph") (vs := [some (.ref a), some (.ref (kInt E (128 + t))), some (.ref (kInt E (128 + u)))]) hls (by decide +kernel) rfl rfl rfl (Nat.le_of_ble_eq_true rfl) ?_
  intro K H0 hk he hl0 hI hA
  obtain ⟨-, -, -, -, h128, h5, -⟩ := id h
  have ht8 := h128 _ ht
  have hu8 := h128 _ hu
  have hit := ixG_in ht
  have hiu := ixG_in hu
  refine j_ald4 hk dX7_connect_0 rfl rfl ?_
  obtain ⟨nln1, mnn1, hgn1, hnln1, hnsn1, hn5n1, hnnn1⟩ := id h
  have hkln1 : (kIs E ns).length = ns.length := kIs_len
  refine f_get hE hk in_X7 (.inl hgn1) (show vwCl[6]? = some (RX7, TX7, 2) from rfl) 1 (by decide) q1194 (Or.inl rfl) rfl dX7_connect_1 ?_
  refine j_ald4 hk dX7_connect_4 rfl rfl ?_
  refine j_ald4 hk dX7_connect_5 rfl rfl ?_
  refine f_callV (Wc := []) (Wr := [[(ba, .inl (E.2.2 0, 5, .inl (fun j => jI ((fun j => ((b j : Nat) : Int)) j))))]]) hE hk hl0 (.inl hgn1) (show vwCl[6]? = some (RX7, TX7, 2) from rfl) (fc_X7_indexOf hls hE hN (z := z) hzc (a := a) (t := u) (ba := ba) (ns := ns) (h) (by first | assumption | omega)) (fun _ h => Or.inl h) 1 (lw_V q1214 q1216 qs7 q151 q1217) (by decide +kernel) rfl (by decide) (by omega) rfl (Nat.le_of_ble_eq_true rfl) dX7_connect_6 ?_
  refine Or.inl ⟨rfl, ?_⟩
  rintro _ _ _ ⟨rfl, rfl, rfl⟩ -
  refine f_W (W2 := [[(ba, .inl (E.2.2 0, 5, .inl (fun j => jI ((fun j => ((b j : Nat) : Int)) j))))]]) rfl ?_
  have rf3 := ixG_r ns u
  refine j_top (z2 := ((ns.idxOf u : Nat) : Int)) (hiu.1) ?_
  refine j_dup2 hk rfl rfl dX7_connect_9 ?_
  refine f_iald (n := 5) (f := (fun j => ((b j : Nat) : Int))) hE hk (fIn.at 0 0 rfl rfl) (ns.idxOf u) (by omega) (by omega) (by omega) dX7_connect_10 ?_
  refine j_iconst (n := 1) hk dX7_connect_11 ?_
  refine j_ald4 hk dX7_connect_12 rfl rfl ?_
  refine j_ald4 hk dX7_connect_13 rfl rfl ?_
  refine f_callV (Wc := []) (Wr := [[(ba, .inl (E.2.2 0, 5, .inl (fun j => jI ((fun j => ((b j : Nat) : Int)) j))))]]) hE hk hl0 (.inl hgn1) (show vwCl[6]? = some (RX7, TX7, 2) from rfl) (fc_X7_indexOf hls hE hN (z := z) hzc (a := a) (t := t) (ba := ba) (ns := ns) (h) (by first | assumption | omega)) (fun _ h => Or.inl h) 1 (lw_V q1214 q1216 qs7 q151 q1217) (by decide +kernel) rfl (by decide) (by omega) rfl (Nat.le_of_ble_eq_true rfl) dX7_connect_14 ?_
  refine Or.inl ⟨rfl, ?_⟩
  rintro _ _ _ ⟨rfl, rfl, rfl⟩ -
  refine f_W (W2 := [[(ba, .inl (E.2.2 0, 5, .inl (fun j => jI ((fun j => ((b j : Nat) : Int)) j))))]]) rfl ?_
  have rf5 := ixG_r ns t
  refine j_top (z2 := ((ns.idxOf t : Nat) : Int)) (hit.1) ?_
  refine j_ishl (a := 1) (b := ns.idxOf t) hk (by omega) dX7_connect_17 ?_
  refine j_ior (a := b (ns.idxOf u)) (b := 1 * 2 ^ (ns.idxOf t)) hk dX7_connect_18 ?_
  refine f_iast (n := 5) (f := (fun j => ((b j : Nat) : Int))) (W2 := [[(ba, .inl (E.2.2 0, 5, .inl (fun j => jI ((iup (fun j => ((b j : Nat) : Int)) (ns.idxOf u) (((b (ns.idxOf u)) ||| (1 * 2 ^ (ns.idxOf t)) : Nat) : Int)) j))))]]) hE hk 0 0 rfl rfl (ns.idxOf u) (by omega) (by omega) (by omega) rfl dX7_connect_19 ?_
  refine f_W (W2 := [[(ba, .inl (E.2.2 0, 5, .inl (fun j => jI ((fun j => ((nup b (ns.idxOf u) (b (ns.idxOf u) ||| 2 ^ ns.idxOf t) j : Nat) : Int)) j))))]]) (congrArg (fun f9 => [[(ba, (Sum.inl (E.2.2 0, 5, Sum.inl f9) : va_E))]]) (funext fun j => by
    unfold iup nup
    dsimp only
    split
    · rw [Nat.one_mul]
    · rfl)) ?_
  refine f_vret hk he hA dX7_connect_20 (by omega) (by omega) ?_
  exact ⟨rfl, rfl, rfl⟩
