/-! G, 9 -/
def gicI (b : Nat → Nat) (n : Nat) : Nat → Option Nat
  | 0 => none
  | k + 1 => if (abG b n k).testBit k then some k else gicI b n k
def gicV (E : jE) (ns : List Nat) (b : Nat → Nat) (k : Nat) : Option Nat := (gicI b ns.length k).map (fun i => kInt E (128 + ns.getD i 0))
theorem gicV_t {E : jE} {ns : List Nat} {b : Nat → Nat} {k : Nat} (h : (abG b ns.length k).testBit k = true) : gicV E ns b (k + 1) = some (kInt E (128 + ns.getD k 0)) := by
  unfold gicV gicI
  rw [if_pos h]
  rfl
theorem gicV_f {E : jE} {ns : List Nat} {b : Nat → Nat} {k : Nat} (h : (abG b ns.length k).testBit k = false) : gicV E ns b (k + 1) = gicV E ns b k := by
  unfold gicV
  conv => lhs; unfold gicI
  rw [if_neg (by rw [h]; decide)]
theorem abG_lt {b : Nat → Nat} (hb : ∀ j, b j < 32) {n i : Nat} : abG b n i < 32 := by
  unfold abG
  have : ∀ f r w, r < 32 → abF b n f r w < 32 := by
    intro f
    induction f with
    | zero => exact fun r w h => h
    | succ f ih =>
      intro r w h
      unfold abF
      split
      · exact h
      · exact ih _ _ (abP_lt hb h n)
  exact this _ _ _ (hb i)
set_option maxHeartbeats 1500000 in
/-- X7 greatestInCycle()Ljava/lang/Comparable; -/
theorem fc_X7_greatestInCycle {l : Launch} {E : jE} (hls : l.stackTraces = false) (hE : jSt E) (hN : jCn E) {z : jZ} (hzc : zLe (zS E) z) {a : Nat} {ns : List Nat} {b : Nat → Nat} (h : grZ E z a ns b) : fC l E yX7_greatestInCycle cX7_greatestInCycle 3 (some (.object "java/lang/Comparable")) 4 76 (0) (0) [.ref a] z [] (fun rr z2 W2 => rr = some (va_rf (gicV E ns b ns.length)) ∧ W2 = [] ∧ z = z2) := by
  refine f_start (own := "ScheduleAnalyzer$Graph") (vs := [some (.ref a), none, none]) hls (by decide +kernel) rfl rfl rfl (Nat.le_of_ble_eq_true rfl) ?_
  intro K H0 hk he hl0 hI hA
  have h9 := id h
  obtain ⟨ba, hgn, hba, h32⟩ := h9
  obtain ⟨-, -, -, -, h128, hn5, hnd⟩ := id hgn
  refine j_null hk dX7_greatestInCycle_0 ?_
  refine j_astN1 hk dX7_greatestInCycle_1 rfl ?_
  refine j_iconst (n := 0) hk dX7_greatestInCycle_2 ?_
  refine j_ist2 hk dX7_greatestInCycle_3 rfl ?_
  have loop4 : ∀ (fuel4 : Nat) (x : Nat), ns.length - x < fuel4 → x ≤ ns.length → jW K (fO K E z z []) (0) (0) 4 [some (.ref a), some (va_rf (gicV E ns b x)), some (.int (jI ((x : Nat) : Int)))] [] := by
    intro fuel4
    induction fuel4 with
    | zero => intro x hm; exact absurd hm (Nat.not_lt_zero _)
    | succ fuel4 ih4 =>
      intro x hm4 hxn
      refine j_ild4 hk dX7_greatestInCycle_4 rfl rfl ?_
      refine j_ald4 hk dX7_greatestInCycle_5 rfl rfl ?_
      obtain ⟨bag1, hgng1, hbag1, hb32g1⟩ := id h
      obtain ⟨nln2, mnn2, hgn2, hnln2, hnsn2, hn5n2, hnnn2⟩ := id hgn
      have hkln2 : (kIs E ns).length = ns.length := kIs_len
      refine f_callV (Wc := []) (Wr := []) hE hk hl0 (.inl hgn2) (show vwCl[6]? = some (RX7, TX7, 2) from rfl) (fc_X7_size hls hE hN (z := z) hzc (a := a) (ba := bag1) (ns := ns) (hgng1)) (fun _ h => Or.inl h) 0 (lw_V q1218 q1219 q1220 q151 q1221) (by decide +kernel) rfl (by decide) (by omega) rfl (Nat.le_of_ble_eq_true rfl) dX7_greatestInCycle_6 ?_
      refine Or.inl ⟨rfl, ?_⟩
      rintro _ _ _ ⟨rfl, rfl, rfl⟩ -
      refine f_W (W2 := []) rfl ?_
      refine j_icmp_ge hk (by omega) (by omega) dX7_greatestInCycle_9 rfl (tgt := 48) (fun h9 => ?_) (fun h9 => ?_)
      · generalize hq48 : gicV E ns b x = oq48
        rcases oq48 with _ | g9
        · refine j_ald4N hk dX7_greatestInCycle_48 rfl rfl ?_
          refine f_aret hk he hA (Or.inl ⟨_, rfl⟩) (Or.inl rfl) dX7_greatestInCycle_49 (by omega) (by omega) ?_
          exact ⟨by rw [show ns.length = x by omega, hq48]; rfl, rfl, rfl⟩
        · refine j_ald4 hk dX7_greatestInCycle_48 rfl rfl ?_
          refine f_aret hk he hA (Or.inl ⟨_, rfl⟩) (Or.inr ⟨_, rfl⟩) dX7_greatestInCycle_49 (by omega) (by omega) ?_
          exact ⟨by rw [show ns.length = x by omega, hq48]; rfl, rfl, rfl⟩
      · refine j_ild4 hk dX7_greatestInCycle_12 rfl rfl ?_
        refine j_ald4 hk dX7_greatestInCycle_13 rfl rfl ?_
        refine j_ild4 hk dX7_greatestInCycle_14 rfl rfl ?_
        refine f_callV (Wc := []) (Wr := []) hE hk hl0 (.inl hgn2) (show vwCl[6]? = some (RX7, TX7, 2) from rfl) (fc_X7_allBefore hls hE hN (z := z) hzc (a := a) (i := x) (ns := ns) (b := b) (h) (by omega)) (fun _ h => Or.inl h) 1 (lw_V q1300 q1302 qs13 q151 q1303) (by decide +kernel) rfl (by decide) (by omega) rfl (Nat.le_of_ble_eq_true rfl) dX7_greatestInCycle_15 ?_
        refine Or.inl ⟨rfl, ?_⟩
        rintro _ _ _ ⟨rfl, rfl, rfl⟩ -
        refine f_W (W2 := []) rfl ?_
        refine f_callSN (Wc := []) (Wr := []) hE hk hl0 (fc_X1_isIn hls hE hN (z := z) hzc (i := x) (m := abG b ns.length x) (by omega) (by have := abG_lt h32 (n := ns.length) (i := x); omega)) (fun _ h => Or.inl h) 2 q1291 q115 q1289 q1290 (by decide +kernel) rfl (by decide) (by omega) rfl (Nat.le_of_ble_eq_true rfl) dX7_greatestInCycle_18 ?_
        refine Or.inl ⟨rfl, ?_⟩
        rintro _ _ _ ⟨rfl, rfl, rfl⟩ -
        refine f_W (W2 := []) rfl ?_
        refine j_ifeqB hk dX7_greatestInCycle_21 rfl (tgt := 40) (fun h21 => ?_) (fun h21 => ?_)
        · generalize hq40 : gicV E ns b x = oq40
          rcases oq40 with _ | g9
          · refine j_ald4N hk dX7_greatestInCycle_40 rfl rfl ?_
            refine j_astN1 hk dX7_greatestInCycle_41 rfl ?_
            refine j_iinc2 hk dX7_greatestInCycle_42 rfl ?_
            refine j_eq (vs2 := [some (.ref a), some (va_rf (gicV E ns b (x + 1))), some (.int (jI (((x : Nat) : Int) + 1)))]) (st2 := []) (by rw [gicV_f h21, hq40]; rfl) rfl ?_
            refine j_goto (tgt := 4) hk dX7_greatestInCycle_45 rfl ?_
            exact ih4 (x + 1) (by omega) (by omega)
          · refine j_ald4 hk dX7_greatestInCycle_40 rfl rfl ?_
            refine j_ast1 hk dX7_greatestInCycle_41 rfl ?_
            refine j_iinc2 hk dX7_greatestInCycle_42 rfl ?_
            refine j_eq (vs2 := [some (.ref a), some (va_rf (gicV E ns b (x + 1))), some (.int (jI (((x : Nat) : Int) + 1)))]) (st2 := []) (by rw [gicV_f h21, hq40]; rfl) rfl ?_
            refine j_goto (tgt := 4) hk dX7_greatestInCycle_45 rfl ?_
            exact ih4 (x + 1) (by omega) (by omega)
        · refine j_ald4 hk dX7_greatestInCycle_24 rfl rfl ?_
          refine f_get hE hk in_X7 (.inl hgn2) (show vwCl[6]? = some (RX7, TX7, 2) from rfl) 0 (by decide) q1193 (Or.inl rfl) rfl dX7_greatestInCycle_25 ?_
          refine j_ild4 hk dX7_greatestInCycle_28 rfl rfl ?_
          have hko := kIs_at (E := E) (l := ns) (show x < ns.length by omega)
          have htk : ns.getD x 0 < 128 := hnsn2 _ (by rw [List.getD_eq_getElem?_getD, List.getElem?_eq_getElem (show x < ns.length by omega)]; exact List.getElem_mem _)
          have hki := hN.int hzc htk
          obtain ⟨qo6, capo6, fo6, hc1o6, hc2o6, hl1o6, hl2o6, hfo6⟩ := hnln2.cell hN hzc
          refine f_callF (Wc := []) (Wr := []) hE hk hl0 (.inl hc1o6) (show vwCl[10]? = some (RJ2, TJ2, 3) from rfl) (fc_J2_get hls hE hN (z := z) hzc (a := nln2) (i := x) (mc := mnn2) (li := kIs E ns) (b := kInt E (128 + ns.getD x 0)) (hnln2) (hko)) (fun _ h => Or.inl h) 1 (lw_Fg q961 q393 q395 q120 q397) q392 q391 q396 q394 q222 (by decide +kernel) rfl (by decide) (by omega) rfl (Nat.le_of_ble_eq_true rfl) dX7_greatestInCycle_29 ?_
          refine Or.inl ⟨rfl, ?_⟩
          rintro _ _ _ ⟨rfl, rfl, rfl⟩ -
          refine f_W (W2 := []) rfl ?_
          refine f_castY hE hk (.inl hki) (show vwCl[17]? = some (RJ22, TJ22, 1) from rfl) q957 q966 dX7_greatestInCycle_34 ?_
          refine j_goto (tgt := 41) hk dX7_greatestInCycle_37 rfl ?_
          refine j_ast1 hk dX7_greatestInCycle_41 rfl ?_
          refine j_iinc2 hk dX7_greatestInCycle_42 rfl ?_
          refine j_eq (vs2 := [some (.ref a), some (va_rf (gicV E ns b (x + 1))), some (.int (jI (((x : Nat) : Int) + 1)))]) (st2 := []) (by rw [gicV_t h21]; rfl) rfl ?_
          refine j_goto (tgt := 4) hk dX7_greatestInCycle_45 rfl ?_
          exact ih4 (x + 1) (by omega) (by omega)
  exact loop4 _ 0 (Nat.lt_succ_self _) (Nat.zero_le _)
set_option maxHeartbeats 1500000 in
/-- X7 isAcyclicByWalks()Z -/
theorem fc_X7_isAcyclicByWalks {l : Launch} {E : jE} (hls : l.stackTraces = false) (hE : jSt E) (hN : jCn E) {z : jZ} (hzc : zLe (zS E) z) {a : Nat} {ns : List Nat} {b : Nat → Nat} (h : grZ E z a ns b) : fC l E yX7_isAcyclicByWalks cX7_isAcyclicByWalks 1 (some .boolean) 5 98 (0) (0) [.ref a] z [] (fun rr z2 W2 => rr = some (.int (jI (jB ((gicV E ns b ns.length).isNone)))) ∧ W2 = [] ∧ z = z2) := by
  refine f_start (own := "ScheduleAnalyzer$Graph") (vs := [some (.ref a)]) hls (by decide +kernel) rfl rfl rfl (Nat.le_of_ble_eq_true rfl) ?_
  intro K H0 hk he hl0 hI hA
  have h9 := id h
  obtain ⟨ba, hgn, hba, h32⟩ := h9
  obtain ⟨-, -, -, -, h128, hn5, hnd⟩ := id hgn
  refine j_ald4 hk dX7_isAcyclicByWalks_0 rfl rfl ?_
  obtain ⟨bag1, hgng1, hbag1, hb32g1⟩ := id h
  obtain ⟨nln2, mnn2, hgn2, hnln2, hnsn2, hn5n2, hnnn2⟩ := id hgn
  have hkln2 : (kIs E ns).length = ns.length := kIs_len
  refine f_callV (Wc := []) (Wr := []) hE hk hl0 (.inl hgn2) (show vwCl[6]? = some (RX7, TX7, 2) from rfl) (fc_X7_greatestInCycle hls hE hN (z := z) hzc (a := a) (ns := ns) (b := b) (h)) (fun _ h => Or.inl h) 0 (lw_V q1296 q1297 q1298 q151 q1299) (by decide +kernel) rfl (by decide) (by omega) rfl (Nat.le_of_ble_eq_true rfl) dX7_isAcyclicByWalks_1 ?_
  refine Or.inl ⟨rfl, ?_⟩
  rintro _ _ _ ⟨rfl, rfl, rfl⟩ -
  refine f_W (W2 := []) rfl ?_
  generalize hq4 : gicV E ns b ns.length = oq4
  rcases oq4 with _ | g9
  · refine j_ifnonnullN hk dX7_isAcyclicByWalks_4 ?_
    refine j_iconst (n := 1) hk dX7_isAcyclicByWalks_7 ?_
    refine j_goto (tgt := 12) hk dX7_isAcyclicByWalks_8 rfl ?_
    refine f_iret hk he hA rfl dX7_isAcyclicByWalks_12 (by omega) (by omega) ?_
    exact ⟨congrArg (fun z => some (Value.int (jI z))) (by rw [hq4]; rfl), rfl, rfl⟩
  · refine j_ifnonnullR (tgt := 11) hk dX7_isAcyclicByWalks_4 rfl ?_
    refine j_iconst (n := 0) hk dX7_isAcyclicByWalks_11 ?_
    refine f_iret hk he hA rfl dX7_isAcyclicByWalks_12 (by omega) (by omega) ?_
    exact ⟨congrArg (fun z => some (Value.int (jI z))) (by rw [hq4]; rfl), rfl, rfl⟩
