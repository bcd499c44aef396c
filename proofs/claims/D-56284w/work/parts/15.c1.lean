/-! C, 1: operations -/
set_option maxHeartbeats 1000000 in
/-- isAccess()Z -/
theorem zc_X6_isAccess {l : Launch} {E : jE} {H0 : Heap} (hls : l.stackTraces = false) (hE : jSt E) {a : Nat} {o : Op} (hq_a : opAtH E a o H0) : zC l E yX6_isAccess cX6_isAccess 1 (some .boolean) 1 12 [.ref a] H0 (fun rr => rr = some (.int (jI (jB (decide (oK o < 2)))))) := by
  refine z_start (own := "ScheduleAnalyzer$Operation") (vs := [some (.ref a)]) hls (by decide +kernel) rfl rfl rfl (Nat.le_of_ble_eq_true rfl) ?_
  intro K hk he hl0 hG
  have ho_a := hq_a.2
  have lk_a := letK_c ho_a
  obtain ⟨a1, a2, a3, a4, a5⟩ := ho_a
  refine j_ald4 hk dX6_isAccess_0 rfl rfl ?_
  refine j_hget hE hk in_X6 hq_a.1 (show vwCl[5]? = some (RX6, TX6, 3) from rfl) 0 (by decide) q1658 rfl rfl dX6_isAccess_1 ?_
  refine j_bipush (n := 114) hk rfl dX6_isAccess_4 ?_
  refine j_icmp_eq hk (by omega) (by omega) dX6_isAccess_6 rfl (tgt := 18) (fun h6 => ?_) (fun h6 => ?_)
  · refine j_iconst (n := 1) hk dX6_isAccess_18 ?_
    refine j_goto (tgt := 23) hk dX6_isAccess_19 rfl ?_
    refine j_siret hk he rfl dX6_isAccess_23 (Nat.le_refl _) (Nat.le_refl _) ?_
    exact congrArg (fun z => some (Value.int (jI z))) (by rw [show (decide (oK o < 2)) = true by simp; omega]; rfl)
  · refine j_ald4 hk dX6_isAccess_9 rfl rfl ?_
    refine j_hget hE hk in_X6 hq_a.1 (show vwCl[5]? = some (RX6, TX6, 3) from rfl) 0 (by decide) q1658 rfl rfl dX6_isAccess_10 ?_
    refine j_bipush (n := 119) hk rfl dX6_isAccess_13 ?_
    refine j_icmp_ne hk (by omega) (by omega) dX6_isAccess_15 rfl (tgt := 22) (fun h15 => ?_) (fun h15 => ?_)
    · refine j_iconst (n := 0) hk dX6_isAccess_22 ?_
      refine j_siret hk he rfl dX6_isAccess_23 (Nat.le_refl _) (Nat.le_refl _) ?_
      exact congrArg (fun z => some (Value.int (jI z))) (by rw [show (decide (oK o < 2)) = false by simp; omega]; rfl)
    · refine j_iconst (n := 1) hk dX6_isAccess_18 ?_
      refine j_goto (tgt := 23) hk dX6_isAccess_19 rfl ?_
      refine j_siret hk he rfl dX6_isAccess_23 (Nat.le_refl _) (Nat.le_refl _) ?_
      exact congrArg (fun z => some (Value.int (jI z))) (by rw [show (decide (oK o < 2)) = true by simp; omega]; rfl)
set_option maxHeartbeats 1000000 in
/-- isOf(CI)Z -/
theorem zc_X6_isOf {l : Launch} {E : jE} {H0 : Heap} (hls : l.stackTraces = false) (hE : jSt E) {a : Nat} {o : Op} {c : Int} {t : Int} (hq_a : opAtH E a o H0) (hr_c : jr c) (hr_t : jr t) : zC l E yX6_isOf cX6_isOf 3 (some .boolean) 1 12 [.ref a, .int (jI c), .int (jI t)] H0 (fun rr => rr = some (.int (jI (jB (decide (((letK (oK o) : Nat) : Int) = c) && decide (((oT o : Nat) : Int) = t)))))) := by
  refine z_start (own := "ScheduleAnalyzer$Operation") (vs := [some (.ref a), some (.int (jI c)), some (.int (jI t))]) hls (by decide +kernel) rfl rfl rfl (Nat.le_of_ble_eq_true rfl) ?_
  intro K hk he hl0 hG
  have ho_a := hq_a.2
  have lk_a := letK_c ho_a
  obtain ⟨a1, a2, a3, a4, a5⟩ := ho_a
  refine j_ald4 hk dX6_isOf_0 rfl rfl ?_
  refine j_hget hE hk in_X6 hq_a.1 (show vwCl[5]? = some (RX6, TX6, 3) from rfl) 0 (by decide) q1658 rfl rfl dX6_isOf_1 ?_
  refine j_ild4 hk dX6_isOf_4 rfl rfl ?_
  refine j_icmp_ne hk (by omega) (by omega) dX6_isOf_5 rfl (tgt := 20) (fun h5 => ?_) (fun h5 => ?_)
  · refine j_iconst (n := 0) hk dX6_isOf_20 ?_
    refine j_siret hk he rfl dX6_isOf_21 (Nat.le_refl _) (Nat.le_refl _) ?_
    exact congrArg (fun z => some (Value.int (jI z))) (by rw [show (decide (((letK (oK o) : Nat) : Int) = c) && decide (((oT o : Nat) : Int) = t)) = false by simp; omega]; rfl)
  · refine j_ald4 hk dX6_isOf_8 rfl rfl ?_
    refine j_hget hE hk in_X6 hq_a.1 (show vwCl[5]? = some (RX6, TX6, 3) from rfl) 1 (by decide) q1663 rfl rfl dX6_isOf_9 ?_
    refine j_ild4 hk dX6_isOf_12 rfl rfl ?_
    refine j_icmp_ne hk (by omega) (by omega) dX6_isOf_13 rfl (tgt := 20) (fun h13 => ?_) (fun h13 => ?_)
    · refine j_iconst (n := 0) hk dX6_isOf_20 ?_
      refine j_siret hk he rfl dX6_isOf_21 (Nat.le_refl _) (Nat.le_refl _) ?_
      exact congrArg (fun z => some (Value.int (jI z))) (by rw [show (decide (((letK (oK o) : Nat) : Int) = c) && decide (((oT o : Nat) : Int) = t)) = false by simp; omega]; rfl)
    · refine j_iconst (n := 1) hk dX6_isOf_16 ?_
      refine j_goto (tgt := 21) hk dX6_isOf_17 rfl ?_
      refine j_siret hk he rfl dX6_isOf_21 (Nat.le_refl _) (Nat.le_refl _) ?_
      exact congrArg (fun z => some (Value.int (jI z))) (by rw [show (decide (((letK (oK o) : Nat) : Int) = c) && decide (((oT o : Nat) : Int) = t)) = true by simp; omega]; rfl)
set_option maxHeartbeats 1000000 in
/-- isWriteOf(C)Z -/
theorem zc_X6_isWriteOf {l : Launch} {E : jE} {H0 : Heap} (hls : l.stackTraces = false) (hE : jSt E) {a : Nat} {o : Op} {c : Int} (hq_a : opAtH E a o H0) (hr_c : jr c) : zC l E yX6_isWriteOf cX6_isWriteOf 2 (some .boolean) 1 12 [.ref a, .int (jI c)] H0 (fun rr => rr = some (.int (jI (jB (decide (oK o = 1) && decide (((97 + oI o : Nat) : Int) = c)))))) := by
  refine z_start (own := "ScheduleAnalyzer$Operation") (vs := [some (.ref a), some (.int (jI c))]) hls (by decide +kernel) rfl rfl rfl (Nat.le_of_ble_eq_true rfl) ?_
  intro K hk he hl0 hG
  have ho_a := hq_a.2
  have lk_a := letK_c ho_a
  obtain ⟨a1, a2, a3, a4, a5⟩ := ho_a
  refine j_ald4 hk dX6_isWriteOf_0 rfl rfl ?_
  refine j_hget hE hk in_X6 hq_a.1 (show vwCl[5]? = some (RX6, TX6, 3) from rfl) 0 (by decide) q1658 rfl rfl dX6_isWriteOf_1 ?_
  refine j_bipush (n := 119) hk rfl dX6_isWriteOf_4 ?_
  refine j_icmp_ne hk (by omega) (by omega) dX6_isWriteOf_6 rfl (tgt := 21) (fun h6 => ?_) (fun h6 => ?_)
  · refine j_iconst (n := 0) hk dX6_isWriteOf_21 ?_
    refine j_siret hk he rfl dX6_isWriteOf_22 (Nat.le_refl _) (Nat.le_refl _) ?_
    exact congrArg (fun z => some (Value.int (jI z))) (by rw [show (decide (oK o = 1) && decide (((97 + oI o : Nat) : Int) = c)) = false by simp; omega]; rfl)
  · refine j_ald4 hk dX6_isWriteOf_9 rfl rfl ?_
    refine j_hget hE hk in_X6 hq_a.1 (show vwCl[5]? = some (RX6, TX6, 3) from rfl) 2 (by decide) q1669 rfl rfl dX6_isWriteOf_10 ?_
    refine j_ild4 hk dX6_isWriteOf_13 rfl rfl ?_
    refine j_icmp_ne hk (by omega) (by omega) dX6_isWriteOf_14 rfl (tgt := 21) (fun h14 => ?_) (fun h14 => ?_)
    · refine j_iconst (n := 0) hk dX6_isWriteOf_21 ?_
      refine j_siret hk he rfl dX6_isWriteOf_22 (Nat.le_refl _) (Nat.le_refl _) ?_
      exact congrArg (fun z => some (Value.int (jI z))) (by rw [show (decide (oK o = 1) && decide (((97 + oI o : Nat) : Int) = c)) = false by simp; omega]; rfl)
    · refine j_iconst (n := 1) hk dX6_isWriteOf_17 ?_
      refine j_goto (tgt := 22) hk dX6_isWriteOf_18 rfl ?_
      refine j_siret hk he rfl dX6_isWriteOf_22 (Nat.le_refl _) (Nat.le_refl _) ?_
      exact congrArg (fun z => some (Value.int (jI z))) (by rw [show (decide (oK o = 1) && decide (((97 + oI o : Nat) : Int) = c)) = true by simp; omega]; rfl)
set_option maxHeartbeats 1000000 in
/-- isEndOf(I)Z -/
theorem zc_X6_isEndOf {l : Launch} {E : jE} {H0 : Heap} (hls : l.stackTraces = false) (hE : jSt E) {a : Nat} {o : Op} {t : Int} (hq_a : opAtH E a o H0) (hr_t : jr t) : zC l E yX6_isEndOf cX6_isEndOf 2 (some .boolean) 2 32 [.ref a, .int (jI t)] H0 (fun rr => rr = some (.int (jI (jB (!decide (oK o < 2) && decide (((oT o : Nat) : Int) = t)))))) := by
  refine z_start (own := "ScheduleAnalyzer$Operation") (vs := [some (.ref a), some (.int (jI t))]) hls (by decide +kernel) rfl rfl rfl (Nat.le_of_ble_eq_true rfl) ?_
  intro K hk he hl0 hG
  have ho_a := hq_a.2
  have lk_a := letK_c ho_a
  obtain ⟨a1, a2, a3, a4, a5⟩ := ho_a
  refine j_ald4 hk dX6_isEndOf_0 rfl rfl ?_
  refine j_zVi hE hk hl0 hG hq_a.1 (show vwCl[5]? = some (RX6, TX6, 3) from rfl) (zc_X6_isAccess hls hE (a := a) (o := o) (hq_a)) 0 (lw_V q1206 q1207 q1208 q149 q1209) (by decide +kernel) rfl (by decide) (by decide) rfl (Nat.le_of_ble_eq_true rfl) dX6_isEndOf_1 ?_
  refine j_ifneB hk dX6_isEndOf_4 rfl (tgt := 19) (fun h4 => ?_) (fun h4 => ?_)
  · refine j_iconst (n := 0) hk dX6_isEndOf_19 ?_
    refine j_siret hk he rfl dX6_isEndOf_20 (Nat.le_refl _) (Nat.le_refl _) ?_
    exact congrArg (fun z => some (Value.int (jI z))) (by rw [show (!decide (oK o < 2) && decide (((oT o : Nat) : Int) = t)) = false by simp at *; omega]; rfl)
  · refine j_ald4 hk dX6_isEndOf_7 rfl rfl ?_
    refine j_hget hE hk in_X6 hq_a.1 (show vwCl[5]? = some (RX6, TX6, 3) from rfl) 1 (by decide) q1663 rfl rfl dX6_isEndOf_8 ?_
    refine j_ild4 hk dX6_isEndOf_11 rfl rfl ?_
    refine j_icmp_ne hk (by omega) (by omega) dX6_isEndOf_12 rfl (tgt := 19) (fun h12 => ?_) (fun h12 => ?_)
    · refine j_iconst (n := 0) hk dX6_isEndOf_19 ?_
      refine j_siret hk he rfl dX6_isEndOf_20 (Nat.le_refl _) (Nat.le_refl _) ?_
      exact congrArg (fun z => some (Value.int (jI z))) (by rw [show (!decide (oK o < 2) && decide (((oT o : Nat) : Int) = t)) = false by simp at *; omega]; rfl)
    · refine j_iconst (n := 1) hk dX6_isEndOf_15 ?_
      refine j_goto (tgt := 20) hk dX6_isEndOf_16 rfl ?_
      refine j_siret hk he rfl dX6_isEndOf_20 (Nat.le_refl _) (Nat.le_refl _) ?_
      exact congrArg (fun z => some (Value.int (jI z))) (by rw [show (!decide (oK o < 2) && decide (((oT o : Nat) : Int) = t)) = true by simp at *; omega]; rfl)
set_option maxHeartbeats 1000000 in
/-- conflictsWith(LScheduleAnalyzer$Operation;)Z -/
theorem zc_X6_conflictsWith {l : Launch} {E : jE} {H0 : Heap} (hls : l.stackTraces = false) (hE : jSt E) {a : Nat} {o : Op} {b : Nat} {o2 : Op} (hq_a : opAtH E a o H0) (hq_b : opAtH E b o2 H0) : zC l E yX6_conflictsWith cX6_conflictsWith 3 (some .boolean) 2 32 [.ref a, .ref b] H0 (fun rr => rr = some (.int (jI (jB (opConf o o2))))) := by
  refine z_start (own := "ScheduleAnalyzer$Operation") (vs := [some (.ref a), some (.ref b), none]) hls (by decide +kernel) rfl rfl rfl (Nat.le_of_ble_eq_true rfl) ?_
  intro K hk he hl0 hG
  have ho_a := hq_a.2
  have lk_a := letK_c ho_a
  obtain ⟨a1, a2, a3, a4, a5⟩ := ho_a
  have ho_b := hq_b.2
  have lk_b := letK_c ho_b
  obtain ⟨b1, b2, b3, b4, b5⟩ := ho_b
  refine j_ald4 hk dX6_conflictsWith_0 rfl rfl ?_
  refine j_zVi hE hk hl0 hG hq_a.1 (show vwCl[5]? = some (RX6, TX6, 3) from rfl) (zc_X6_isAccess hls hE (a := a) (o := o) (hq_a)) 0 (lw_V q1206 q1207 q1208 q149 q1209) (by decide +kernel) rfl (by decide) (by decide) rfl (Nat.le_of_ble_eq_true rfl) dX6_conflictsWith_1 ?_
  refine j_ifeqB hk dX6_conflictsWith_4 rfl (tgt := 29) (fun h4 => ?_) (fun h4 => ?_)
  · refine j_iconst (n := 0) hk dX6_conflictsWith_29 ?_
    refine j_ist2 hk dX6_conflictsWith_30 rfl ?_
    refine j_ild4 hk dX6_conflictsWith_31 rfl rfl ?_
    refine j_if_eq hk (by omega) dX6_conflictsWith_32 rfl (tgt := 68) (fun _ => ?_) (fun h => absurd h (by omega))
    refine j_iconst (n := 0) hk dX6_conflictsWith_68 ?_
    refine j_siret hk he rfl dX6_conflictsWith_69 (Nat.le_refl _) (Nat.le_refl _) ?_
    exact congrArg (fun z => some (Value.int (jI z))) (by rw [show (opConf o o2) = false by simp [opConf] at *; omega]; rfl)
  · refine j_ald4 hk dX6_conflictsWith_7 rfl rfl ?_
    refine j_zVi hE hk hl0 hG hq_b.1 (show vwCl[5]? = some (RX6, TX6, 3) from rfl) (zc_X6_isAccess hls hE (a := b) (o := o2) (hq_b)) 0 (lw_V q1206 q1207 q1208 q149 q1209) (by decide +kernel) rfl (by decide) (by decide) rfl (Nat.le_of_ble_eq_true rfl) dX6_conflictsWith_8 ?_
    refine j_ifeqB hk dX6_conflictsWith_11 rfl (tgt := 29) (fun h11 => ?_) (fun h11 => ?_)
    · refine j_iconst (n := 0) hk dX6_conflictsWith_29 ?_
      refine j_ist2 hk dX6_conflictsWith_30 rfl ?_
      refine j_ild4 hk dX6_conflictsWith_31 rfl rfl ?_
      refine j_if_eq hk (by omega) dX6_conflictsWith_32 rfl (tgt := 68) (fun _ => ?_) (fun h => absurd h (by omega))
      refine j_iconst (n := 0) hk dX6_conflictsWith_68 ?_
      refine j_siret hk he rfl dX6_conflictsWith_69 (Nat.le_refl _) (Nat.le_refl _) ?_
      exact congrArg (fun z => some (Value.int (jI z))) (by rw [show (opConf o o2) = false by simp [opConf] at *; omega]; rfl)
    · refine j_ald4 hk dX6_conflictsWith_14 rfl rfl ?_
      refine j_hget hE hk in_X6 hq_a.1 (show vwCl[5]? = some (RX6, TX6, 3) from rfl) 2 (by decide) q1669 rfl rfl dX6_conflictsWith_15 ?_
      refine j_ald4 hk dX6_conflictsWith_18 rfl rfl ?_
      refine j_hget hE hk in_X6 hq_b.1 (show vwCl[5]? = some (RX6, TX6, 3) from rfl) 2 (by decide) q1669 rfl rfl dX6_conflictsWith_19 ?_
      refine j_icmp_ne hk (by omega) (by omega) dX6_conflictsWith_22 rfl (tgt := 29) (fun h22 => ?_) (fun h22 => ?_)
      · refine j_iconst (n := 0) hk dX6_conflictsWith_29 ?_
        refine j_ist2 hk dX6_conflictsWith_30 rfl ?_
        refine j_ild4 hk dX6_conflictsWith_31 rfl rfl ?_
        refine j_if_eq hk (by omega) dX6_conflictsWith_32 rfl (tgt := 68) (fun _ => ?_) (fun h => absurd h (by omega))
        refine j_iconst (n := 0) hk dX6_conflictsWith_68 ?_
        refine j_siret hk he rfl dX6_conflictsWith_69 (Nat.le_refl _) (Nat.le_refl _) ?_
        exact congrArg (fun z => some (Value.int (jI z))) (by rw [show (opConf o o2) = false by simp [opConf] at *; omega]; rfl)
      · refine j_iconst (n := 1) hk dX6_conflictsWith_25 ?_
        refine j_goto (tgt := 30) hk dX6_conflictsWith_26 rfl ?_
        refine j_ist2 hk dX6_conflictsWith_30 rfl ?_
        refine j_ild4 hk dX6_conflictsWith_31 rfl rfl ?_
        refine j_if_eq hk (by omega) dX6_conflictsWith_32 rfl (tgt := 68) (fun h => absurd h (by omega)) (fun _ => ?_)
        refine j_ald4 hk dX6_conflictsWith_35 rfl rfl ?_
        refine j_hget hE hk in_X6 hq_a.1 (show vwCl[5]? = some (RX6, TX6, 3) from rfl) 1 (by decide) q1663 rfl rfl dX6_conflictsWith_36 ?_
        refine j_ald4 hk dX6_conflictsWith_39 rfl rfl ?_
        refine j_hget hE hk in_X6 hq_b.1 (show vwCl[5]? = some (RX6, TX6, 3) from rfl) 1 (by decide) q1663 rfl rfl dX6_conflictsWith_40 ?_
        refine j_icmp_eq hk (by omega) (by omega) dX6_conflictsWith_43 rfl (tgt := 68) (fun h43 => ?_) (fun h43 => ?_)
        · refine j_iconst (n := 0) hk dX6_conflictsWith_68 ?_
          refine j_siret hk he rfl dX6_conflictsWith_69 (Nat.le_refl _) (Nat.le_refl _) ?_
          exact congrArg (fun z => some (Value.int (jI z))) (by rw [show (opConf o o2) = false by simp [opConf] at *; omega]; rfl)
        · refine j_ald4 hk dX6_conflictsWith_46 rfl rfl ?_
          refine j_hget hE hk in_X6 hq_a.1 (show vwCl[5]? = some (RX6, TX6, 3) from rfl) 0 (by decide) q1658 rfl rfl dX6_conflictsWith_47 ?_
          refine j_bipush (n := 119) hk rfl dX6_conflictsWith_50 ?_
          refine j_icmp_eq hk (by omega) (by omega) dX6_conflictsWith_52 rfl (tgt := 64) (fun h52 => ?_) (fun h52 => ?_)
          · refine j_iconst (n := 1) hk dX6_conflictsWith_64 ?_
            refine j_goto (tgt := 69) hk dX6_conflictsWith_65 rfl ?_
            refine j_siret hk he rfl dX6_conflictsWith_69 (Nat.le_refl _) (Nat.le_refl _) ?_
            exact congrArg (fun z => some (Value.int (jI z))) (by rw [show (opConf o o2) = true by simp [opConf] at *; omega]; rfl)
          · refine j_ald4 hk dX6_conflictsWith_55 rfl rfl ?_
            refine j_hget hE hk in_X6 hq_b.1 (show vwCl[5]? = some (RX6, TX6, 3) from rfl) 0 (by decide) q1658 rfl rfl dX6_conflictsWith_56 ?_
            refine j_bipush (n := 119) hk rfl dX6_conflictsWith_59 ?_
            refine j_icmp_ne hk (by omega) (by omega) dX6_conflictsWith_61 rfl (tgt := 68) (fun h61 => ?_) (fun h61 => ?_)
            · refine j_iconst (n := 0) hk dX6_conflictsWith_68 ?_
              refine j_siret hk he rfl dX6_conflictsWith_69 (Nat.le_refl _) (Nat.le_refl _) ?_
              exact congrArg (fun z => some (Value.int (jI z))) (by rw [show (opConf o o2) = false by simp [opConf] at *; omega]; rfl)
            · refine j_iconst (n := 1) hk dX6_conflictsWith_64 ?_
              refine j_goto (tgt := 69) hk dX6_conflictsWith_65 rfl ?_
              refine j_siret hk he rfl dX6_conflictsWith_69 (Nat.le_refl _) (Nat.le_refl _) ?_
              exact congrArg (fun z => some (Value.int (jI z))) (by rw [show (opConf o o2) = true by simp [opConf] at *; omega]; rfl)
set_option maxHeartbeats 1000000 in
/-- isEqual(LScheduleAnalyzer$Operation;)Z -/
theorem zc_X6_isEqual {l : Launch} {E : jE} {H0 : Heap} (hls : l.stackTraces = false) (hE : jSt E) {a : Nat} {o : Op} {b : Nat} {o2 : Op} (hq_a : opAtH E a o H0) (hq_b : opAtH E b o2 H0) : zC l E yX6_isEqual cX6_isEqual 2 (some .boolean) 1 12 [.ref a, .ref b] H0 (fun rr => rr = some (.int (jI (jB (decide (opV o = opV o2)))))) := by
  refine z_start (own := "ScheduleAnalyzer$Operation") (vs := [some (.ref a), some (.ref b)]) hls (by decide +kernel) rfl rfl rfl (Nat.le_of_ble_eq_true rfl) ?_
  intro K hk he hl0 hG
  have ho_a := hq_a.2
  have lk_a := letK_c ho_a
  obtain ⟨a1, a2, a3, a4, a5⟩ := ho_a
  have ho_b := hq_b.2
  have lk_b := letK_c ho_b
  obtain ⟨b1, b2, b3, b4, b5⟩ := ho_b
  refine j_ald4 hk dX6_isEqual_0 rfl rfl ?_
  refine j_hget hE hk in_X6 hq_a.1 (show vwCl[5]? = some (RX6, TX6, 3) from rfl) 0 (by decide) q1658 rfl rfl dX6_isEqual_1 ?_
  refine j_ald4 hk dX6_isEqual_4 rfl rfl ?_
  refine j_hget hE hk in_X6 hq_b.1 (show vwCl[5]? = some (RX6, TX6, 3) from rfl) 0 (by decide) q1658 rfl rfl dX6_isEqual_5 ?_
  refine j_icmp_ne hk (by omega) (by omega) dX6_isEqual_8 rfl (tgt := 37) (fun h8 => ?_) (fun h8 => ?_)
  · refine j_iconst (n := 0) hk dX6_isEqual_37 ?_
    refine j_siret hk he rfl dX6_isEqual_38 (Nat.le_refl _) (Nat.le_refl _) ?_
    exact congrArg (fun z => some (Value.int (jI z))) (by rw [show decide (opV o = opV o2) = false from decide_eq_false (by unfold opV; omega)]; rfl)
  · refine j_ald4 hk dX6_isEqual_11 rfl rfl ?_
    refine j_hget hE hk in_X6 hq_a.1 (show vwCl[5]? = some (RX6, TX6, 3) from rfl) 1 (by decide) q1663 rfl rfl dX6_isEqual_12 ?_
    refine j_ald4 hk dX6_isEqual_15 rfl rfl ?_
    refine j_hget hE hk in_X6 hq_b.1 (show vwCl[5]? = some (RX6, TX6, 3) from rfl) 1 (by decide) q1663 rfl rfl dX6_isEqual_16 ?_
    refine j_icmp_ne hk (by omega) (by omega) dX6_isEqual_19 rfl (tgt := 37) (fun h19 => ?_) (fun h19 => ?_)
    · refine j_iconst (n := 0) hk dX6_isEqual_37 ?_
      refine j_siret hk he rfl dX6_isEqual_38 (Nat.le_refl _) (Nat.le_refl _) ?_
      exact congrArg (fun z => some (Value.int (jI z))) (by rw [show decide (opV o = opV o2) = false from decide_eq_false (by unfold opV; omega)]; rfl)
    · refine j_ald4 hk dX6_isEqual_22 rfl rfl ?_
      refine j_hget hE hk in_X6 hq_a.1 (show vwCl[5]? = some (RX6, TX6, 3) from rfl) 2 (by decide) q1669 rfl rfl dX6_isEqual_23 ?_
      refine j_ald4 hk dX6_isEqual_26 rfl rfl ?_
      refine j_hget hE hk in_X6 hq_b.1 (show vwCl[5]? = some (RX6, TX6, 3) from rfl) 2 (by decide) q1669 rfl rfl dX6_isEqual_27 ?_
      refine j_icmp_ne hk (by omega) (by omega) dX6_isEqual_30 rfl (tgt := 37) (fun h30 => ?_) (fun h30 => ?_)
      · refine j_iconst (n := 0) hk dX6_isEqual_37 ?_
        refine j_siret hk he rfl dX6_isEqual_38 (Nat.le_refl _) (Nat.le_refl _) ?_
        exact congrArg (fun z => some (Value.int (jI z))) (by rw [show decide (opV o = opV o2) = false from decide_eq_false (by unfold opV; omega)]; rfl)
      · refine j_iconst (n := 1) hk dX6_isEqual_33 ?_
        refine j_goto (tgt := 38) hk dX6_isEqual_34 rfl ?_
        refine j_siret hk he rfl dX6_isEqual_38 (Nat.le_refl _) (Nat.le_refl _) ?_
        exact congrArg (fun z => some (Value.int (jI z))) (by rw [show decide (opV o = opV o2) = true from decide_eq_true (by unfold opV; omega)]; rfl)
