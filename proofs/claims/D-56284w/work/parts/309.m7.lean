set_option maxHeartbeats 1500000 in
/-- readsAll()Z -/
theorem mc_readsAll {l : Launch} {E : jE} {m : Nat} {ad : Nat → Nat} {A : Nat → Nat → Int} {F : Nat → Int} (hls : l.stackTraces = false) (hE : jSt E) {inp : List Nat} (hI : F 9 = ((inp.length : Nat) : Int) ∧ txIs (A 8) inp 60) : mC l E yX4_readsAll cX4_readsAll 1 (some .boolean) 4 77 [.ref m] m ad A F (mQi E m ad (fun r A2 F2 => jB ((pAll inp).1) = r ∧ F2 10 = (((pAll inp).2.2 : Nat) : Int) ∧ (pAll inp).2.2 ≤ 60 ∧ ((pAll inp).1 = true → rdIs A2 F2 (pAll inp).2.1 ∧ (pAll inp).2.1.length ≤ 20) ∧ kA [11] A A2 ∧ kF [10, 12] F F2)) := by
  refine m_start (own := "ScheduleAnalyzerModel") (vs := [some (.ref m)]) hls (by decide +kernel) rfl rfl rfl (Nat.le_of_ble_eq_true rfl) ?_
  intro K hk he hl0 hF hG0
  have hl := hI.2.1
  refine j_ald4 hk dX4_readsAll_0 rfl rfl ?_
  refine j_iconst (n := 0) hk dX4_readsAll_1 ?_
  refine j_mput hE hk hF 10 (by decide) rfl q2624 rfl rfl rfl rfl dX4_readsAll_2 ?_
  refine j_ald4 hk dX4_readsAll_5 rfl rfl ?_
  refine j_iconst (n := 0) hk dX4_readsAll_6 ?_
  refine j_mput hE hk hF 12 (by decide) rfl q2626 rfl rfl rfl rfl dX4_readsAll_7 ?_
  refine j_ald4 hk dX4_readsAll_10 rfl rfl ?_
  refine j_mVi hE hk hl0 hF (mc_readsOperation hls hE (A := A) (F := (iup (iup F 10 0) 12 0)) (inp := inp) (i := 0) (acc := []) (by rw [iup_n (by decide), iup_n (by decide)]; exact hI) (by rw [iup_n (by decide), iup_s]; rfl) (by omega) (⟨iup_s _ _ _, fun i hi => by simp at hi⟩) (by decide)) 0 (lw_V q2763 q2765 qs55 q145 q2766) (by decide +kernel) rfl (by decide) (by decide) rfl (Nat.le_of_ble_eq_true rfl) dX4_readsAll_11 ?_
  intro rz1 Az2 Fz3 hc11
  obtain ⟨rfl, hc11⟩ := hc11
  obtain ⟨h10_11, hrd_11, hka_11, hkf_11⟩ := hc11
  refine j_ifneB hk dX4_readsAll_14 rfl (tgt := 19) (fun h14 => ?_) (fun h14 => ?_)
  · have loop19 : ∀ (fuel19 : Nat) (A1 : Nat → Nat → Int) (F1 : Nat → Int) (j : Nat) (acc : List Op) (f : Nat), inp.length + 1 - j < fuel19 → pRest f inp j acc = pAll inp → inp.length < f + j → F1 10 = ((j : Nat) : Int) → rdIs A1 F1 acc → 3 * acc.length ≤ j + 1 → j ≤ inp.length → kA [11] A A1 → kF [10, 12] F F1 → jW K (mAs E m ad A1 F1) 0 0 19 [some (.ref m)] [] := by
      intro fuel19
      induction fuel19 with
      | zero => intro A1 F1 j acc f hm; exact absurd hm (Nat.not_lt_zero _)
      | succ fuel19 ih19 =>
        intro A1 F1 j acc f hm19 hp hf hj hrd ha3 hjl hka hkf
        have hI1 : F1 9 = ((inp.length : Nat) : Int) ∧ txIs (A1 8) inp 60 := by rw [hkf 9 (by decide), hka 8 (by decide)]; exact hI
        have hcr : -1 ≤ chI inp j ∧ chI inp j < 65536 := by
          unfold chI
          split
          · have := (hI.2.2 j (by assumption)).2; omega
          · omega
        refine j_ald4 hk dX4_readsAll_19 rfl rfl ?_
        refine j_mVi hE hk hl0 hF (mc_mark hls hE (A := A1) (F := F1) (inp := inp) (i := j) (hI1) (hj) (by omega)) 0 (lw_V q2767 q2769 qs56 q145 q2770) (by decide +kernel) rfl (by decide) (by decide) rfl (Nat.le_of_ble_eq_true rfl) dX4_readsAll_20 ?_
        rintro _ _ _ ⟨rfl, rfl, rfl⟩
        refine j_bipush (n := 32) hk rfl dX4_readsAll_23 ?_
        refine j_icmp_ne hk (by omega) (by omega) dX4_readsAll_25 rfl (tgt := 47) (fun h25 => ?_) (fun h25 => ?_)
        · refine j_ald4 hk dX4_readsAll_47 rfl rfl ?_
          refine j_mget hE hk 10 (by decide) rfl q2624 dX4_readsAll_48 ?_
          refine j_top (z2 := ((j : Nat) : Int)) (hj) ?_
          refine j_ald4 hk dX4_readsAll_51 rfl rfl ?_
          refine j_mget hE hk 9 (by decide) rfl q2623 dX4_readsAll_52 ?_
          refine j_top (z2 := ((inp.length : Nat) : Int)) (hI1.1) ?_
          refine j_icmp_ne hk (by omega) (by omega) dX4_readsAll_55 rfl (tgt := 62) (fun h55 => ?_) (fun h55 => ?_)
          · refine j_iconst (n := 0) hk dX4_readsAll_62 ?_
            refine j_miret hk he rfl dX4_readsAll_63 (Nat.le_refl _) (Nat.le_refl _) ?_
            obtain ⟨f2, rfl⟩ : ∃ f2, f = f2 + 1 := ⟨f - 1, by omega⟩
            rw [← hp, pRest_end h25]
            exact ⟨by simp [jB]; omega, hj, by dsimp only; omega, fun _ => ⟨hrd, by dsimp only; omega⟩, hka, hkf⟩
          · refine j_iconst (n := 1) hk dX4_readsAll_58 ?_
            refine j_goto (tgt := 63) hk dX4_readsAll_59 rfl ?_
            refine j_miret hk he rfl dX4_readsAll_63 (Nat.le_refl _) (Nat.le_refl _) ?_
            obtain ⟨f2, rfl⟩ : ∃ f2, f = f2 + 1 := ⟨f - 1, by omega⟩
            rw [← hp, pRest_end h25]
            exact ⟨by simp [jB]; omega, hj, by dsimp only; omega, fun _ => ⟨hrd, by dsimp only; omega⟩, hka, hkf⟩
        · refine j_ald4 hk dX4_readsAll_28 rfl rfl ?_
          refine j_dup hk rfl dX4_readsAll_29 ?_
          refine j_mget hE hk 10 (by decide) rfl q2624 dX4_readsAll_30 ?_
          refine j_top (z2 := ((j : Nat) : Int)) (hj) ?_
          refine j_iconst (n := 1) hk dX4_readsAll_33 ?_
          refine j_iadd hk dX4_readsAll_34 ?_
          refine j_mput hE hk hF 10 (by decide) rfl q2624 rfl rfl rfl rfl dX4_readsAll_35 ?_
          refine j_ald4 hk dX4_readsAll_38 rfl rfl ?_
          refine j_mVi hE hk hl0 hF (mc_readsOperation hls hE (A := A1) (F := (iup F1 10 (((j : Nat) : Int) + 1))) (inp := inp) (i := j + 1) (acc := acc) (by rw [iup_n (by decide)]; exact hI1) (iup_s _ _ _) (by omega) (hrd.keep rfl (iup_n (by decide))) (by omega)) 0 (lw_V q2763 q2765 qs55 q145 q2766) (by decide +kernel) rfl (by decide) (by decide) rfl (Nat.le_of_ble_eq_true rfl) dX4_readsAll_39 ?_
          intro rz4 Az5 Fz6 hc39
          obtain ⟨rfl, hc39⟩ := hc39
          obtain ⟨h10_39, hrd_39, hka_39, hkf_39⟩ := hc39
          refine j_ifneB hk dX4_readsAll_42 rfl (tgt := 19) (fun h42 => ?_) (fun h42 => ?_)
          · obtain ⟨o, ho⟩ := isSome_ex h42
            have hb := pOp_some ho
            obtain ⟨f2, rfl⟩ : ∃ f2, f = f2 + 1 := ⟨f - 1, by omega⟩
            exact ih19 Az5 Fz6 ((pOp inp (j + 1)).2) (acc ++ [o]) f2 (by omega) (by rw [← hp]; exact (pRest_some h25 ho).symm) (by omega) (h10_39) (by rw [ho] at hrd_39; exact hrd_39) (by rw [List.length_append]; simp; omega) (by omega) (hka.tr hka_39 (by decide)) ((hkf.up (by decide)).tr hkf_39 (by decide))
          · refine j_iconst (n := 0) hk dX4_readsAll_45 ?_
            refine j_miret hk he rfl dX4_readsAll_46 (Nat.le_refl _) (Nat.le_refl _) ?_
            have ho := isSome_no h42
            have hb := pOp_none ho
            obtain ⟨f2, rfl⟩ : ∃ f2, f = f2 + 1 := ⟨f - 1, by omega⟩
            have hjlt : j < inp.length := chI_lt (by omega)
            rw [← hp, pRest_none h25 ho]
            exact ⟨rfl, h10_39, by dsimp only; omega, fun h => (by cases h), hka.tr hka_39 (by decide), (hkf.up (by decide)).tr hkf_39 (by decide)⟩
    obtain ⟨o, ho⟩ := isSome_ex h14
    have hb := pOp_some ho
    exact loop19 _ Az2 Fz3 ((pOp inp 0).2) ([o]) (inp.length + 1) (Nat.lt_succ_self _) ((pAll_some ho).symm) (by omega) (h10_11) (by rw [ho] at hrd_11; exact hrd_11) (by simp; omega) (by omega) (hka_11) (((kF.rf.up (by decide)).up (by decide)).tr hkf_11 (by decide))
  · refine j_iconst (n := 0) hk dX4_readsAll_17 ?_
    refine j_miret hk he rfl dX4_readsAll_18 (Nat.le_refl _) (Nat.le_refl _) ?_
    have ho := isSome_no h14
    have hb := pOp_none ho
    rw [pAll_none ho]
    exact ⟨rfl, h10_11, by dsimp only; omega, fun h => (by cases h), hka_11, ((kF.rf.up (by decide)).up (by decide)).tr hkf_11 (by decide)⟩
set_option maxHeartbeats 1500000 in
/-- isNoSchedule()Z -/
theorem mc_isNoSchedule {l : Launch} {E : jE} {m : Nat} {ad : Nat → Nat} {A : Nat → Nat → Int} {F : Nat → Int} (hls : l.stackTraces = false) (hE : jSt E) {rd : List Op} (hrd : rdIs A F rd) (hl : rd.length ≤ 32) : mC l E yX4_isNoSchedule cX4_isNoSchedule 4 (some .boolean) 2 32 [.ref m] m ad A F (mQi E m ad (fun r A2 F2 => jB (noSch rd) = r ∧ A = A2 ∧ F = F2)) := by
  refine m_start (own := "ScheduleAnalyzerModel") (vs := [some (.ref m), none, none, none]) hls (by decide +kernel) rfl rfl rfl (Nat.le_of_ble_eq_true rfl) ?_
  intro K hk he hl0 hF hG0
  refine j_iconst (n := 0) hk dX4_isNoSchedule_0 ?_
  refine j_ist1 hk dX4_isNoSchedule_1 rfl ?_
  refine j_iconst (n := 0) hk dX4_isNoSchedule_2 ?_
  refine j_ist2 hk dX4_isNoSchedule_3 rfl ?_
  have loop4 : ∀ (fuel4 : Nat) (k : Nat) (e : Nat), rd.length - k < fuel4 → k ≤ rd.length → endM rd k e → e < 64 → (∀ j, j < k → ((rd.take j).any fun o => oT o == oT (opAt rd j) && decide (2 ≤ oK o)) = false) → jW K (mAs E m ad A F) 0 0 4 [some (.ref m), some (.int (jI ((e : Nat) : Int))), some (.int (jI ((k : Nat) : Int))), none] [] := by
    intro fuel4
    induction fuel4 with
    | zero => intro k e hm; exact absurd hm (Nat.not_lt_zero _)
    | succ fuel4 ih4 =>
      intro k e hm4 hk1 hk2 hk3 hk4
      refine j_ild4 hk dX4_isNoSchedule_4 rfl rfl ?_
      refine j_ald4 hk dX4_isNoSchedule_5 rfl rfl ?_
      refine j_mget hE hk 12 (by decide) rfl q2626 dX4_isNoSchedule_6 ?_
      refine j_top (z2 := ((rd.length : Nat) : Int)) (hrd.1) ?_
      refine j_icmp_ge hk (by omega) (by omega) dX4_isNoSchedule_9 rfl (tgt := 59) (fun h9 => ?_) (fun h9 => ?_)
      · refine j_ald4 hk dX4_isNoSchedule_59 rfl rfl ?_
        refine j_mget hE hk 12 (by decide) rfl q2626 dX4_isNoSchedule_60 ?_
        refine j_top (z2 := ((rd.length : Nat) : Int)) (hrd.1) ?_
        refine j_bipush (n := 20) hk rfl dX4_isNoSchedule_63 ?_
        refine j_icmp_le hk (by omega) (by omega) dX4_isNoSchedule_65 rfl (tgt := 72) (fun h65 => ?_) (fun h65 => ?_)
        · refine j_iconst (n := 0) hk dX4_isNoSchedule_72 ?_
          refine j_miret hk he rfl dX4_isNoSchedule_73 (Nat.le_refl _) (Nat.le_refl _) ?_
          have q : schBad rd = false := any_range (fun j hj => hk4 j (by omega))
          exact ⟨by simp [noSch, q, jB]; omega, rfl, rfl⟩
        · refine j_iconst (n := 1) hk dX4_isNoSchedule_68 ?_
          refine j_goto (tgt := 73) hk dX4_isNoSchedule_69 rfl ?_
          refine j_miret hk he rfl dX4_isNoSchedule_73 (Nat.le_refl _) (Nat.le_refl _) ?_
          have q : schBad rd = false := any_range (fun j hj => hk4 j (by omega))
          exact ⟨by simp [noSch, q, jB]; omega, rfl, rfl⟩
      · have hlt : k < rd.length := by omega
        have hok := (hrd.2 k hlt).2
        obtain ⟨o1, o2, o3, o4, o5⟩ := hok
        have hok := (hrd.2 k hlt).2
        have o6 := opV_lt hok
        refine j_iconst (n := 1) hk dX4_isNoSchedule_12 ?_
        refine j_ald4 hk dX4_isNoSchedule_13 rfl rfl ?_
        refine j_mgetA hE hk 11 (by decide) rfl q2625 dX4_isNoSchedule_14 ?_
        refine j_ild4 hk dX4_isNoSchedule_17 rfl rfl ?_
        refine j_mald hE hk 11 5 rfl (k) (by omega) (by simp only [mLen]; omega) dX4_isNoSchedule_18 ?_
        refine j_top (z2 := ((opV (opAt rd k) : Nat) : Int)) ((hrd.2 k hlt).1) ?_
        refine j_sSi hk hl0 (sc_transactionOf hls (c := opV (opAt rd k)) (by first | assumption | omega)) 1 (lw_S q2787 q2788 q145 q2789) (by decide +kernel) rfl (by decide) (by decide) rfl (Nat.le_of_ble_eq_true rfl) dX4_isNoSchedule_19 ?_
        refine j_top (z2 := ((oT (opAt rd k) : Nat) : Int)) (by rw [opV_t hok]) ?_
        refine j_ishl (a := 1) (b := oT (opAt rd k)) hk (by omega) dX4_isNoSchedule_22 ?_
        refine j_ist3 hk dX4_isNoSchedule_23 rfl ?_
        refine j_ild4 hk dX4_isNoSchedule_24 rfl rfl ?_
        refine j_ild4 hk dX4_isNoSchedule_25 rfl rfl ?_
        refine j_iand (a := e) (b := 1 * 2 ^ (oT (opAt rd k))) hk dX4_isNoSchedule_26 ?_
        have hle := Nat.and_le_left (n := e) (m := 1 * 2 ^ oT (opAt rd k))
        refine j_if_eq hk (by omega) dX4_isNoSchedule_27 rfl (tgt := 32) (fun h27 => ?_) (fun h27 => ?_)
        · have hnb : e.testBit (oT (opAt rd k)) = false := by
            cases q : e.testBit (oT (opAt rd k)) with
            | false => rfl
            | true => exact absurd (by omega) (and_pow_ne.mpr q)
          refine j_ild4 hk dX4_isNoSchedule_32 rfl rfl ?_
          refine j_ald4 hk dX4_isNoSchedule_33 rfl rfl ?_
          refine j_mgetA hE hk 11 (by decide) rfl q2625 dX4_isNoSchedule_34 ?_
          refine j_ild4 hk dX4_isNoSchedule_37 rfl rfl ?_
          refine j_mald hE hk 11 5 rfl (k) (by omega) (by simp only [mLen]; omega) dX4_isNoSchedule_38 ?_
          refine j_top (z2 := ((opV (opAt rd k) : Nat) : Int)) ((hrd.2 k hlt).1) ?_
          refine j_sSi hk hl0 (sc_kindOf hls (c := opV (opAt rd k)) (by first | assumption | omega)) 1 (lw_S q2790 q2791 q145 q2792) (by decide +kernel) rfl (by decide) (by decide) rfl (Nat.le_of_ble_eq_true rfl) dX4_isNoSchedule_39 ?_
          refine j_top (z2 := ((oK (opAt rd k) : Nat) : Int)) (by rw [opV_k hok]) ?_
          refine j_iconst (n := 2) hk dX4_isNoSchedule_42 ?_
          refine j_icmp_lt hk (by omega) (by omega) dX4_isNoSchedule_43 rfl (tgt := 50) (fun h43 => ?_) (fun h43 => ?_)
          · refine j_iconst (n := 0) hk dX4_isNoSchedule_50 ?_
            refine j_top (z2 := ((0 : Nat) : Int)) (rfl) ?_
            refine j_ior (a := e) (b := 0) hk dX4_isNoSchedule_51 ?_
            refine j_ist1 hk dX4_isNoSchedule_52 rfl ?_
            refine j_iinc2 hk dX4_isNoSchedule_53 rfl ?_
            refine j_goto (tgt := 4) hk dX4_isNoSchedule_56 rfl ?_
            refine j_forget (i := 3) ?_
            exact ih4 (k + 1) (e ||| 0) (by omega) (by omega) (hk2.n hlt (by omega)) (by rw [Nat.or_zero]; exact hk3) (fun j hj => by
  by_cases q : j < k
  · exact hk4 j q
  · have q : j = k := by omega
    subst q
    rw [← hk2]; exact hnb)
          · refine j_ild4 hk dX4_isNoSchedule_46 rfl rfl ?_
            refine j_goto (tgt := 51) hk dX4_isNoSchedule_47 rfl ?_
            refine j_ior (a := e) (b := 1 * 2 ^ (oT (opAt rd k))) hk dX4_isNoSchedule_51 ?_
            refine j_ist1 hk dX4_isNoSchedule_52 rfl ?_
            refine j_iinc2 hk dX4_isNoSchedule_53 rfl ?_
            refine j_goto (tgt := 4) hk dX4_isNoSchedule_56 rfl ?_
            refine j_forget (i := 3) ?_
            exact ih4 (k + 1) (e ||| (1 * 2 ^ (oT (opAt rd k)))) (by omega) (by omega) (hk2.s hlt (by omega)) (Nat.or_lt_two_pow (n := 6) hk3 (by rw [Nat.one_mul]; exact Nat.pow_lt_pow_right (by decide) (by omega))) (fun j hj => by
  by_cases q : j < k
  · exact hk4 j q
  · have q : j = k := by omega
    subst q
    rw [← hk2]; exact hnb)
        · refine j_iconst (n := 1) hk dX4_isNoSchedule_30 ?_
          refine j_miret hk he rfl dX4_isNoSchedule_31 (Nat.le_refl _) (Nat.le_refl _) ?_
          have q := and_pow_ne.mp (show e &&& 1 * 2 ^ oT (opAt rd k) ≠ 0 by omega)
          exact ⟨by rw [noSch, schBad, any_range_t hlt (by rw [← hk2]; exact q)]; rfl, rfl, rfl⟩
  exact loop4 _ 0 0 (Nat.lt_succ_self _) (by omega) (fun b => by simp) (by omega) (fun j hj => by omega)
set_option maxHeartbeats 1500000 in
/-- writes(I)I -/
theorem mc_writes {l : Launch} {E : jE} {m : Nat} {ad : Nat → Nat} {A : Nat → Nat → Int} {F : Nat → Int} (hls : l.stackTraces = false) (hE : jSt E) {s : Nat} {S : Nat → List Op} {V : Nat → Nat} {rd : List Op} (hN : nowIs (A 0) S V) (hs : s < 4) (hrd : rdIs A F rd) (hl : rd.length ≤ 20) : mC l E yX4_writes cX4_writes 4 (some .int) 3 55 [.ref m, .int (jI ((s : Nat) : Int))] m ad A F (mQi E m ad (fun r A2 F2 => ((rd.length : Nat) : Int) = r ∧ nowIs (A2 0) (sset S s rd) V ∧ kA [0] A A2 ∧ F = F2)) := by
  refine m_start (own := "ScheduleAnalyzerModel") (vs := [some (.ref m), some (.int (jI ((s : Nat) : Int))), none, none]) hls (by decide +kernel) rfl rfl rfl (Nat.le_of_ble_eq_true rfl) ?_
  intro K hk he hl0 hF hG0
  refine j_ald4 hk dX4_writes_0 rfl rfl ?_
  refine j_mgetA hE hk 0 (by decide) rfl q2614 dX4_writes_1 ?_
  refine j_bipush (n := 21) hk rfl dX4_writes_4 ?_
  refine j_ild4 hk dX4_writes_6 rfl rfl ?_
  refine j_imul hk dX4_writes_7 ?_
  refine j_iconst (n := 0) hk dX4_writes_8 ?_
  refine j_mast hE hk hF 0 0 rfl (21 * s) (by omega) (by simp only [mLen]; omega) dX4_writes_9 ?_
  refine j_iconst (n := 0) hk dX4_writes_10 ?_
  refine j_ist2 hk dX4_writes_11 rfl ?_
  refine j_iconst (n := 0) hk dX4_writes_12 ?_
  refine j_ist3 hk dX4_writes_13 rfl ?_
  refine j_forget (i := 2) ?_
  have loop14 : ∀ (fuel14 : Nat) (A1 : Nat → Nat → Int) (k : Nat), rd.length - k < fuel14 → k ≤ rd.length → nowIs (A1 0) (sset S s (rd.take k)) V → kA [0] A A1 → jW K (mAs E m ad A1 F) 0 0 14 [some (.ref m), some (.int (jI ((s : Nat) : Int))), none, some (.int (jI ((k : Nat) : Int)))] [] := by
    intro fuel14
    induction fuel14 with
    | zero => intro A1 k hm; exact absurd hm (Nat.not_lt_zero _)
    | succ fuel14 ih14 =>
      intro A1 k hm14 hk1 hk2 hk3
      refine j_ild4 hk dX4_writes_14 rfl rfl ?_
      refine j_ald4 hk dX4_writes_15 rfl rfl ?_
      refine j_mget hE hk 12 (by decide) rfl q2626 dX4_writes_16 ?_
      refine j_top (z2 := ((rd.length : Nat) : Int)) (hrd.1) ?_
      refine j_icmp_ge hk (by omega) (by omega) dX4_writes_19 rfl (tgt := 40) (fun h19 => ?_) (fun h19 => ?_)
      · refine j_ald4 hk dX4_writes_40 rfl rfl ?_
        refine j_mget hE hk 12 (by decide) rfl q2626 dX4_writes_41 ?_
        refine j_top (z2 := ((rd.length : Nat) : Int)) (hrd.1) ?_
        refine j_miret hk he rfl dX4_writes_44 (Nat.le_refl _) (Nat.le_refl _) ?_
        have e : rd.take k = rd := List.take_of_length_le (by omega)
        rw [e] at hk2
        exact ⟨rfl, hk2, hk3, rfl⟩
      · have hlt : k < rd.length := by omega
        have hok := (hrd.2 k hlt).2
        have htk : ((sset S s (rd.take k)) s).length = k := by rw [sset_s, List.length_take]; omega
        refine j_ald4 hk dX4_writes_22 rfl rfl ?_
        refine j_ild4 hk dX4_writes_23 rfl rfl ?_
        refine j_ald4 hk dX4_writes_24 rfl rfl ?_
        refine j_mgetA hE hk 11 (by decide) rfl q2625 dX4_writes_25 ?_
        refine j_ild4 hk dX4_writes_28 rfl rfl ?_
        refine j_mald hE hk 11 5 rfl (k) (by omega) (by simp only [mLen]; omega) dX4_writes_29 ?_
        refine j_top (z2 := ((opV (opAt rd k) : Nat) : Int)) (by rw [hk3 11 (by decide)]; exact (hrd.2 k hlt).1) ?_
        refine j_mVi hE hk hl0 hF (mc_adds hls hE (A := A1) (F := F) (s := s) (o := (opAt rd k)) (S := sset S s (rd.take k)) (V := V) (hk2) (hs) (by omega) (hok)) 2 (lw_V q2797 q2799 qs59 q145 q2800) (by decide +kernel) rfl (by decide) (by decide) rfl (Nat.le_of_ble_eq_true rfl) dX4_writes_30 ?_
        intro rz1 Az2 Fz3 hc30
        obtain ⟨rfl, hc30⟩ := hc30
        obtain ⟨hN30, hk30, rfl⟩ := hc30
        refine j_ist2 hk dX4_writes_33 rfl ?_
        refine j_iinc3 hk dX4_writes_34 rfl ?_
        refine j_goto (tgt := 14) hk dX4_writes_37 rfl ?_
        refine j_forget (i := 2) ?_
        exact ih14 Az2 (k + 1) (by omega) (by omega) (by rw [sset_s, ← take_s hlt, sset_sset] at hN30; exact hN30) (hk3.tr hk30 (by decide))
  exact loop14 _ (mup A 0 (21 * s) 0) 0 (Nat.lt_succ_self _) (by omega) (by rw [mup_s]; exact hN.clear hs) (kA.up1)
set_option maxHeartbeats 1500000 in
/-- write(I)I -/
theorem mc_write {l : Launch} {E : jE} {m : Nat} {ad : Nat → Nat} {A : Nat → Nat → Int} {F : Nat → Int} (hls : l.stackTraces = false) (hE : jSt E) {si : Int} {g : SS} (hR : mR A F g) (hr : jr si) : mC l E yX4_write cX4_write 3 (some .int) 5 97 [.ref m, .int (jI si)] m ad A F (mQi E m ad (fun r A2 F2 => mP (sp_write g si) r A2 F2)) := by
  refine m_start (own := "ScheduleAnalyzerModel") (vs := [some (.ref m), some (.int (jI si)), none]) hls (by decide +kernel) rfl rfl rfl (Nat.le_of_ble_eq_true rfl) ?_
  intro K hk he hl0 hF hG0
  refine j_ald4 hk dX4_write_0 rfl rfl ?_
  refine j_mVv hE hk hl0 hF (mc_begin hls hE (A := A) (F := F)  (by first | assumption | omega)) 0 (lw_V q2745 q2747 qs52 q145 q2748) (by decide +kernel) rfl (by decide) (by decide) rfl (Nat.le_of_ble_eq_true rfl) dX4_write_1 ?_
  intro Az1 Fz2 hc1
  obtain ⟨hm, hb, ht, hka, hkf⟩ := hc1
  refine j_ild4 hk dX4_write_4 rfl rfl ?_
  refine j_sSi hk hl0 (sc_isSlot hls (v := si) (hr)) 1 (lw_S q2752 q2753 q145 q2754) (by decide +kernel) rfl (by decide) (by decide) rfl (Nat.le_of_ble_eq_true rfl) dX4_write_5 ?_
  refine j_ifneB hk dX4_write_8 rfl (tgt := 17) (fun h8 => ?_) (fun h8 => ?_)
  · have q1 := of_decide_eq_true h8
    obtain ⟨s, rfl⟩ : ∃ s : Nat, si = ((s : Nat) : Int) := ⟨si.toNat, by omega⟩
    have hi := hm.2.2.2.1
    have e1 : isSl (s : Int) = true := by simp [isSl]; omega
    refine j_ald4 hk dX4_write_17 rfl rfl ?_
    refine j_mVi hE hk hl0 hF (mc_readsAll hls hE (A := Az1) (F := Fz2) (inp := g.2.2.2.1) (⟨hi.1, hi.2⟩)) 0 (lw_V q2759 q2761 qs54 q145 q2762) (by decide +kernel) rfl (by decide) (by decide) rfl (Nat.le_of_ble_eq_true rfl) dX4_write_18 ?_
    intro rz3 Az4 Fz5 hc18
    obtain ⟨rfl, hc18⟩ := hc18
    obtain ⟨hat_18, hat60_18, hrd_18, hka_18, hkf_18⟩ := hc18
    have hm1 := hm.keep hka_18 hkf_18 (by decide) (by decide)
    have hb3 : nowIs (Az4 1) g.1.1 g.1.2 := by rw [hka_18 1 (by decide)]; exact hb
    refine j_ist2 hk dX4_write_21 rfl ?_
    refine j_ald4 hk dX4_write_22 rfl rfl ?_
    refine j_ild4 hk dX4_write_23 rfl rfl ?_
    refine j_ifeqB hk dX4_write_24 rfl (tgt := 34) (fun h24 => ?_) (fun h24 => ?_)
    · refine j_ald4 hk dX4_write_34 rfl rfl ?_
      refine j_mget hE hk 10 (by decide) rfl q2624 dX4_write_35 ?_
      refine j_top (z2 := (((pAll g.2.2.2.1).2.2 : Nat) : Int)) (hat_18) ?_
      refine j_mput hE hk hF 6 (by decide) rfl q2620 rfl rfl rfl rfl dX4_write_38 ?_
      refine j_ald4 hk dX4_write_41 rfl rfl ?_
      refine j_iconst (n := 0) hk dX4_write_42 ?_
      refine j_mput hE hk hF 9 (by decide) rfl q2623 rfl rfl rfl rfl dX4_write_43 ?_
      refine j_ild4 hk dX4_write_46 rfl rfl ?_
      refine j_ifneB hk dX4_write_47 rfl (tgt := 56) (fun h47 => by rw [h24] at h47; cases h47) (fun h47 => ?_)
      refine j_ald4 hk dX4_write_50 rfl rfl ?_
      refine j_iconst (n := 2) hk dX4_write_51 ?_
      refine j_mVi hE hk hl0 hF (mc_fail hls hE (A := Az4) (F := (iup (iup Fz5 6 (((pAll g.2.2.2.1).2.2 : Nat) : Int)) 9 0)) (n := 2) ) 1 (lw_V q2755 q2757 qs53 q145 q2758) (by decide +kernel) rfl (by decide) (by decide) rfl (Nat.le_of_ble_eq_true rfl) dX4_write_52 ?_
      rintro _ _ _ ⟨rfl, rfl, rfl⟩
      refine j_miret hk he rfl dX4_write_55 (Nat.le_refl _) (Nat.le_refl _) ?_
      have e : sp_write g (s : Int) = (2, 0, gIn (gEr g (((pAll g.2.2.2.1).2.2 : Nat) : Int)) []) := by simp [sp_write, e1, h24]
      rw [mP, e]
      exact ⟨rfl, iup_s _ _ _, (hm1.err (by omega) (by omega)).inp0.up4⟩
    · refine j_ald4 hk dX4_write_27 rfl rfl ?_
      refine j_mget hE hk 6 (by decide) rfl q2620 dX4_write_28 ?_
      refine j_top (z2 := g.2.2.2.2.2) (hm1.2.2.2.2.2.1) ?_
      refine j_goto (tgt := 38) hk dX4_write_31 rfl ?_
      refine j_mput hE hk hF 6 (by decide) rfl q2620 rfl rfl rfl rfl dX4_write_38 ?_
      refine j_ald4 hk dX4_write_41 rfl rfl ?_
      refine j_iconst (n := 0) hk dX4_write_42 ?_
      refine j_mput hE hk hF 9 (by decide) rfl q2623 rfl rfl rfl rfl dX4_write_43 ?_
      refine j_ild4 hk dX4_write_46 rfl rfl ?_
      refine j_ifneB hk dX4_write_47 rfl (tgt := 56) (fun h47 => ?_) (fun h47 => by rw [h24] at h47; cases h47)
      have hm2 : mR Az4 (iup (iup Fz5 6 g.2.2.2.2.2) 9 0) (gIn g []) := (hm1.err hm1.2.2.2.2.2.2.1 hm1.2.2.2.2.2.2.2).inp0
      have hrd : rdIs Az4 (iup (iup Fz5 6 g.2.2.2.2.2) 9 0) (pAll g.2.2.2.1).2.1 ∧ (pAll g.2.2.2.1).2.1.length ≤ 20 := ⟨(hrd_18 h24).1.keep rfl (by rw [iup_n (by decide), iup_n (by decide)]), (hrd_18 h24).2⟩
      refine j_ald4 hk dX4_write_56 rfl rfl ?_
      refine j_mVi hE hk hl0 hF (mc_isNoSchedule hls hE (A := Az4) (F := (iup (iup Fz5 6 g.2.2.2.2.2) 9 0)) (rd := (pAll g.2.2.2.1).2.1) (hrd.1) (by have := hrd.2; omega)) 0 (lw_V q2783 q2785 qs57 q145 q2786) (by decide +kernel) rfl (by decide) (by decide) rfl (Nat.le_of_ble_eq_true rfl) dX4_write_57 ?_
      rintro _ _ _ ⟨rfl, rfl, rfl⟩
      refine j_ifeqB hk dX4_write_60 rfl (tgt := 71) (fun h60 => ?_) (fun h60 => ?_)
      · refine j_ald4 hk dX4_write_71 rfl rfl ?_
        refine j_ald4 hk dX4_write_72 rfl rfl ?_
        refine j_ild4 hk dX4_write_73 rfl rfl ?_
        refine j_mVi hE hk hl0 hF (mc_writes hls hE (A := Az4) (F := (iup (iup Fz5 6 g.2.2.2.2.2) 9 0)) (s := s) (S := g.1.1) (V := g.1.2) (rd := (pAll g.2.2.2.1).2.1) (hm2.1) (by omega) (hrd.1) (hrd.2)) 1 (lw_V q2793 q2795 qs58 q145 q2796) (by decide +kernel) rfl (by decide) (by decide) rfl (Nat.le_of_ble_eq_true rfl) dX4_write_74 ?_
        intro rz9 Az10 Fz11 hc74
        obtain ⟨rfl, hc74⟩ := hc74
        obtain ⟨hN74, hk74, rfl⟩ := hc74
        refine j_mVi hE hk hl0 hF (mc_commit hls hE (A := Az10) (F := (iup (iup Fz5 6 g.2.2.2.2.2) 9 0)) (rv := ((((pAll g.2.2.2.1).2.1).length : Nat) : Int)) (g := gIn g []) (hm2.2.keep (js := []) hk74 kF.rf (by decide) (by decide)) (by rw [hk74 1 (by decide)]; exact hb3) (hN74)) 1 (lw_V q2805 q2807 qs61 q145 q2808) (by decide +kernel) rfl (by decide) (by decide) rfl (Nat.le_of_ble_eq_true rfl) dX4_write_77 ?_
        intro rz12 Az13 Fz14 hc77
        obtain ⟨rfl, hc77⟩ := hc77
        obtain ⟨hp, hp3, hp5⟩ := hc77
        refine j_miret hk he rfl dX4_write_80 (Nat.le_refl _) (Nat.le_refl _) ?_
        have e : sp_write g (s : Int) = (0, (((pAll g.2.2.2.1).2.1.length : Nat) : Int), gpush (gIn g []) (sset g.1.1 s (pAll g.2.2.2.1).2.1, g.1.2)) := by simp [sp_write, e1, h24, h60]
        rw [mP, e]
        exact ⟨rfl, by rw [hp5 4 (by decide), iup_n (by decide), iup_n (by decide), hkf_18 4 (by decide)]; exact ht, hp⟩
      · refine j_ald4 hk dX4_write_63 rfl rfl ?_
        refine j_iconst (n := 3) hk dX4_write_64 ?_
        refine j_mVi hE hk hl0 hF (mc_fail hls hE (A := Az4) (F := (iup (iup Fz5 6 g.2.2.2.2.2) 9 0)) (n := 3) ) 1 (lw_V q2755 q2757 qs53 q145 q2758) (by decide +kernel) rfl (by decide) (by decide) rfl (Nat.le_of_ble_eq_true rfl) dX4_write_65 ?_
        rintro _ _ _ ⟨rfl, rfl, rfl⟩
        refine j_goto (tgt := 80) hk dX4_write_68 rfl ?_
        refine j_miret hk he rfl dX4_write_80 (Nat.le_refl _) (Nat.le_refl _) ?_
        have e : sp_write g (s : Int) = (3, 0, gIn g []) := by simp [sp_write, e1, h24, h60]
        rw [mP, e]
        exact ⟨rfl, iup_s _ _ _, hm2.up4⟩
  · refine j_ald4 hk dX4_write_11 rfl rfl ?_
    refine j_iconst (n := 1) hk dX4_write_12 ?_
    refine j_mVi hE hk hl0 hF (mc_fail hls hE (A := Az1) (F := Fz2) (n := 1) ) 1 (lw_V q2755 q2757 qs53 q145 q2758) (by decide +kernel) rfl (by decide) (by decide) rfl (Nat.le_of_ble_eq_true rfl) dX4_write_13 ?_
    rintro _ _ _ ⟨rfl, rfl, rfl⟩
    refine j_miret hk he rfl dX4_write_16 (Nat.le_refl _) (Nat.le_refl _) ?_
    have e : sp_write g si = (1, 0, g) := by simp [sp_write, isSl, h8]
    rw [mP, e]
    exact ⟨rfl, iup_s _ _ _, hm.up4⟩
