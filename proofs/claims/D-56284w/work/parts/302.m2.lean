set_option maxHeartbeats 1500000 in
/-- layOne(I)V -/
theorem mc_layOne {l : Launch} {E : jE} {m : Nat} {ad : Nat → Nat} {A : Nat → Nat → Int} {F : Nat → Int} (hls : l.stackTraces = false) (hE : jSt E) {o : Op} {L : List Op} (hL : laid A F L) (hlt : L.length < 20) (ho : opOK o) : mC l E yX4_layOne cX4_layOne 2 (none) 2 32 [.ref m, .int (jI ((opV o : Nat) : Int))] m ad A F (mQv E m ad (fun A2 F2 => laid A2 F2 (L ++ [o]) ∧ kA [13, 14, 15] A A2 ∧ kF [19] F F2)) := by
  refine m_start (own := "ScheduleAnalyzerModel") (vs := [some (.ref m), some (.int (jI ((opV o : Nat) : Int)))]) hls (by decide +kernel) rfl rfl rfl (Nat.le_of_ble_eq_true rfl) ?_
  intro K hk he hl0 hF hG0
  have o6 := opV_lt ho
  obtain ⟨o1, o2, o3, o4, o5⟩ := ho
  have ho : opOK o := ⟨o1, o2, o3, o4, o5⟩
  refine j_ald4 hk dX4_layOne_0 rfl rfl ?_
  refine j_mgetA hE hk 13 (by decide) rfl q2627 dX4_layOne_1 ?_
  refine j_ald4 hk dX4_layOne_4 rfl rfl ?_
  refine j_mget hE hk 19 (by decide) rfl q2633 dX4_layOne_5 ?_
  refine j_top (z2 := ((L.length : Nat) : Int)) (hL.1) ?_
  refine j_ild4 hk dX4_layOne_8 rfl rfl ?_
  refine j_sSi hk hl0 (sc_kindOf hls (c := opV o) (by first | assumption | omega)) 1 (lw_S q2790 q2791 q145 q2792) (by decide +kernel) rfl (by decide) (by decide) rfl (Nat.le_of_ble_eq_true rfl) dX4_layOne_9 ?_
  refine j_top (z2 := ((oK o : Nat) : Int)) (by rw [opV_k ho]) ?_
  refine j_mast hE hk hF 13 6 rfl (L.length) (by omega) (by simp only [mLen]; omega) dX4_layOne_12 ?_
  refine j_ald4 hk dX4_layOne_13 rfl rfl ?_
  refine j_mgetA hE hk 14 (by decide) rfl q2628 dX4_layOne_14 ?_
  refine j_ald4 hk dX4_layOne_17 rfl rfl ?_
  refine j_mget hE hk 19 (by decide) rfl q2633 dX4_layOne_18 ?_
  refine j_top (z2 := ((L.length : Nat) : Int)) (hL.1) ?_
  refine j_ild4 hk dX4_layOne_21 rfl rfl ?_
  refine j_sSi hk hl0 (sc_transactionOf hls (c := opV o) (by first | assumption | omega)) 1 (lw_S q2787 q2788 q145 q2789) (by decide +kernel) rfl (by decide) (by decide) rfl (Nat.le_of_ble_eq_true rfl) dX4_layOne_22 ?_
  refine j_top (z2 := ((oT o : Nat) : Int)) (by rw [opV_t ho]) ?_
  refine j_mast hE hk hF 14 7 rfl (L.length) (by omega) (by simp only [mLen]; omega) dX4_layOne_25 ?_
  refine j_ald4 hk dX4_layOne_26 rfl rfl ?_
  refine j_mgetA hE hk 15 (by decide) rfl q2629 dX4_layOne_27 ?_
  refine j_ald4 hk dX4_layOne_30 rfl rfl ?_
  refine j_mget hE hk 19 (by decide) rfl q2633 dX4_layOne_31 ?_
  refine j_top (z2 := ((L.length : Nat) : Int)) (hL.1) ?_
  refine j_ild4 hk dX4_layOne_34 rfl rfl ?_
  refine j_bipush (n := 10) hk rfl dX4_layOne_35 ?_
  refine j_irem hk (by omega) dX4_layOne_37 ?_
  refine j_top (z2 := ((oI o : Nat) : Int)) (by rw [← opV_i ho]; rfl) ?_
  refine j_mast hE hk hF 15 8 rfl (L.length) (by omega) (by simp only [mLen]; omega) dX4_layOne_38 ?_
  refine j_ald4 hk dX4_layOne_39 rfl rfl ?_
  refine j_dup hk rfl dX4_layOne_40 ?_
  refine j_mget hE hk 19 (by decide) rfl q2633 dX4_layOne_41 ?_
  refine j_top (z2 := ((L.length : Nat) : Int)) (hL.1) ?_
  refine j_iconst (n := 1) hk dX4_layOne_44 ?_
  refine j_iadd hk dX4_layOne_45 ?_
  refine j_mput hE hk hF 19 (by decide) rfl q2633 rfl rfl rfl rfl dX4_layOne_46 ?_
  refine j_mvret hk he dX4_layOne_49 (Nat.le_refl _) (Nat.le_refl _) ?_
  exact ⟨hL.push hlt ho, ((kA.rf.up (by decide)).up (by decide)).up (by decide), kF.rf.up (by decide)⟩
set_option maxHeartbeats 1500000 in
/-- lay(IZ)V -/
theorem mc_lay {l : Launch} {E : jE} {m : Nat} {ad : Nat → Nat} {A : Nat → Nat → Int} {F : Nat → Int} (hls : l.stackTraces = false) (hE : jSt E) {s : Nat} {b : Bool} {S : Nat → List Op} {V : Nat → Nat} (hN : nowIs (A 0) S V) (hs : s < 4) : mC l E yX4_lay cX4_lay 5 (none) 4 81 [.ref m, .int (jI ((s : Nat) : Int)), .int (jI (jB b))] m ad A F (mQv E m ad (fun A2 F2 => laid A2 F2 (layL (S s) b) ∧ F2 20 = ((pmask (layL (S s) b) : Nat) : Int) ∧ kA [13, 14, 15] A A2 ∧ kF [19, 20] F F2)) := by
  refine m_start (own := "ScheduleAnalyzerModel") (vs := [some (.ref m), some (.int (jI ((s : Nat) : Int))), some (.int (jI (jB b))), none, none]) hls (by decide +kernel) rfl rfl rfl (Nat.le_of_ble_eq_true rfl) ?_
  intro K hk he hl0 hF hG0
  have hL := hN.len hs
  have hsl := (hN.1 s hs).1
  refine j_ald4 hk dX4_lay_0 rfl rfl ?_
  refine j_iconst (n := 0) hk dX4_lay_1 ?_
  refine j_mput hE hk hF 19 (by decide) rfl q2633 rfl rfl rfl rfl dX4_lay_2 ?_
  refine j_ald4 hk dX4_lay_5 rfl rfl ?_
  refine j_iconst (n := 0) hk dX4_lay_6 ?_
  refine j_mput hE hk hF 20 (by decide) rfl q2634 rfl rfl rfl rfl dX4_lay_7 ?_
  refine j_iconst (n := 0) hk dX4_lay_10 ?_
  refine j_ist3 hk dX4_lay_11 rfl ?_
  have loop12 : ∀ (fuel12 : Nat) (A1 : Nat → Nat → Int) (F1 : Nat → Int) (k : Nat), (S s).length - k < fuel12 → k ≤ (S s).length → laid A1 F1 (((S s).take k).filter (fun o => !(b && opHas (S s) (oT o) 3 3))) → F1 20 = ((pmask (((S s).take k).filter (fun o => !(b && opHas (S s) (oT o) 3 3))) : Nat) : Int) → kA [13, 14, 15] A A1 → kF [19, 20] F F1 → jW K (mAs E m ad A1 F1) 0 0 12 [some (.ref m), some (.int (jI ((s : Nat) : Int))), some (.int (jI (jB b))), some (.int (jI ((k : Nat) : Int))), none] [] := by
    intro fuel12
    induction fuel12 with
    | zero => intro A1 F1 k hm; exact absurd hm (Nat.not_lt_zero _)
    | succ fuel12 ih12 =>
      intro A1 F1 k hm12 hk1 hk2 hk3 hk4 hk5
      refine j_ild4 hk dX4_lay_12 rfl rfl ?_
      have hN1 : nowIs (A1 0) S V := hN.keep (hk4 0 (by decide))
      refine j_ald4 hk dX4_lay_13 rfl rfl ?_
      refine j_ild4 hk dX4_lay_14 rfl rfl ?_
      refine j_mVi hE hk hl0 hF (mc_count hls hE (A := A1) (F := F1) (s := s) (by first | assumption | omega) (by first | assumption | omega)) 1 (lw_V q2801 q2803 qs60 q145 q2804) (by decide +kernel) rfl (by decide) (by decide) rfl (Nat.le_of_ble_eq_true rfl) dX4_lay_15 ?_
      rintro _ _ _ ⟨rfl, rfl, rfl⟩
      refine j_icmp_ge hk (by omega) (by omega) dX4_lay_18 rfl (tgt := 78) (fun h18 => ?_) (fun h18 => ?_)
      · refine j_mvret hk he dX4_lay_78 (Nat.le_refl _) (Nat.le_refl _) ?_
        have e : (S s).take k = S s := List.take_of_length_le (by omega)
        rw [e] at hk2 hk3
        exact ⟨hk2, hk3, hk4, hk5⟩
      · have hlt : k < (S s).length := by omega
        obtain ⟨o1, o2, o3, o4, o5⟩ := hN.ok hs hlt
        have ho : opOK (opAt (S s) k) := hN.ok hs hlt
        have o6 := opV_lt ho
        have hfl : (((S s).take k).filter (fun o => !(b && opHas (S s) (oT o) 3 3))).length < 20 := by have := List.length_filter_le (fun o => !(b && opHas (S s) (oT o) 3 3)) ((S s).take k); rw [List.length_take] at this; omega
        refine j_ald4 hk dX4_lay_21 rfl rfl ?_
        refine j_ild4 hk dX4_lay_22 rfl rfl ?_
        refine j_ild4 hk dX4_lay_23 rfl rfl ?_
        refine j_mVi hE hk hl0 hF (mc_code hls hE (A := A1) (F := F1) (s := s) (i := k) (by first | assumption | omega) (by first | assumption | omega) (by first | assumption | omega)) 2 (lw_V q2821 q2823 qs64 q145 q2824) (by decide +kernel) rfl (by decide) (by decide) rfl (Nat.le_of_ble_eq_true rfl) dX4_lay_24 ?_
        rintro _ _ _ ⟨rfl, rfl, rfl⟩
        refine j_sSi hk hl0 (sc_transactionOf hls (c := opV (opAt (S s) k)) (by first | assumption | omega)) 1 (lw_S q2787 q2788 q145 q2789) (by decide +kernel) rfl (by decide) (by decide) rfl (Nat.le_of_ble_eq_true rfl) dX4_lay_27 ?_
        refine j_top (z2 := ((oT (opAt (S s) k) : Nat) : Int)) (by rw [opV_t ho]) ?_
        refine j_ist4 hk dX4_lay_30 rfl ?_
        refine j_ild4 hk dX4_lay_32 rfl rfl ?_
        refine j_ifeqB hk dX4_lay_33 rfl (tgt := 49) (fun h33 => ?_) (fun h33 => ?_)
        · refine j_ald4 hk dX4_lay_49 rfl rfl ?_
          refine j_ald4 hk dX4_lay_50 rfl rfl ?_
          refine j_ild4 hk dX4_lay_51 rfl rfl ?_
          refine j_ild4 hk dX4_lay_52 rfl rfl ?_
          refine j_mVi hE hk hl0 hF (mc_code hls hE (A := A1) (F := F1) (s := s) (i := k) (by first | assumption | omega) (by first | assumption | omega) (by first | assumption | omega)) 2 (lw_V q2821 q2823 qs64 q145 q2824) (by decide +kernel) rfl (by decide) (by decide) rfl (Nat.le_of_ble_eq_true rfl) dX4_lay_53 ?_
          rintro _ _ _ ⟨rfl, rfl, rfl⟩
          refine j_mVv hE hk hl0 hF (mc_layOne hls hE (A := A1) (F := F1) (o := (opAt (S s) k)) (L := (((S s).take k).filter (fun o => !(b && opHas (S s) (oT o) 3 3)))) (hk2) (hfl) (ho)) 1 (lw_V q2897 q2899 qs76 q145 q2900) (by decide +kernel) rfl (by decide) (by decide) rfl (Nat.le_of_ble_eq_true rfl) dX4_lay_56 ?_
          intro Az1 Fz2 hc56
          refine j_ald4 hk dX4_lay_59 rfl rfl ?_
          refine j_dup hk rfl dX4_lay_60 ?_
          have he : (((S s).take k).filter (fun o => !(b && opHas (S s) (oT o) 3 3))) ++ [opAt (S s) k] = ((S s).take (k + 1)).filter (fun o => !(b && opHas (S s) (oT o) 3 3)) := by rw [flt_s _ hlt]; simp_all
          refine j_mget hE hk 20 (by decide) rfl q2634 dX4_lay_61 ?_
          refine j_top (z2 := ((pmask (((S s).take k).filter (fun o => !(b && opHas (S s) (oT o) 3 3))) : Nat) : Int)) (by rw [hc56.2.2 20 (by decide)]; exact hk3) ?_
          refine j_iconst (n := 1) hk dX4_lay_64 ?_
          refine j_ild hk dX4_lay_65 rfl ?_
          refine j_ishl (a := 1) (b := oT (opAt (S s) k)) hk (by omega) dX4_lay_67 ?_
          refine j_ior (a := pmask (((S s).take k).filter (fun o => !(b && opHas (S s) (oT o) 3 3)))) (b := 1 * 2 ^ (oT (opAt (S s) k))) hk dX4_lay_68 ?_
          refine j_mput hE hk hF 20 (by decide) rfl q2634 rfl rfl rfl rfl dX4_lay_69 ?_
          refine j_iinc3 hk dX4_lay_72 rfl ?_
          refine j_goto (tgt := 12) hk dX4_lay_75 rfl ?_
          refine j_forget (i := 4) ?_
          exact ih12 Az1 (iup Fz2 20 (((pmask (((S s).take k).filter (fun o => !(b && opHas (S s) (oT o) 3 3)))) ||| (1 * 2 ^ (oT (opAt (S s) k))) : Nat) : Int)) (k + 1) (by omega) (by omega) (he ▸ hc56.1) (by rw [iup_s, ← he, pmask_push, Nat.one_mul]) (hk4.tr hc56.2.1 (by decide)) ((hk5.tr hc56.2.2 (by decide)).up (by decide))
        · refine j_ald4 hk dX4_lay_36 rfl rfl ?_
          refine j_ild4 hk dX4_lay_37 rfl rfl ?_
          refine j_ild hk dX4_lay_38 rfl ?_
          refine j_mVi hE hk hl0 hF (mc_isAborted hls hE (A := A1) (F := F1) (s := s) (t := oT (opAt (S s) k)) (by first | assumption | omega) (by first | assumption | omega) (by first | assumption | omega)) 2 (lw_V q2893 q2895 qs75 q145 q2896) (by decide +kernel) rfl (by decide) (by decide) rfl (Nat.le_of_ble_eq_true rfl) dX4_lay_40 ?_
          rintro _ _ _ ⟨rfl, rfl, rfl⟩
          refine j_ifeqB hk dX4_lay_43 rfl (tgt := 49) (fun h43 => ?_) (fun h43 => ?_)
          · refine j_ald4 hk dX4_lay_49 rfl rfl ?_
            refine j_ald4 hk dX4_lay_50 rfl rfl ?_
            refine j_ild4 hk dX4_lay_51 rfl rfl ?_
            refine j_ild4 hk dX4_lay_52 rfl rfl ?_
            refine j_mVi hE hk hl0 hF (mc_code hls hE (A := A1) (F := F1) (s := s) (i := k) (by first | assumption | omega) (by first | assumption | omega) (by first | assumption | omega)) 2 (lw_V q2821 q2823 qs64 q145 q2824) (by decide +kernel) rfl (by decide) (by decide) rfl (Nat.le_of_ble_eq_true rfl) dX4_lay_53 ?_
            rintro _ _ _ ⟨rfl, rfl, rfl⟩
            refine j_mVv hE hk hl0 hF (mc_layOne hls hE (A := A1) (F := F1) (o := (opAt (S s) k)) (L := (((S s).take k).filter (fun o => !(b && opHas (S s) (oT o) 3 3)))) (hk2) (hfl) (ho)) 1 (lw_V q2897 q2899 qs76 q145 q2900) (by decide +kernel) rfl (by decide) (by decide) rfl (Nat.le_of_ble_eq_true rfl) dX4_lay_56 ?_
            intro Az3 Fz4 hc56
            refine j_ald4 hk dX4_lay_59 rfl rfl ?_
            refine j_dup hk rfl dX4_lay_60 ?_
            have he : (((S s).take k).filter (fun o => !(b && opHas (S s) (oT o) 3 3))) ++ [opAt (S s) k] = ((S s).take (k + 1)).filter (fun o => !(b && opHas (S s) (oT o) 3 3)) := by rw [flt_s _ hlt]; simp_all
            refine j_mget hE hk 20 (by decide) rfl q2634 dX4_lay_61 ?_
            refine j_top (z2 := ((pmask (((S s).take k).filter (fun o => !(b && opHas (S s) (oT o) 3 3))) : Nat) : Int)) (by rw [hc56.2.2 20 (by decide)]; exact hk3) ?_
            refine j_iconst (n := 1) hk dX4_lay_64 ?_
            refine j_ild hk dX4_lay_65 rfl ?_
            refine j_ishl (a := 1) (b := oT (opAt (S s) k)) hk (by omega) dX4_lay_67 ?_
            refine j_ior (a := pmask (((S s).take k).filter (fun o => !(b && opHas (S s) (oT o) 3 3)))) (b := 1 * 2 ^ (oT (opAt (S s) k))) hk dX4_lay_68 ?_
            refine j_mput hE hk hF 20 (by decide) rfl q2634 rfl rfl rfl rfl dX4_lay_69 ?_
            refine j_iinc3 hk dX4_lay_72 rfl ?_
            refine j_goto (tgt := 12) hk dX4_lay_75 rfl ?_
            refine j_forget (i := 4) ?_
            exact ih12 Az3 (iup Fz4 20 (((pmask (((S s).take k).filter (fun o => !(b && opHas (S s) (oT o) 3 3)))) ||| (1 * 2 ^ (oT (opAt (S s) k))) : Nat) : Int)) (k + 1) (by omega) (by omega) (he ▸ hc56.1) (by rw [iup_s, ← he, pmask_push, Nat.one_mul]) (hk4.tr hc56.2.1 (by decide)) ((hk5.tr hc56.2.2 (by decide)).up (by decide))
          · refine j_goto (tgt := 72) hk dX4_lay_46 rfl ?_
            refine j_iinc3 hk dX4_lay_72 rfl ?_
            refine j_goto (tgt := 12) hk dX4_lay_75 rfl ?_
            refine j_forget (i := 4) ?_
            exact ih12 A1 F1 (k + 1) (by omega) (by omega) (by rw [flt_s _ hlt]; simpa [h33, h43] using hk2) (by rw [flt_s _ hlt]; simpa [h33, h43] using hk3) (hk4) (hk5)
  exact loop12 _ A (iup (iup F 19 0) 20 0) 0 (Nat.lt_succ_self _) (Nat.zero_le _) (laid.nil rfl) (rfl) (kA.rf) ((kF.rf.up (by decide)).up (by decide))
set_option maxHeartbeats 1500000 in
/-- conflict(II)Z -/
theorem mc_conflict {l : Launch} {E : jE} {m : Nat} {ad : Nat → Nat} {A : Nat → Nat → Int} {F : Nat → Int} (hls : l.stackTraces = false) (hE : jSt E) {i : Nat} {j : Nat} {L : List Op} (hL : laid A F L) (hi : i < L.length) (hj : j < L.length) : mC l E yX4_conflict cX4_conflict 3 (some .boolean) 2 33 [.ref m, .int (jI ((i : Nat) : Int)), .int (jI ((j : Nat) : Int))] m ad A F (mQi E m ad (fun r A2 F2 => jB (opConf (opAt L i) (opAt L j)) = r ∧ A = A2 ∧ F = F2)) := by
  refine m_start (own := "ScheduleAnalyzerModel") (vs := [some (.ref m), some (.int (jI ((i : Nat) : Int))), some (.int (jI ((j : Nat) : Int)))]) hls (by decide +kernel) rfl rfl rfl (Nat.le_of_ble_eq_true rfl) ?_
  intro K hk he hl0 hF hG0
  have hlen := hL.len
  obtain ⟨o1, o2, o3, o4, o5⟩ := hL.ok hi
  obtain ⟨p1, p2, p3, p4, p5⟩ := hL.ok hj
  obtain ⟨l1, l2, l3⟩ := hL.2.2 i hi
  obtain ⟨m1, m2, m3⟩ := hL.2.2 j hj
  refine j_ald4 hk dX4_conflict_0 rfl rfl ?_
  refine j_ild4 hk dX4_conflict_1 rfl rfl ?_
  refine j_mVi hE hk hl0 hF (mc_isAccess hls hE (A := A) (F := F) (k := i) (by first | assumption | omega) (by first | assumption | omega)) 1 (lw_V q2905 q2907 qs78 q145 q2908) (by decide +kernel) rfl (by decide) (by decide) rfl (Nat.le_of_ble_eq_true rfl) dX4_conflict_2 ?_
  rintro _ _ _ ⟨rfl, rfl, rfl⟩
  refine j_ifeqB hk dX4_conflict_5 rfl (tgt := 66) (fun h5 => ?_) (fun h5 => ?_)
  · refine j_iconst (n := 0) hk dX4_conflict_66 ?_
    refine j_miret hk he rfl dX4_conflict_67 (Nat.le_refl _) (Nat.le_refl _) ?_
    exact ⟨by simp_all [opConf, jB]; try omega, rfl, rfl⟩
  · refine j_ald4 hk dX4_conflict_8 rfl rfl ?_
    refine j_ild4 hk dX4_conflict_9 rfl rfl ?_
    refine j_mVi hE hk hl0 hF (mc_isAccess hls hE (A := A) (F := F) (k := j) (by first | assumption | omega) (by first | assumption | omega)) 1 (lw_V q2905 q2907 qs78 q145 q2908) (by decide +kernel) rfl (by decide) (by decide) rfl (Nat.le_of_ble_eq_true rfl) dX4_conflict_10 ?_
    rintro _ _ _ ⟨rfl, rfl, rfl⟩
    refine j_ifeqB hk dX4_conflict_13 rfl (tgt := 66) (fun h13 => ?_) (fun h13 => ?_)
    · refine j_iconst (n := 0) hk dX4_conflict_66 ?_
      refine j_miret hk he rfl dX4_conflict_67 (Nat.le_refl _) (Nat.le_refl _) ?_
      exact ⟨by simp_all [opConf, jB]; try omega, rfl, rfl⟩
    · refine j_ald4 hk dX4_conflict_16 rfl rfl ?_
      refine j_mgetA hE hk 14 (by decide) rfl q2628 dX4_conflict_17 ?_
      refine j_ild4 hk dX4_conflict_20 rfl rfl ?_
      refine j_mald hE hk 14 7 rfl (i) (by omega) (by simp only [mLen]; omega) dX4_conflict_21 ?_
      refine j_top (z2 := ((oT (opAt L i) : Nat) : Int)) (l2) ?_
      refine j_ald4 hk dX4_conflict_22 rfl rfl ?_
      refine j_mgetA hE hk 14 (by decide) rfl q2628 dX4_conflict_23 ?_
      refine j_ild4 hk dX4_conflict_26 rfl rfl ?_
      refine j_mald hE hk 14 7 rfl (j) (by omega) (by simp only [mLen]; omega) dX4_conflict_27 ?_
      refine j_top (z2 := ((oT (opAt L j) : Nat) : Int)) (m2) ?_
      refine j_icmp_eq hk (by omega) (by omega) dX4_conflict_28 rfl (tgt := 66) (fun h28 => ?_) (fun h28 => ?_)
      · refine j_iconst (n := 0) hk dX4_conflict_66 ?_
        refine j_miret hk he rfl dX4_conflict_67 (Nat.le_refl _) (Nat.le_refl _) ?_
        exact ⟨by simp_all [opConf, jB]; try omega, rfl, rfl⟩
      · refine j_ald4 hk dX4_conflict_31 rfl rfl ?_
        refine j_mgetA hE hk 15 (by decide) rfl q2629 dX4_conflict_32 ?_
        refine j_ild4 hk dX4_conflict_35 rfl rfl ?_
        refine j_mald hE hk 15 8 rfl (i) (by omega) (by simp only [mLen]; omega) dX4_conflict_36 ?_
        refine j_top (z2 := ((oI (opAt L i) : Nat) : Int)) (l3) ?_
        refine j_ald4 hk dX4_conflict_37 rfl rfl ?_
        refine j_mgetA hE hk 15 (by decide) rfl q2629 dX4_conflict_38 ?_
        refine j_ild4 hk dX4_conflict_41 rfl rfl ?_
        refine j_mald hE hk 15 8 rfl (j) (by omega) (by simp only [mLen]; omega) dX4_conflict_42 ?_
        refine j_top (z2 := ((oI (opAt L j) : Nat) : Int)) (m3) ?_
        refine j_icmp_ne hk (by omega) (by omega) dX4_conflict_43 rfl (tgt := 66) (fun h43 => ?_) (fun h43 => ?_)
        · refine j_iconst (n := 0) hk dX4_conflict_66 ?_
          refine j_miret hk he rfl dX4_conflict_67 (Nat.le_refl _) (Nat.le_refl _) ?_
          exact ⟨by simp_all [opConf, jB]; try omega, rfl, rfl⟩
        · refine j_ald4 hk dX4_conflict_46 rfl rfl ?_
          refine j_mgetA hE hk 13 (by decide) rfl q2627 dX4_conflict_47 ?_
          refine j_ild4 hk dX4_conflict_50 rfl rfl ?_
          refine j_mald hE hk 13 6 rfl (i) (by omega) (by simp only [mLen]; omega) dX4_conflict_51 ?_
          refine j_top (z2 := ((oK (opAt L i) : Nat) : Int)) (l1) ?_
          refine j_ald4 hk dX4_conflict_52 rfl rfl ?_
          refine j_mgetA hE hk 13 (by decide) rfl q2627 dX4_conflict_53 ?_
          refine j_ild4 hk dX4_conflict_56 rfl rfl ?_
          refine j_mald hE hk 13 6 rfl (j) (by omega) (by simp only [mLen]; omega) dX4_conflict_57 ?_
          refine j_top (z2 := ((oK (opAt L j) : Nat) : Int)) (m1) ?_
          refine j_iadd hk dX4_conflict_58 ?_
          refine j_if_le hk (by omega) dX4_conflict_59 rfl (tgt := 66) (fun h59 => ?_) (fun h59 => ?_)
          · refine j_iconst (n := 0) hk dX4_conflict_66 ?_
            refine j_miret hk he rfl dX4_conflict_67 (Nat.le_refl _) (Nat.le_refl _) ?_
            exact ⟨by simp_all [opConf, jB]; try omega, rfl, rfl⟩
          · refine j_iconst (n := 1) hk dX4_conflict_62 ?_
            refine j_goto (tgt := 67) hk dX4_conflict_63 rfl ?_
            refine j_miret hk he rfl dX4_conflict_67 (Nat.le_refl _) (Nat.le_refl _) ?_
            exact ⟨by simp_all [opConf, jB]; try omega, rfl, rfl⟩
