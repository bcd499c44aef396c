set_option maxHeartbeats 1500000 in
/-- serializes(II)I -/
theorem mc_serializes {l : Launch} {E : jE} {m : Nat} {ad : Nat → Nat} {A : Nat → Nat → Int} {F : Nat → Int} (hls : l.stackTraces = false) (hE : jSt E) {t : Nat} {n : Nat} {S : Nat → List Op} {V : Nat → Nat} {L : List Op} {o : List Nat} (hN : nowIs (A 0) S V) (ht : t < 4) (hL : laid A F L) (ho : o.Nodup) (hon : n = o.length) (hn5 : n ≤ 5) (hor : ∀ r, r < o.length → A 17 r = ((o.getD r 0 : Nat) : Int)) (ho5 : ∀ x, x ∈ o → x ≤ 5) : mC l E yX4_serializes cX4_serializes 6 (some .int) 3 55 [.ref m, .int (jI ((t : Nat) : Int)), .int (jI ((n : Nat) : Int))] m ad A F (mQi E m ad (fun r A2 F2 => (((arrL L o).length : Nat) : Int) = r ∧ nowIs (A2 0) (sset S t (arrL L o)) V ∧ kA [0] A A2 ∧ F = F2)) := by
  refine m_start (own := "ScheduleAnalyzerModel") (vs := [some (.ref m), some (.int (jI ((t : Nat) : Int))), some (.int (jI ((n : Nat) : Int))), none, none, none]) hls (by decide +kernel) rfl rfl rfl (Nat.le_of_ble_eq_true rfl) ?_
  intro K hk he hl0 hF hG0
  have hlen := hL.len
  refine j_ald4 hk dX4_serializes_0 rfl rfl ?_
  refine j_mgetA hE hk 0 (by decide) rfl q2614 dX4_serializes_1 ?_
  refine j_bipush (n := 21) hk rfl dX4_serializes_4 ?_
  refine j_ild4 hk dX4_serializes_6 rfl rfl ?_
  refine j_imul hk dX4_serializes_7 ?_
  refine j_iconst (n := 0) hk dX4_serializes_8 ?_
  refine j_mast hE hk hF 0 0 rfl (21 * t) (by omega) (by simp only [mLen]; omega) dX4_serializes_9 ?_
  refine j_iconst (n := 0) hk dX4_serializes_10 ?_
  refine j_ist3 hk dX4_serializes_11 rfl ?_
  refine j_iconst (n := 0) hk dX4_serializes_12 ?_
  refine j_ist4 hk dX4_serializes_13 rfl ?_
  refine j_forget (i := 3) ?_
  have loop15 : ∀ (fuel15 : Nat) (A1 : Nat → Nat → Int) (r : Nat), n - r < fuel15 → r ≤ n → nowIs (A1 0) (sset S t (arrL L (o.take r))) V → kA [0] A A1 → jW K (mAs E m ad A1 F) 0 0 15 [some (.ref m), some (.int (jI ((t : Nat) : Int))), some (.int (jI ((n : Nat) : Int))), none, some (.int (jI ((r : Nat) : Int))), none] [] := by
    intro fuel15
    induction fuel15 with
    | zero => intro A1 r hm; exact absurd hm (Nat.not_lt_zero _)
    | succ fuel15 ih15 =>
      intro A1 r hm15 hr hN1 hk1
      refine j_ild hk dX4_serializes_15 rfl ?_
      refine j_ild4 hk dX4_serializes_17 rfl rfl ?_
      refine j_icmp_ge hk (by omega) (by omega) dX4_serializes_18 rfl (tgt := 92) (fun h18 => ?_) (fun h18 => ?_)
      · have e : o.take r = o := List.take_of_length_le (by omega)
        rw [e] at hN1
        refine j_ald4 hk dX4_serializes_92 rfl rfl ?_
        refine j_ild4 hk dX4_serializes_93 rfl rfl ?_
        refine j_mVi hE hk hl0 hF (mc_count hls hE (A := A1) (F := F) (s := t) (S := sset S t (arrL L o)) (V := V) (hN1) (ht)) 1 (lw_V q2801 q2803 qs60 q145 q2804) (by decide +kernel) rfl (by decide) (by decide) rfl (Nat.le_of_ble_eq_true rfl) dX4_serializes_94 ?_
        rintro _ _ _ ⟨rfl, rfl, rfl⟩
        refine j_top (z2 := (((arrL L o).length : Nat) : Int)) (by rw [sset_s]) ?_
        refine j_miret hk he rfl dX4_serializes_97 (Nat.le_refl _) (Nat.le_refl _) ?_
        exact ⟨rfl, hN1, hk1, rfl⟩
      · have hrl : r < o.length := by omega
        refine j_iconst (n := 0) hk dX4_serializes_21 ?_
        refine j_ist5 hk dX4_serializes_22 rfl ?_
        have loop24 : ∀ (fuel24 : Nat) (A2 : Nat → Nat → Int) (k : Nat), L.length - k < fuel24 → k ≤ L.length → nowIs (A2 0) (sset S t (arrL L (o.take r) ++ (L.take k).filter fun x => oT x == o.getD r 0)) V → kA [0] A A2 → jW K (mAs E m ad A2 F) 0 0 24 [some (.ref m), some (.int (jI ((t : Nat) : Int))), some (.int (jI ((n : Nat) : Int))), none, some (.int (jI ((r : Nat) : Int))), some (.int (jI ((k : Nat) : Int)))] [] := by
          intro fuel24
          induction fuel24 with
          | zero => intro A2 k hm; exact absurd hm (Nat.not_lt_zero _)
          | succ fuel24 ih24 =>
            intro A2 k hm24 hkl hN2 hk2
            refine j_ild hk dX4_serializes_24 rfl ?_
            refine j_ald4 hk dX4_serializes_26 rfl rfl ?_
            refine j_mget hE hk 19 (by decide) rfl q2633 dX4_serializes_27 ?_
            refine j_top (z2 := ((L.length : Nat) : Int)) (hL.1) ?_
            refine j_icmp_ge hk (by omega) (by omega) dX4_serializes_30 rfl (tgt := 86) (fun h30 => ?_) (fun h30 => ?_)
            · refine j_iinc4 hk dX4_serializes_86 rfl ?_
              refine j_goto (tgt := 15) hk dX4_serializes_89 rfl ?_
              refine j_forget (i := 5) ?_
              exact ih15 A2 (r + 1) (by omega) (by omega) (by have e : L.take k = L := List.take_of_length_le (by omega); rw [e] at hN2; rw [getD_take hrl, arrL_push]; exact hN2) (hk2)
            · have hlt : k < L.length := by omega
              have hl2 := hL.2.2 k hlt
              have hok := hL.ok hlt
              have h5 := hok.2.2.1
              have hx5 : o.getD r 0 ≤ 5 := ho5 _ (by rw [List.getD_eq_getElem?_getD, List.getElem?_eq_getElem hrl]; exact List.getElem_mem hrl)
              refine j_ald4 hk dX4_serializes_33 rfl rfl ?_
              refine j_mgetA hE hk 14 (by decide) rfl q2628 dX4_serializes_34 ?_
              refine j_ild hk dX4_serializes_37 rfl ?_
              refine j_mald hE hk 14 7 rfl (k) (by omega) (by simp only [mLen]; omega) dX4_serializes_39 ?_
              refine j_top (z2 := ((oT (opAt L k) : Nat) : Int)) (by rw [hk2 14 (by decide)]; exact hl2.2.1) ?_
              refine j_ald4 hk dX4_serializes_40 rfl rfl ?_
              refine j_mgetA hE hk 17 (by decide) rfl q2631 dX4_serializes_41 ?_
              refine j_ild hk dX4_serializes_44 rfl ?_
              refine j_mald hE hk 17 10 rfl (r) (by omega) (by simp only [mLen]; omega) dX4_serializes_46 ?_
              refine j_top (z2 := ((o.getD r 0 : Nat) : Int)) (by rw [hk2 17 (by decide)]; exact hor r hrl) ?_
              refine j_icmp_ne hk (by omega) (by omega) dX4_serializes_47 rfl (tgt := 80) (fun h47 => ?_) (fun h47 => ?_)
              · refine j_iinc5 hk dX4_serializes_80 rfl ?_
                refine j_goto (tgt := 24) hk dX4_serializes_83 rfl ?_
                exact ih24 A2 (k + 1) (by omega) (by omega) (by rw [flt_s _ hlt, if_neg (by simpa using (show ¬ oT (opAt L k) = o.getD r 0 by omega)), List.append_nil]; exact hN2) (hk2)
              · refine j_ald4 hk dX4_serializes_50 rfl rfl ?_
                refine j_ild4 hk dX4_serializes_51 rfl rfl ?_
                refine j_ald4 hk dX4_serializes_52 rfl rfl ?_
                refine j_mgetA hE hk 13 (by decide) rfl q2627 dX4_serializes_53 ?_
                refine j_ild hk dX4_serializes_56 rfl ?_
                refine j_mald hE hk 13 6 rfl (k) (by omega) (by simp only [mLen]; omega) dX4_serializes_58 ?_
                refine j_top (z2 := ((oK (opAt L k) : Nat) : Int)) (by rw [hk2 13 (by decide)]; exact hl2.1) ?_
                refine j_ald4 hk dX4_serializes_59 rfl rfl ?_
                refine j_mgetA hE hk 14 (by decide) rfl q2628 dX4_serializes_60 ?_
                refine j_ild hk dX4_serializes_63 rfl ?_
                refine j_mald hE hk 14 7 rfl (k) (by omega) (by simp only [mLen]; omega) dX4_serializes_65 ?_
                refine j_top (z2 := ((oT (opAt L k) : Nat) : Int)) (by rw [hk2 14 (by decide)]; exact hl2.2.1) ?_
                refine j_ald4 hk dX4_serializes_66 rfl rfl ?_
                refine j_mgetA hE hk 15 (by decide) rfl q2629 dX4_serializes_67 ?_
                refine j_ild hk dX4_serializes_70 rfl ?_
                refine j_mald hE hk 15 8 rfl (k) (by omega) (by simp only [mLen]; omega) dX4_serializes_72 ?_
                refine j_top (z2 := ((oI (opAt L k) : Nat) : Int)) (by rw [hk2 15 (by decide)]; exact hl2.2.2) ?_
                refine j_sSi hk hl0 (sc_coded hls (k := oK (opAt L k)) (t := oT (opAt L k)) (i := oI (opAt L k)) ) 3 (lw_S q2780 q2781 q145 q2782) (by decide +kernel) rfl (by decide) (by decide) rfl (Nat.le_of_ble_eq_true rfl) dX4_serializes_73 ?_
                refine j_top (z2 := ((opV (opAt L k) : Nat) : Int)) (rfl) ?_
                have hcap := arr_lt hL.len ho hrl hlt (by omega)
                refine j_mVi hE hk hl0 hF (mc_adds hls hE (A := A2) (F := F) (s := t) (o := (opAt L k)) (S := sset S t (arrL L (o.take r) ++ (L.take k).filter fun x => oT x == o.getD r 0)) (V := V) (hN2) (ht) (by rw [sset_s]; exact hcap) (hok)) 2 (lw_V q2797 q2799 qs59 q145 q2800) (by decide +kernel) rfl (by decide) (by decide) rfl (Nat.le_of_ble_eq_true rfl) dX4_serializes_76 ?_
                intro rz1 Az2 Fz3 hc76
                obtain ⟨rfl, hc76⟩ := hc76
                obtain ⟨hN76, hk76, rfl⟩ := hc76
                refine j_ist3 hk dX4_serializes_79 rfl ?_
                refine j_iinc5 hk dX4_serializes_80 rfl ?_
                refine j_goto (tgt := 24) hk dX4_serializes_83 rfl ?_
                refine j_forget (i := 3) ?_
                exact ih24 Az2 (k + 1) (by omega) (by omega) (by rw [sset_s, sset_sset, List.append_assoc] at hN76; rw [flt_s _ hlt, if_pos (by simpa using (show oT (opAt L k) = o.getD r 0 by omega))]; exact hN76) (hk2.tr hk76 (by decide))
        exact loop24 _ A1 0 (Nat.lt_succ_self _) (by omega) (by simpa using hN1) (hk1)
  exact loop15 _ (mup A 0 (21 * t) 0) 0 (Nat.lt_succ_self _) (by omega) (by rw [mup_s]; exact hN.clear ht) (kA.up1)
set_option maxHeartbeats 1500000 in
/-- serialize(II)I -/
theorem mc_serialize {l : Launch} {E : jE} {m : Nat} {ad : Nat → Nat} {A : Nat → Nat → Int} {F : Nat → Int} (hls : l.stackTraces = false) (hE : jSt E) {ti : Int} {si : Int} {g : SS} (hR : mR A F g) (hr : jr ti ∧ jr si) : mC l E yX4_serialize cX4_serialize 3 (some .int) 8 174 [.ref m, .int (jI ti), .int (jI si)] m ad A F (mQi E m ad (fun r A2 F2 => mP (sp_serialize g ti si) r A2 F2)) := by
  refine m_start (own := "ScheduleAnalyzerModel") (vs := [some (.ref m), some (.int (jI ti)), some (.int (jI si))]) hls (by decide +kernel) rfl rfl rfl (Nat.le_of_ble_eq_true rfl) ?_
  intro K hk he hl0 hF hG0
  refine j_ald4 hk dX4_serialize_0 rfl rfl ?_
  refine j_mVv hE hk hl0 hF (mc_begin hls hE (A := A) (F := F)  (by first | assumption | omega)) 0 (lw_V q2745 q2747 qs52 q145 q2748) (by decide +kernel) rfl (by decide) (by decide) rfl (Nat.le_of_ble_eq_true rfl) dX4_serialize_1 ?_
  intro Az1 Fz2 hc1
  obtain ⟨hm, hb, ht, hka, hkf⟩ := hc1
  refine j_ild4 hk dX4_serialize_4 rfl rfl ?_
  refine j_sSi hk hl0 (sc_isSlot hls (v := ti) (hr.1)) 1 (lw_S q2752 q2753 q145 q2754) (by decide +kernel) rfl (by decide) (by decide) rfl (Nat.le_of_ble_eq_true rfl) dX4_serialize_5 ?_
  refine j_ifeqB hk dX4_serialize_8 rfl (tgt := 18) (fun h8 => ?_) (fun h8 => ?_)
  · refine j_ald4 hk dX4_serialize_18 rfl rfl ?_
    refine j_iconst (n := 1) hk dX4_serialize_19 ?_
    refine j_mVi hE hk hl0 hF (mc_fail hls hE (A := Az1) (F := Fz2) (n := 1) ) 1 (lw_V q2755 q2757 qs53 q145 q2758) (by decide +kernel) rfl (by decide) (by decide) rfl (Nat.le_of_ble_eq_true rfl) dX4_serialize_20 ?_
    rintro _ _ _ ⟨rfl, rfl, rfl⟩
    refine j_miret hk he rfl dX4_serialize_23 (Nat.le_refl _) (Nat.le_refl _) ?_
    have e : sp_serialize g ti si = (1, 0, g) := by simp [sp_serialize, isSl, h8]
    rw [mP, e]
    exact ⟨rfl, iup_s _ _ _, hm.up4⟩
  · refine j_ild4 hk dX4_serialize_11 rfl rfl ?_
    refine j_sSi hk hl0 (sc_isSlot hls (v := si) (hr.2)) 1 (lw_S q2752 q2753 q145 q2754) (by decide +kernel) rfl (by decide) (by decide) rfl (Nat.le_of_ble_eq_true rfl) dX4_serialize_12 ?_
    refine j_ifneB hk dX4_serialize_15 rfl (tgt := 24) (fun h15 => ?_) (fun h15 => ?_)
    · have q1 := of_decide_eq_true h8
      have q2 := of_decide_eq_true h15
      obtain ⟨t, rfl⟩ : ∃ t : Nat, ti = ((t : Nat) : Int) := ⟨ti.toNat, by omega⟩
      obtain ⟨s, rfl⟩ : ∃ s : Nat, si = ((s : Nat) : Int) := ⟨si.toNat, by omega⟩
      have e1 : isSl (t : Int) = true := by simp [isSl]; omega
      have e2 : isSl (s : Int) = true := by simp [isSl]; omega
      refine j_ald4 hk dX4_serialize_24 rfl rfl ?_
      refine j_ild4 hk dX4_serialize_25 rfl rfl ?_
      refine j_mVi hE hk hl0 hF (mc_isSerial hls hE (A := Az1) (F := Fz2) (s := s) (S := g.1.1) (V := g.1.2) (hm.1) (by omega)) 1 (lw_V q2877 q2879 qs71 q145 q2880) (by decide +kernel) rfl (by decide) (by decide) rfl (Nat.le_of_ble_eq_true rfl) dX4_serialize_26 ?_
      intro rz6 Az7 Fz8 hc26
      obtain ⟨rfl, hc26⟩ := hc26
      obtain ⟨hL_26, hP_26, hO_26, hka_26, hkf_26⟩ := hc26
      refine j_ifeqB hk dX4_serialize_29 rfl (tgt := 51) (fun h29 => ?_) (fun h29 => ?_)
      · refine j_ald4 hk dX4_serialize_51 rfl rfl ?_
        refine j_iconst (n := 2) hk dX4_serialize_52 ?_
        refine j_mVi hE hk hl0 hF (mc_fail hls hE (A := Az7) (F := Fz8) (n := 2) ) 1 (lw_V q2755 q2757 qs53 q145 q2758) (by decide +kernel) rfl (by decide) (by decide) rfl (Nat.le_of_ble_eq_true rfl) dX4_serialize_53 ?_
        rintro _ _ _ ⟨rfl, rfl, rfl⟩
        refine j_miret hk he rfl dX4_serialize_56 (Nat.le_refl _) (Nat.le_refl _) ?_
        have e : sp_serialize g (t : Int) (s : Int) = (2, 0, g) := by simp [sp_serialize, e1, e2, gRest, h29]
        rw [mP, e]
        exact ⟨rfl, iup_s _ _ _, (hm.keep hka_26 hkf_26 (by decide) (by decide)).up4⟩
      · have hsl : (serL (restOf (g.1.1 s))).length = bitsN (pmask (restOf (g.1.1 s))) := isSerB_spec h29
        have hb5 : (serL (restOf (g.1.1 s))).length ≤ 5 := by
            rw [hsl]
            exact cnt_le5 _ (pmask_lt hL_26.2.1.2) (pmask_even hL_26.2.1.2)
        refine j_ald4 hk dX4_serialize_32 rfl rfl ?_
        refine j_ald4 hk dX4_serialize_33 rfl rfl ?_
        refine j_ild4 hk dX4_serialize_34 rfl rfl ?_
        refine j_ald4 hk dX4_serialize_35 rfl rfl ?_
        refine j_mget hE hk 20 (by decide) rfl q2634 dX4_serialize_36 ?_
        refine j_top (z2 := ((pmask (restOf (g.1.1 s)) : Nat) : Int)) (hP_26) ?_
        refine j_sSi hk hl0 (sc_bits hls (p := pmask (restOf (g.1.1 s))) (pmask_lt hL_26.2.1.2)) 1 (lw_S q2909 q2910 q145 q2911) (by decide +kernel) rfl (by decide) (by decide) rfl (Nat.le_of_ble_eq_true rfl) dX4_serialize_39 ?_
        refine j_mVi hE hk hl0 hF (mc_serializes hls hE (A := Az7) (F := Fz8) (t := t) (n := bitsN (pmask (restOf (g.1.1 s)))) (S := g.1.1) (V := g.1.2) (L := restOf (g.1.1 s)) (o := serL (restOf (g.1.1 s))) (by rw [hka_26 0 (by decide)]; exact hm.1) (by omega) (hL_26) (serL_nd _) (hsl.symm) (by omega) (hO_26) (fun x h => (serL_in h).2)) 2 (lw_V q2912 q2914 qs79 q145 q2915) (by decide +kernel) rfl (by decide) (by decide) rfl (Nat.le_of_ble_eq_true rfl) dX4_serialize_42 ?_
        intro rz12 Az13 Fz14 hc42
        obtain ⟨rfl, hc42⟩ := hc42
        obtain ⟨hN42, hk42, rfl⟩ := hc42
        refine j_mVi hE hk hl0 hF (mc_commit hls hE (A := Az13) (F := Fz8) (rv := (((arrL (restOf (g.1.1 s)) (serL (restOf (g.1.1 s)))).length : Nat) : Int)) ((hm.keep hka_26 hkf_26 (by decide) (by decide)).2.keep (js := []) hk42 kF.rf (by decide) (by decide)) (by rw [hk42 1 (by decide), hka_26 1 (by decide)]; exact hb) (hN42)) 1 (lw_V q2805 q2807 qs61 q145 q2808) (by decide +kernel) rfl (by decide) (by decide) rfl (Nat.le_of_ble_eq_true rfl) dX4_serialize_45 ?_
        intro rz15 Az16 Fz17 hc45
        obtain ⟨rfl, hc45⟩ := hc45
        obtain ⟨hp, hp3, hp5⟩ := hc45
        refine j_goto (tgt := 56) hk dX4_serialize_48 rfl ?_
        refine j_miret hk he rfl dX4_serialize_56 (Nat.le_refl _) (Nat.le_refl _) ?_
        have e : sp_serialize g (t : Int) (s : Int) = (0, (((arrL (restOf (g.1.1 s)) (serL (restOf (g.1.1 s)))).length : Nat) : Int), gpush g (sset g.1.1 t (arrL (restOf (g.1.1 s)) (serL (restOf (g.1.1 s)))), g.1.2)) := by simp [sp_serialize, e1, e2, gRest, h29]
        rw [mP, e]
        exact ⟨rfl, by rw [hp5 4 (by decide), hkf_26 4 (by decide)]; exact ht, hp⟩
    · refine j_ald4 hk dX4_serialize_18 rfl rfl ?_
      refine j_iconst (n := 1) hk dX4_serialize_19 ?_
      refine j_mVi hE hk hl0 hF (mc_fail hls hE (A := Az1) (F := Fz2) (n := 1) ) 1 (lw_V q2755 q2757 qs53 q145 q2758) (by decide +kernel) rfl (by decide) (by decide) rfl (Nat.le_of_ble_eq_true rfl) dX4_serialize_20 ?_
      rintro _ _ _ ⟨rfl, rfl, rfl⟩
      refine j_miret hk he rfl dX4_serialize_23 (Nat.le_refl _) (Nat.le_refl _) ?_
      have e : sp_serialize g ti si = (1, 0, g) := by simp [sp_serialize, isSl, h8, h15]
      rw [mP, e]
      exact ⟨rfl, iup_s _ _ _, hm.up4⟩
set_option maxHeartbeats 1500000 in
/-- conflicts(I)I -/
theorem mc_conflicts {l : Launch} {E : jE} {m : Nat} {ad : Nat → Nat} {A : Nat → Nat → Int} {F : Nat → Int} (hls : l.stackTraces = false) (hE : jSt E) {si : Int} {g : SS} (hR : mR A F g) (hr : jr si) : mC l E yX4_conflicts cX4_conflicts 5 (some .int) 5 105 [.ref m, .int (jI si)] m ad A F (mQi E m ad (fun r A2 F2 => mP (sp_conflicts g si) r A2 F2)) := by
  refine m_start (own := "ScheduleAnalyzerModel") (vs := [some (.ref m), some (.int (jI si)), none, none, none]) hls (by decide +kernel) rfl rfl rfl (Nat.le_of_ble_eq_true rfl) ?_
  intro K hk he hl0 hF hG0
  refine j_ald4 hk dX4_conflicts_0 rfl rfl ?_
  refine j_ild4 hk dX4_conflicts_1 rfl rfl ?_
  refine j_sSi hk hl0 (sc_isSlot hls (v := si) (hr)) 1 (lw_S q2752 q2753 q145 q2754) (by decide +kernel) rfl (by decide) (by decide) rfl (Nat.le_of_ble_eq_true rfl) dX4_conflicts_2 ?_
  refine j_mVi hE hk hl0 hF (mc_checked hls hE (A := A) (F := F) (b := decide (0 ≤ si ∧ si ≤ 3)) ) 1 (lw_V q2972 q2974 qs92 q145 q2975) (by decide +kernel) rfl (by decide) (by decide) rfl (Nat.le_of_ble_eq_true rfl) dX4_conflicts_5 ?_
  rintro _ _ _ ⟨rfl, rfl, rfl⟩
  refine j_ifleB hk dX4_conflicts_8 rfl (tgt := 13) (fun h8 => ?_) (fun h8 => ?_)
  · have q1 : 0 ≤ si ∧ si ≤ 3 := by simpa using h8
    obtain ⟨s, rfl⟩ : ∃ s : Nat, si = ((s : Nat) : Int) := ⟨si.toNat, by omega⟩
    have e1 : isSl (s : Int) = true := by simp [isSl]; omega
    have hm : mR A (iup F 4 (jB (!decide (0 ≤ (s : Int) ∧ (s : Int) ≤ 3)))) g := hR.up4
    have ht : (iup F 4 (jB (!decide (0 ≤ (s : Int) ∧ (s : Int) ≤ 3)))) 4 = 0 := by rw [iup_s, h8]; rfl
    refine j_ald4 hk dX4_conflicts_13 rfl rfl ?_
    refine j_ild4 hk dX4_conflicts_14 rfl rfl ?_
    refine j_iconst (n := 1) hk dX4_conflicts_15 ?_
    refine j_mVv hE hk hl0 hF (mc_lay hls hE (A := A) (F := (iup F 4 (jB (!(decide (0 ≤ ((s : Nat) : Int) ∧ ((s : Nat) : Int) ≤ 3)))))) (s := s) (b := true) (S := g.1.1) (V := g.1.2) (hm.1) (by omega)) 2 (lw_V q2889 q2891 qs74 q145 q2892) (by decide +kernel) rfl (by decide) (by decide) rfl (Nat.le_of_ble_eq_true rfl) dX4_conflicts_16 ?_
    intro Az4 Fz5 hc16
    obtain ⟨hL0, hP0, hka0, hkf0⟩ := hc16
    have hL0 : laid Az4 Fz5 (restOf (g.1.1 s)) := hL0
    have hlen := hL0.len
    refine j_iconst (n := 0) hk dX4_conflicts_19 ?_
    refine j_ist2 hk dX4_conflicts_20 rfl ?_
    refine j_iconst (n := 0) hk dX4_conflicts_21 ?_
    refine j_ist3 hk dX4_conflicts_22 rfl ?_
    have loop23 : ∀ (fuel23 : Nat) (i : Nat), (restOf (g.1.1 s)).length - i < fuel23 → i ≤ (restOf (g.1.1 s)).length → jW K (mAs E m ad Az4 Fz5) 0 0 23 [some (.ref m), some (.int (jI ((s : Nat) : Int))), some (.int (jI ((pairC (restOf (g.1.1 s)) i : Nat) : Int))), some (.int (jI ((i : Nat) : Int))), none] [] := by
      intro fuel23
      induction fuel23 with
      | zero => intro i hm; exact absurd hm (Nat.not_lt_zero _)
      | succ fuel23 ih23 =>
        intro i hm23 hi
        refine j_ild4 hk dX4_conflicts_23 rfl rfl ?_
        refine j_ald4 hk dX4_conflicts_24 rfl rfl ?_
        refine j_mget hE hk 19 (by decide) rfl q2633 dX4_conflicts_25 ?_
        refine j_top (z2 := (((restOf (g.1.1 s)).length : Nat) : Int)) (hL0.1) ?_
        refine j_icmp_ge hk (by omega) (by omega) dX4_conflicts_28 rfl (tgt := 75) (fun h28 => ?_) (fun h28 => ?_)
        · refine j_ild4 hk dX4_conflicts_75 rfl rfl ?_
          refine j_miret hk he rfl dX4_conflicts_76 (Nat.le_refl _) (Nat.le_refl _) ?_
          have ei : i = (restOf (g.1.1 s)).length := by omega
          have e : sp_conflicts g (s : Int) = (0, ((confN (restOf (g.1.1 s)) : Nat) : Int), g) := by simp [sp_conflicts, e1, gRest]
          rw [mP, e]
          exact ⟨by rw [ei]; rfl, by rw [hkf0 4 (by decide)]; exact ht, hm.keep hka0 hkf0 (by decide) (by decide)⟩
        · refine j_ild4 hk dX4_conflicts_31 rfl rfl ?_
          refine j_iconst (n := 1) hk dX4_conflicts_32 ?_
          refine j_iadd hk dX4_conflicts_33 ?_
          refine j_ist4 hk dX4_conflicts_34 rfl ?_
          have loop36 : ∀ (fuel36 : Nat) (j : Nat), (restOf (g.1.1 s)).length - j < fuel36 → i < j → j ≤ (restOf (g.1.1 s)).length → jW K (mAs E m ad Az4 Fz5) 0 0 36 [some (.ref m), some (.int (jI ((s : Nat) : Int))), some (.int (jI ((pairC (restOf (g.1.1 s)) i + rowC (restOf (g.1.1 s)) i j : Nat) : Int))), some (.int (jI ((i : Nat) : Int))), some (.int (jI ((j : Nat) : Int)))] [] := by
            intro fuel36
            induction fuel36 with
            | zero => intro j hm; exact absurd hm (Nat.not_lt_zero _)
            | succ fuel36 ih36 =>
              intro j hm36 hij hj
              refine j_ild hk dX4_conflicts_36 rfl ?_
              refine j_ald4 hk dX4_conflicts_38 rfl rfl ?_
              refine j_mget hE hk 19 (by decide) rfl q2633 dX4_conflicts_39 ?_
              refine j_top (z2 := (((restOf (g.1.1 s)).length : Nat) : Int)) (hL0.1) ?_
              refine j_icmp_ge hk (by omega) (by omega) dX4_conflicts_42 rfl (tgt := 69) (fun h42 => ?_) (fun h42 => ?_)
              · refine j_iinc3 hk dX4_conflicts_69 rfl ?_
                refine j_goto (tgt := 23) hk dX4_conflicts_72 rfl ?_
                refine j_forget (i := 4) ?_
                have e : j = (restOf (g.1.1 s)).length := by omega
                subst e
                exact ih23 (i + 1) (by omega) (by omega)
              · refine j_ild4 hk dX4_conflicts_45 rfl rfl ?_
                refine j_ald4 hk dX4_conflicts_46 rfl rfl ?_
                refine j_ild4 hk dX4_conflicts_47 rfl rfl ?_
                refine j_ild hk dX4_conflicts_48 rfl ?_
                refine j_mVi hE hk hl0 hF (mc_conflict hls hE (A := Az4) (F := Fz5) (i := i) (j := j) (by first | assumption | omega) (by first | assumption | omega) (by first | assumption | omega)) 2 (lw_V q2901 q2903 qs77 q145 q2904) (by decide +kernel) rfl (by decide) (by decide) rfl (Nat.le_of_ble_eq_true rfl) dX4_conflicts_50 ?_
                rintro _ _ _ ⟨rfl, rfl, rfl⟩
                refine j_ifeqB hk dX4_conflicts_53 rfl (tgt := 60) (fun h53 => ?_) (fun h53 => ?_)
                · refine j_iconst (n := 0) hk dX4_conflicts_60 ?_
                  refine j_iadd hk dX4_conflicts_61 ?_
                  refine j_top (z2 := ((pairC (restOf (g.1.1 s)) i + rowC (restOf (g.1.1 s)) i (j + 1) : Nat) : Int)) (by rw [rowC_s hij, h53]; rfl) ?_
                  refine j_ist2 hk dX4_conflicts_62 rfl ?_
                  refine j_iinc4 hk dX4_conflicts_63 rfl ?_
                  refine j_goto (tgt := 36) hk dX4_conflicts_66 rfl ?_
                  exact ih36 (j + 1) (by omega) (by omega) (by omega)
                · refine j_iconst (n := 1) hk dX4_conflicts_56 ?_
                  refine j_goto (tgt := 61) hk dX4_conflicts_57 rfl ?_
                  refine j_iadd hk dX4_conflicts_61 ?_
                  refine j_top (z2 := ((pairC (restOf (g.1.1 s)) i + rowC (restOf (g.1.1 s)) i (j + 1) : Nat) : Int)) (by rw [rowC_s hij, h53]; rfl) ?_
                  refine j_ist2 hk dX4_conflicts_62 rfl ?_
                  refine j_iinc4 hk dX4_conflicts_63 rfl ?_
                  refine j_goto (tgt := 36) hk dX4_conflicts_66 rfl ?_
                  exact ih36 (j + 1) (by omega) (by omega) (by omega)
          refine j_eq (vs2 := [some (.ref m), some (.int (jI ((s : Nat) : Int))), some (.int (jI ((pairC (restOf (g.1.1 s)) i + rowC (restOf (g.1.1 s)) i (i + 1) : Nat) : Int))), some (.int (jI ((i : Nat) : Int))), some (.int (jI ((i + 1 : Nat) : Int)))]) (by rw [rowC_0 _ _ _ (Nat.le_refl _)]; rfl) rfl ?_
          exact loop36 _ (i + 1) (Nat.lt_succ_self _) (by omega) (by omega)
    exact loop23 _ 0 (Nat.lt_succ_self _) (by omega)
  · refine j_iconst (n := 0) hk dX4_conflicts_11 ?_
    refine j_miret hk he rfl dX4_conflicts_12 (Nat.le_refl _) (Nat.le_refl _) ?_
    have e : sp_conflicts g si = (1, 0, g) := by
      have : isSl si = false := by have h := h8; rw [Bool.not_eq_true'] at h; exact h
      simp [sp_conflicts, this]
    rw [mP, e]
    exact ⟨rfl, by rw [iup_s, h8]; rfl, hR.up4⟩
set_option maxHeartbeats 1500000 in
/-- conflictCount(I)I -/
theorem mc_conflictCount {l : Launch} {E : jE} {m : Nat} {ad : Nat → Nat} {A : Nat → Nat → Int} {F : Nat → Int} (hls : l.stackTraces = false) (hE : jSt E) {si : Int} {g : SS} (hR : mR A F g) (hr : jr si) : mC l E yX4_conflictCount cX4_conflictCount 2 (some .int) 6 129 [.ref m, .int (jI si)] m ad A F (mQi E m ad (fun r A2 F2 => mP (sp_conflicts g si) r A2 F2)) := by
  refine m_start (own := "ScheduleAnalyzerModel") (vs := [some (.ref m), some (.int (jI si))]) hls (by decide +kernel) rfl rfl rfl (Nat.le_of_ble_eq_true rfl) ?_
  intro K hk he hl0 hF hG0
  refine j_ald4 hk dX4_conflictCount_0 rfl rfl ?_
  refine j_ild4 hk dX4_conflictCount_1 rfl rfl ?_
  refine j_mVi hE hk hl0 hF (mc_conflicts hls hE (A := A) (F := F) (si := si) (hR) (hr)) 1 (lw_V q3015 q3017 qs94 q145 q3018) (by decide +kernel) rfl (by decide) (by decide) rfl (Nat.le_of_ble_eq_true rfl) dX4_conflictCount_2 ?_
  intro rz1 Az2 Fz3 hc2
  refine j_miret hk he rfl dX4_conflictCount_5 (Nat.le_refl _) (Nat.le_refl _) ?_
  exact hc2
set_option maxHeartbeats 1500000 in
/-- conflictCountByItems(I)I -/
theorem mc_conflictCountByItems {l : Launch} {E : jE} {m : Nat} {ad : Nat → Nat} {A : Nat → Nat → Int} {F : Nat → Int} (hls : l.stackTraces = false) (hE : jSt E) {si : Int} {g : SS} (hR : mR A F g) (hr : jr si) : mC l E yX4_conflictCountByItems cX4_conflictCountByItems 2 (some .int) 6 129 [.ref m, .int (jI si)] m ad A F (mQi E m ad (fun r A2 F2 => mP (sp_conflicts g si) r A2 F2)) := by
  refine m_start (own := "ScheduleAnalyzerModel") (vs := [some (.ref m), some (.int (jI si))]) hls (by decide +kernel) rfl rfl rfl (Nat.le_of_ble_eq_true rfl) ?_
  intro K hk he hl0 hF hG0
  refine j_ald4 hk dX4_conflictCountByItems_0 rfl rfl ?_
  refine j_ild4 hk dX4_conflictCountByItems_1 rfl rfl ?_
  refine j_mVi hE hk hl0 hF (mc_conflicts hls hE (A := A) (F := F) (si := si) (hR) (hr)) 1 (lw_V q3015 q3017 qs94 q145 q3018) (by decide +kernel) rfl (by decide) (by decide) rfl (Nat.le_of_ble_eq_true rfl) dX4_conflictCountByItems_2 ?_
  intro rz1 Az2 Fz3 hc2
  refine j_miret hk he rfl dX4_conflictCountByItems_5 (Nat.le_refl _) (Nat.le_refl _) ?_
  exact hc2
set_option maxHeartbeats 1500000 in
/-- comesBefore(III)Z -/
theorem mc_comesBefore {l : Launch} {E : jE} {m : Nat} {ad : Nat → Nat} {A : Nat → Nat → Int} {F : Nat → Int} (hls : l.stackTraces = false) (hE : jSt E) {si : Int} {ti : Int} {ui : Int} {g : SS} (hR : mR A F g) (hr : jr si ∧ jr ti ∧ jr ui) : mC l E yX4_comesBefore cX4_comesBefore 4 (some .boolean) 6 128 [.ref m, .int (jI si), .int (jI ti), .int (jI ui)] m ad A F (mQi E m ad (fun r A2 F2 => mP (sp_comesBefore g si ti ui) r A2 F2)) := by
  refine m_start (own := "ScheduleAnalyzerModel") (vs := [some (.ref m), some (.int (jI si)), some (.int (jI ti)), some (.int (jI ui))]) hls (by decide +kernel) rfl rfl rfl (Nat.le_of_ble_eq_true rfl) ?_
  intro K hk he hl0 hF hG0
  refine j_ald4 hk dX4_comesBefore_0 rfl rfl ?_
  refine j_ild4 hk dX4_comesBefore_1 rfl rfl ?_
  refine j_sSi hk hl0 (sc_isSlot hls (v := si) (hr.1)) 1 (lw_S q2752 q2753 q145 q2754) (by decide +kernel) rfl (by decide) (by decide) rfl (Nat.le_of_ble_eq_true rfl) dX4_comesBefore_2 ?_
  refine j_ifneB hk dX4_comesBefore_5 rfl (tgt := 12) (fun h5 => ?_) (fun h5 => ?_)
  · refine j_ild4 hk dX4_comesBefore_12 rfl rfl ?_
    refine j_sSi hk hl0 (sc_isTransaction hls (v := ti) (hr.2.1)) 1 (lw_S q2774 q2775 q145 q2776) (by decide +kernel) rfl (by decide) (by decide) rfl (Nat.le_of_ble_eq_true rfl) dX4_comesBefore_13 ?_
    refine j_ifeqB hk dX4_comesBefore_16 rfl (tgt := 26) (fun h16 => ?_) (fun h16 => ?_)
    · refine j_iconst (n := 2) hk dX4_comesBefore_26 ?_
      refine j_goto (tgt := 31) hk dX4_comesBefore_27 rfl ?_
      refine j_mput hE hk hF 4 (by decide) rfl q2618 rfl rfl rfl rfl dX4_comesBefore_31 ?_
      refine j_ald4 hk dX4_comesBefore_34 rfl rfl ?_
      refine j_mget hE hk 4 (by decide) rfl q2618 dX4_comesBefore_35 ?_
      refine j_top (z2 := 2) (iup_s _ _ _) ?_
      refine j_if_le hk (by omega) dX4_comesBefore_38 rfl (tgt := 43) (fun h => absurd h (by omega)) (fun _ => ?_)
      refine j_iconst (n := 0) hk dX4_comesBefore_41 ?_
      refine j_miret hk he rfl dX4_comesBefore_42 (Nat.le_refl _) (Nat.le_refl _) ?_
      have e : sp_comesBefore g si ti ui = (2, 0, g) := by simp [sp_comesBefore, isSl, isTr, h5, h16]
      rw [mP, e]
      exact ⟨rfl, iup_s _ _ _, hR.up4⟩
    · refine j_ild4 hk dX4_comesBefore_19 rfl rfl ?_
      refine j_sSi hk hl0 (sc_isTransaction hls (v := ui) (hr.2.2)) 1 (lw_S q2774 q2775 q145 q2776) (by decide +kernel) rfl (by decide) (by decide) rfl (Nat.le_of_ble_eq_true rfl) dX4_comesBefore_20 ?_
      refine j_ifneB hk dX4_comesBefore_23 rfl (tgt := 30) (fun h23 => ?_) (fun h23 => ?_)
      · refine j_iconst (n := 0) hk dX4_comesBefore_30 ?_
        refine j_mput hE hk hF 4 (by decide) rfl q2618 rfl rfl rfl rfl dX4_comesBefore_31 ?_
        refine j_ald4 hk dX4_comesBefore_34 rfl rfl ?_
        refine j_mget hE hk 4 (by decide) rfl q2618 dX4_comesBefore_35 ?_
        refine j_top (z2 := 0) (iup_s _ _ _) ?_
        refine j_if_le hk (by omega) dX4_comesBefore_38 rfl (tgt := 43) (fun _ => ?_) (fun h => absurd h (by omega))
        have q1 := of_decide_eq_true h5
        have q2 := of_decide_eq_true h16
        have q3 := of_decide_eq_true h23
        obtain ⟨s, rfl⟩ : ∃ s : Nat, si = ((s : Nat) : Int) := ⟨si.toNat, by omega⟩
        obtain ⟨t, rfl⟩ : ∃ t : Nat, ti = ((t : Nat) : Int) := ⟨ti.toNat, by omega⟩
        obtain ⟨u, rfl⟩ : ∃ u : Nat, ui = ((u : Nat) : Int) := ⟨ui.toNat, by omega⟩
        have e1 : isSl (s : Int) = true := by simp [isSl]; omega
        have e2 : isTr (t : Int) = true := by simp [isTr]; omega
        have e3 : isTr (u : Int) = true := by simp [isTr]; omega
        have hm : mR A (iup F 4 0) g := hR.up4
        refine j_ald4 hk dX4_comesBefore_43 rfl rfl ?_
        refine j_ild4 hk dX4_comesBefore_44 rfl rfl ?_
        refine j_mVv hE hk hl0 hF (mc_layOrder hls hE (A := A) (F := (iup F 4 0)) (s := s) (S := g.1.1) (V := g.1.2) (hm.1) (by omega)) 1 (lw_V q2885 q2887 qs73 q145 q2888) (by decide +kernel) rfl (by decide) (by decide) rfl (Nat.le_of_ble_eq_true rfl) dX4_comesBefore_45 ?_
        intro Az1 Fz2 hc45
        obtain ⟨hL_45, hP_45, hM_45, hka_45, hkf_45⟩ := hc45
        refine j_ald4 hk dX4_comesBefore_48 rfl rfl ?_
        refine j_mgetA hE hk 16 (by decide) rfl q2630 dX4_comesBefore_49 ?_
        refine j_ild4 hk dX4_comesBefore_52 rfl rfl ?_
        refine j_mald hE hk 16 9 rfl (u) (by omega) (by simp only [mLen]; omega) dX4_comesBefore_53 ?_
        refine j_top (z2 := ((aheadM (restOf (g.1.1 s)) u : Nat) : Int)) (hM_45 u (by omega)) ?_
        refine j_ild4 hk dX4_comesBefore_54 rfl rfl ?_
        refine j_ishr (a := aheadM (restOf (g.1.1 s)) u) (b := t) hk (by have := maskOf_lt (fun a => precB (restOf (g.1.1 s)) a u); unfold aheadM; omega) (by omega) dX4_comesBefore_55 ?_
        refine j_iconst (n := 1) hk dX4_comesBefore_56 ?_
        refine j_ibit (a := aheadM (restOf (g.1.1 s)) u) (b := t) hk dX4_comesBefore_57 ?_
        refine j_iconst (n := 1) hk dX4_comesBefore_58 ?_
        refine j_icmpB_ne hk dX4_comesBefore_59 rfl (tgt := 66) (fun h59 => ?_) (fun h59 => ?_)
        · refine j_iconst (n := 0) hk dX4_comesBefore_66 ?_
          refine j_miret hk he rfl dX4_comesBefore_67 (Nat.le_refl _) (Nat.le_refl _) ?_
          have e : sp_comesBefore g (s : Int) (t : Int) (u : Int) = (0, jB ((aheadM (restOf (g.1.1 s)) u).testBit t), g) := by simp [sp_comesBefore, e1, e2, e3, gRest]
          rw [mP, e, h59]
          exact ⟨rfl, by rw [hkf_45 4 (by decide), iup_s]; rfl, hm.keep hka_45 hkf_45 (by decide) (by decide)⟩
        · refine j_iconst (n := 1) hk dX4_comesBefore_62 ?_
          refine j_goto (tgt := 67) hk dX4_comesBefore_63 rfl ?_
          refine j_miret hk he rfl dX4_comesBefore_67 (Nat.le_refl _) (Nat.le_refl _) ?_
          have e : sp_comesBefore g (s : Int) (t : Int) (u : Int) = (0, jB ((aheadM (restOf (g.1.1 s)) u).testBit t), g) := by simp [sp_comesBefore, e1, e2, e3, gRest]
          rw [mP, e, h59]
          exact ⟨rfl, by rw [hkf_45 4 (by decide), iup_s]; rfl, hm.keep hka_45 hkf_45 (by decide) (by decide)⟩
      · refine j_iconst (n := 2) hk dX4_comesBefore_26 ?_
        refine j_goto (tgt := 31) hk dX4_comesBefore_27 rfl ?_
        refine j_mput hE hk hF 4 (by decide) rfl q2618 rfl rfl rfl rfl dX4_comesBefore_31 ?_
        refine j_ald4 hk dX4_comesBefore_34 rfl rfl ?_
        refine j_mget hE hk 4 (by decide) rfl q2618 dX4_comesBefore_35 ?_
        refine j_top (z2 := 2) (iup_s _ _ _) ?_
        refine j_if_le hk (by omega) dX4_comesBefore_38 rfl (tgt := 43) (fun h => absurd h (by omega)) (fun _ => ?_)
        refine j_iconst (n := 0) hk dX4_comesBefore_41 ?_
        refine j_miret hk he rfl dX4_comesBefore_42 (Nat.le_refl _) (Nat.le_refl _) ?_
        have e : sp_comesBefore g si ti ui = (2, 0, g) := by simp [sp_comesBefore, isSl, isTr, h5, h16, h23]
        rw [mP, e]
        exact ⟨rfl, iup_s _ _ _, hR.up4⟩
  · refine j_iconst (n := 1) hk dX4_comesBefore_8 ?_
    refine j_goto (tgt := 31) hk dX4_comesBefore_9 rfl ?_
    refine j_mput hE hk hF 4 (by decide) rfl q2618 rfl rfl rfl rfl dX4_comesBefore_31 ?_
    refine j_ald4 hk dX4_comesBefore_34 rfl rfl ?_
    refine j_mget hE hk 4 (by decide) rfl q2618 dX4_comesBefore_35 ?_
    refine j_top (z2 := 1) (iup_s _ _ _) ?_
    refine j_if_le hk (by omega) dX4_comesBefore_38 rfl (tgt := 43) (fun h => absurd h (by omega)) (fun _ => ?_)
    refine j_iconst (n := 0) hk dX4_comesBefore_41 ?_
    refine j_miret hk he rfl dX4_comesBefore_42 (Nat.le_refl _) (Nat.le_refl _) ?_
    have e : sp_comesBefore g si ti ui = (1, 0, g) := by simp [sp_comesBefore, isSl, h5]
    rw [mP, e]
    exact ⟨rfl, iup_s _ _ _, hR.up4⟩
set_option maxHeartbeats 1500000 in
/-- isSerializable(I)Z -/
theorem mc_isSerializable {l : Launch} {E : jE} {m : Nat} {ad : Nat → Nat} {A : Nat → Nat → Int} {F : Nat → Int} (hls : l.stackTraces = false) (hE : jSt E) {si : Int} {g : SS} (hR : mR A F g) (hr : jr si) : mC l E yX4_isSerializable cX4_isSerializable 2 (some .boolean) 8 174 [.ref m, .int (jI si)] m ad A F (mQi E m ad (fun r A2 F2 => mP (sp_isSerializable g si) r A2 F2)) := by
  refine m_start (own := "ScheduleAnalyzerModel") (vs := [some (.ref m), some (.int (jI si))]) hls (by decide +kernel) rfl rfl rfl (Nat.le_of_ble_eq_true rfl) ?_
  intro K hk he hl0 hF hG0
  refine j_ald4 hk dX4_isSerializable_0 rfl rfl ?_
  refine j_ild4 hk dX4_isSerializable_1 rfl rfl ?_
  refine j_sSi hk hl0 (sc_isSlot hls (v := si) (hr)) 1 (lw_S q2752 q2753 q145 q2754) (by decide +kernel) rfl (by decide) (by decide) rfl (Nat.le_of_ble_eq_true rfl) dX4_isSerializable_2 ?_
  refine j_mVi hE hk hl0 hF (mc_checked hls hE (A := A) (F := F) (b := decide (0 ≤ si ∧ si ≤ 3)) ) 1 (lw_V q2972 q2974 qs92 q145 q2975) (by decide +kernel) rfl (by decide) (by decide) rfl (Nat.le_of_ble_eq_true rfl) dX4_isSerializable_5 ?_
  rintro _ _ _ ⟨rfl, rfl, rfl⟩
  refine j_ifneB hk dX4_isSerializable_8 rfl (tgt := 23) (fun h8 => ?_) (fun h8 => ?_)
  · refine j_iconst (n := 0) hk dX4_isSerializable_23 ?_
    refine j_miret hk he rfl dX4_isSerializable_24 (Nat.le_refl _) (Nat.le_refl _) ?_
    have e : sp_isSerializable g si = (1, 0, g) := by
      have : isSl si = false := by have h := h8; rw [Bool.not_eq_true'] at h; exact h
      simp [sp_isSerializable, this]
    rw [mP, e]
    exact ⟨rfl, by rw [iup_s, h8]; rfl, hR.up4⟩
  · have q1 : 0 ≤ si ∧ si ≤ 3 := by simpa using h8
    obtain ⟨s, rfl⟩ : ∃ s : Nat, si = ((s : Nat) : Int) := ⟨si.toNat, by omega⟩
    have e1 : isSl (s : Int) = true := by simp [isSl]; omega
    have hm : mR A (iup F 4 (jB (!decide (0 ≤ (s : Int) ∧ (s : Int) ≤ 3)))) g := hR.up4
    have ht : (iup F 4 (jB (!decide (0 ≤ (s : Int) ∧ (s : Int) ≤ 3)))) 4 = 0 := by rw [iup_s, h8]; rfl
    refine j_ald4 hk dX4_isSerializable_11 rfl rfl ?_
    refine j_ild4 hk dX4_isSerializable_12 rfl rfl ?_
    refine j_mVi hE hk hl0 hF (mc_isSerial hls hE (A := A) (F := (iup F 4 (jB (!(decide (0 ≤ ((s : Nat) : Int) ∧ ((s : Nat) : Int) ≤ 3)))))) (s := s) (S := g.1.1) (V := g.1.2) (hm.1) (by omega)) 1 (lw_V q2877 q2879 qs71 q145 q2880) (by decide +kernel) rfl (by decide) (by decide) rfl (Nat.le_of_ble_eq_true rfl) dX4_isSerializable_13 ?_
    intro rz4 Az5 Fz6 hc13
    obtain ⟨rfl, hc13⟩ := hc13
    obtain ⟨hL_13, hP_13, hO_13, hka_13, hkf_13⟩ := hc13
    refine j_ifeqB hk dX4_isSerializable_16 rfl (tgt := 23) (fun h16 => ?_) (fun h16 => ?_)
    · refine j_iconst (n := 0) hk dX4_isSerializable_23 ?_
      refine j_miret hk he rfl dX4_isSerializable_24 (Nat.le_refl _) (Nat.le_refl _) ?_
      have e : sp_isSerializable g (s : Int) = (0, jB (isSerB (restOf (g.1.1 s))), g) := by simp [sp_isSerializable, e1, gRest]
      rw [mP, e, h16]
      exact ⟨rfl, by rw [hkf_13 4 (by decide)]; exact ht, hm.keep hka_13 hkf_13 (by decide) (by decide)⟩
    · refine j_iconst (n := 1) hk dX4_isSerializable_19 ?_
      refine j_goto (tgt := 24) hk dX4_isSerializable_20 rfl ?_
      refine j_miret hk he rfl dX4_isSerializable_24 (Nat.le_refl _) (Nat.le_refl _) ?_
      have e : sp_isSerializable g (s : Int) = (0, jB (isSerB (restOf (g.1.1 s))), g) := by simp [sp_isSerializable, e1, gRest]
      rw [mP, e, h16]
      exact ⟨rfl, by rw [hkf_13 4 (by decide)]; exact ht, hm.keep hka_13 hkf_13 (by decide) (by decide)⟩
set_option maxHeartbeats 1500000 in
/-- isSerializableByWalks(I)Z -/
theorem mc_isSerializableByWalks {l : Launch} {E : jE} {m : Nat} {ad : Nat → Nat} {A : Nat → Nat → Int} {F : Nat → Int} (hls : l.stackTraces = false) (hE : jSt E) {si : Int} {g : SS} (hR : mR A F g) (hr : jr si) : mC l E yX4_isSerializableByWalks cX4_isSerializableByWalks 2 (some .boolean) 8 174 [.ref m, .int (jI si)] m ad A F (mQi E m ad (fun r A2 F2 => mP (sp_isSerializable g si) r A2 F2)) := by
  refine m_start (own := "ScheduleAnalyzerModel") (vs := [some (.ref m), some (.int (jI si))]) hls (by decide +kernel) rfl rfl rfl (Nat.le_of_ble_eq_true rfl) ?_
  intro K hk he hl0 hF hG0
  refine j_ald4 hk dX4_isSerializableByWalks_0 rfl rfl ?_
  refine j_ild4 hk dX4_isSerializableByWalks_1 rfl rfl ?_
  refine j_sSi hk hl0 (sc_isSlot hls (v := si) (hr)) 1 (lw_S q2752 q2753 q145 q2754) (by decide +kernel) rfl (by decide) (by decide) rfl (Nat.le_of_ble_eq_true rfl) dX4_isSerializableByWalks_2 ?_
  refine j_mVi hE hk hl0 hF (mc_checked hls hE (A := A) (F := F) (b := decide (0 ≤ si ∧ si ≤ 3)) ) 1 (lw_V q2972 q2974 qs92 q145 q2975) (by decide +kernel) rfl (by decide) (by decide) rfl (Nat.le_of_ble_eq_true rfl) dX4_isSerializableByWalks_5 ?_
  rintro _ _ _ ⟨rfl, rfl, rfl⟩
  refine j_ifneB hk dX4_isSerializableByWalks_8 rfl (tgt := 23) (fun h8 => ?_) (fun h8 => ?_)
  · refine j_iconst (n := 0) hk dX4_isSerializableByWalks_23 ?_
    refine j_miret hk he rfl dX4_isSerializableByWalks_24 (Nat.le_refl _) (Nat.le_refl _) ?_
    have e : sp_isSerializable g si = (1, 0, g) := by
      have : isSl si = false := by have h := h8; rw [Bool.not_eq_true'] at h; exact h
      simp [sp_isSerializable, this]
    rw [mP, e]
    exact ⟨rfl, by rw [iup_s, h8]; rfl, hR.up4⟩
  · have q1 : 0 ≤ si ∧ si ≤ 3 := by simpa using h8
    obtain ⟨s, rfl⟩ : ∃ s : Nat, si = ((s : Nat) : Int) := ⟨si.toNat, by omega⟩
    have e1 : isSl (s : Int) = true := by simp [isSl]; omega
    have hm : mR A (iup F 4 (jB (!decide (0 ≤ (s : Int) ∧ (s : Int) ≤ 3)))) g := hR.up4
    have ht : (iup F 4 (jB (!decide (0 ≤ (s : Int) ∧ (s : Int) ≤ 3)))) 4 = 0 := by rw [iup_s, h8]; rfl
    refine j_ald4 hk dX4_isSerializableByWalks_11 rfl rfl ?_
    refine j_ild4 hk dX4_isSerializableByWalks_12 rfl rfl ?_
    refine j_mVi hE hk hl0 hF (mc_isSerial hls hE (A := A) (F := (iup F 4 (jB (!(decide (0 ≤ ((s : Nat) : Int) ∧ ((s : Nat) : Int) ≤ 3)))))) (s := s) (S := g.1.1) (V := g.1.2) (hm.1) (by omega)) 1 (lw_V q2877 q2879 qs71 q145 q2880) (by decide +kernel) rfl (by decide) (by decide) rfl (Nat.le_of_ble_eq_true rfl) dX4_isSerializableByWalks_13 ?_
    intro rz4 Az5 Fz6 hc13
    obtain ⟨rfl, hc13⟩ := hc13
    obtain ⟨hL_13, hP_13, hO_13, hka_13, hkf_13⟩ := hc13
    refine j_ifeqB hk dX4_isSerializableByWalks_16 rfl (tgt := 23) (fun h16 => ?_) (fun h16 => ?_)
    · refine j_iconst (n := 0) hk dX4_isSerializableByWalks_23 ?_
      refine j_miret hk he rfl dX4_isSerializableByWalks_24 (Nat.le_refl _) (Nat.le_refl _) ?_
      have e : sp_isSerializable g (s : Int) = (0, jB (isSerB (restOf (g.1.1 s))), g) := by simp [sp_isSerializable, e1, gRest]
      rw [mP, e, h16]
      exact ⟨rfl, by rw [hkf_13 4 (by decide)]; exact ht, hm.keep hka_13 hkf_13 (by decide) (by decide)⟩
    · refine j_iconst (n := 1) hk dX4_isSerializableByWalks_19 ?_
      refine j_goto (tgt := 24) hk dX4_isSerializableByWalks_20 rfl ?_
      refine j_miret hk he rfl dX4_isSerializableByWalks_24 (Nat.le_refl _) (Nat.le_refl _) ?_
      have e : sp_isSerializable g (s : Int) = (0, jB (isSerB (restOf (g.1.1 s))), g) := by simp [sp_isSerializable, e1, gRest]
      rw [mP, e, h16]
      exact ⟨rfl, by rw [hkf_13 4 (by decide)]; exact ht, hm.keep hka_13 hkf_13 (by decide) (by decide)⟩
set_option maxHeartbeats 1500000 in
/-- orders(I)I -/
theorem mc_orders {l : Launch} {E : jE} {m : Nat} {ad : Nat → Nat} {A : Nat → Nat → Int} {F : Nat → Int} (hls : l.stackTraces = false) (hE : jSt E) {si : Int} {g : SS} (hR : mR A F g) (hr : jr si) : mC l E yX4_orders cX4_orders 5 (some .int) 6 128 [.ref m, .int (jI si)] m ad A F (mQi E m ad (fun r A2 F2 => mP (sp_orders g si) r A2 F2)) := by
  refine m_start (own := "ScheduleAnalyzerModel") (vs := [some (.ref m), some (.int (jI si)), none, none, none]) hls (by decide +kernel) rfl rfl rfl (Nat.le_of_ble_eq_true rfl) ?_
  intro K hk he hl0 hF hG0
  refine j_ald4 hk dX4_orders_0 rfl rfl ?_
  refine j_ild4 hk dX4_orders_1 rfl rfl ?_
  refine j_sSi hk hl0 (sc_isSlot hls (v := si) (hr)) 1 (lw_S q2752 q2753 q145 q2754) (by decide +kernel) rfl (by decide) (by decide) rfl (Nat.le_of_ble_eq_true rfl) dX4_orders_2 ?_
  refine j_mVi hE hk hl0 hF (mc_checked hls hE (A := A) (F := F) (b := decide (0 ≤ si ∧ si ≤ 3)) ) 1 (lw_V q2972 q2974 qs92 q145 q2975) (by decide +kernel) rfl (by decide) (by decide) rfl (Nat.le_of_ble_eq_true rfl) dX4_orders_5 ?_
  rintro _ _ _ ⟨rfl, rfl, rfl⟩
  refine j_ifleB hk dX4_orders_8 rfl (tgt := 13) (fun h8 => ?_) (fun h8 => ?_)
  · have q1 : 0 ≤ si ∧ si ≤ 3 := by simpa using h8
    obtain ⟨s, rfl⟩ : ∃ s : Nat, si = ((s : Nat) : Int) := ⟨si.toNat, by omega⟩
    have e1 : isSl (s : Int) = true := by simp [isSl]; omega
    have hm : mR A (iup F 4 (jB (!decide (0 ≤ (s : Int) ∧ (s : Int) ≤ 3)))) g := hR.up4
    have ht : (iup F 4 (jB (!decide (0 ≤ (s : Int) ∧ (s : Int) ≤ 3)))) 4 = 0 := by rw [iup_s, h8]; rfl
    refine j_ald4 hk dX4_orders_13 rfl rfl ?_
    refine j_ild4 hk dX4_orders_14 rfl rfl ?_
    refine j_mVv hE hk hl0 hF (mc_layOrder hls hE (A := A) (F := (iup F 4 (jB (!(decide (0 ≤ ((s : Nat) : Int) ∧ ((s : Nat) : Int) ≤ 3)))))) (s := s) (S := g.1.1) (V := g.1.2) (hm.1) (by omega)) 1 (lw_V q2885 q2887 qs73 q145 q2888) (by decide +kernel) rfl (by decide) (by decide) rfl (Nat.le_of_ble_eq_true rfl) dX4_orders_15 ?_
    intro Az4 Fz5 hc15
    obtain ⟨hL_15, hP_15, hM_15, hka_15, hkf_15⟩ := hc15
    have hPl : pmask (restOf (g.1.1 s)) < 64 := pmask_lt hL_15.2.1.2
    refine j_iconst (n := 0) hk dX4_orders_18 ?_
    refine j_ist2 hk dX4_orders_19 rfl ?_
    have loop20 : ∀ (fuel20 : Nat) (A1 : Nat → Nat → Int) (x : Nat), 64 - x < fuel20 → x ≤ 64 → kA [13, 14, 15, 16, 18] A A1 → (∀ y, y < x → A1 18 y = (((if y = 0 then 1 else 0 : Nat)) : Int)) → (∀ y, y ≤ 5 → A1 16 y = ((aheadM (restOf (g.1.1 s)) y : Nat) : Int)) → jW K (mAs E m ad A1 Fz5) 0 0 20 [some (.ref m), some (.int (jI ((s : Nat) : Int))), some (.int (jI ((x : Nat) : Int))), none, none] [] := by
      intro fuel20
      induction fuel20 with
      | zero => intro A1 x hm; exact absurd hm (Nat.not_lt_zero _)
      | succ fuel20 ih20 =>
        intro A1 x hm20 hx hk1 hz hm16
        refine j_ild4 hk dX4_orders_20 rfl rfl ?_
        refine j_bipush (n := 64) hk rfl dX4_orders_21 ?_
        refine j_icmp_ge hk (by omega) (by omega) dX4_orders_23 rfl (tgt := 47) (fun h23 => ?_) (fun h23 => ?_)
        · refine j_iconst (n := 0) hk dX4_orders_47 ?_
          refine j_ist2 hk dX4_orders_48 rfl ?_
          have loop49 : ∀ (fuel49 : Nat) (A2 : Nat → Nat → Int) (x : Nat), 64 - x < fuel49 → x ≤ 64 → kA [13, 14, 15, 16, 18] A A2 → (∀ y, y ≤ 5 → A2 16 y = ((aheadM (restOf (g.1.1 s)) y : Nat) : Int)) → (∀ y, y < 64 → A2 18 y = ((wPt (pmask (restOf (g.1.1 s))) (aheadM (restOf (g.1.1 s))) x 1 y : Nat) : Int)) → jW K (mAs E m ad A2 Fz5) 0 0 49 [some (.ref m), some (.int (jI ((s : Nat) : Int))), some (.int (jI ((x : Nat) : Int))), none, none] [] := by
            intro fuel49
            induction fuel49 with
            | zero => intro A2 x hm; exact absurd hm (Nat.not_lt_zero _)
            | succ fuel49 ih49 =>
              intro A2 x hm49 hx hk2o hm16b hv
              refine j_ild4 hk dX4_orders_49 rfl rfl ?_
              refine j_bipush (n := 64) hk rfl dX4_orders_50 ?_
              refine j_icmp_ge hk (by omega) (by omega) dX4_orders_52 rfl (tgt := 138) (fun h52 => ?_) (fun h52 => ?_)
              · refine j_ald4 hk dX4_orders_138 rfl rfl ?_
                refine j_mgetA hE hk 18 (by decide) rfl q2632 dX4_orders_139 ?_
                refine j_ald4 hk dX4_orders_142 rfl rfl ?_
                refine j_mget hE hk 20 (by decide) rfl q2634 dX4_orders_143 ?_
                refine j_top (z2 := ((pmask (restOf (g.1.1 s)) : Nat) : Int)) (hP_15) ?_
                refine j_mald hE hk 18 11 rfl (pmask (restOf (g.1.1 s))) (by omega) (by simp only [mLen]; omega) dX4_orders_146 ?_
                refine j_top (z2 := ((ordN (restOf (g.1.1 s)) : Nat) : Int)) (by rw [hv _ hPl, ordN, wPt_full (by omega)]) ?_
                refine j_miret hk he rfl dX4_orders_147 (Nat.le_refl _) (Nat.le_refl _) ?_
                have e : sp_orders g (s : Int) = (0, ((ordN (restOf (g.1.1 s)) : Nat) : Int), g) := by simp [sp_orders, e1, gRest]
                rw [mP, e]
                exact ⟨rfl, by rw [hkf_15 4 (by decide)]; exact ht, hm.keep hk2o hkf_15 (by decide) (by decide)⟩
              · refine j_iconst (n := 1) hk dX4_orders_55 ?_
                refine j_ist3 hk dX4_orders_56 rfl ?_
                have loop57 : ∀ (fuel57 : Nat) (A3 : Nat → Nat → Int) (t : Nat), 6 - t < fuel57 → 1 ≤ t ∧ t ≤ 6 → kA [13, 14, 15, 16, 18] A A3 → (∀ y, y ≤ 5 → A3 16 y = ((aheadM (restOf (g.1.1 s)) y : Nat) : Int)) → (∀ y, y < 64 → A3 18 y = ((wPt (pmask (restOf (g.1.1 s))) (aheadM (restOf (g.1.1 s))) x t y : Nat) : Int)) → jW K (mAs E m ad A3 Fz5) 0 0 57 [some (.ref m), some (.int (jI ((s : Nat) : Int))), some (.int (jI ((x : Nat) : Int))), some (.int (jI ((t : Nat) : Int))), none] [] := by
                  intro fuel57
                  induction fuel57 with
                  | zero => intro A3 t hm; exact absurd hm (Nat.not_lt_zero _)
                  | succ fuel57 ih57 =>
                    intro A3 t hm57 ht6 hk2 hm16c hw
                    refine j_ild4 hk dX4_orders_57 rfl rfl ?_
                    refine j_iconst (n := 5) hk dX4_orders_58 ?_
                    refine j_icmp_gt hk (by omega) (by omega) dX4_orders_59 rfl (tgt := 132) (fun h59 => ?_) (fun h59 => ?_)
                    · refine j_iinc2 hk dX4_orders_132 rfl ?_
                      refine j_goto (tgt := 49) hk dX4_orders_135 rfl ?_
                      refine j_forget (i := 3) ?_
                      exact ih49 A3 (x + 1) (by omega) (by omega) (hk2) (hm16c) (fun y h => by rw [wPt_next (by decide)]; have e : t = 6 := (by omega); rw [e] at hw; exact hw y h)
                    · refine j_ald4 hk dX4_orders_62 rfl rfl ?_
                      refine j_mget hE hk 20 (by decide) rfl q2634 dX4_orders_63 ?_
                      refine j_top (z2 := ((pmask (restOf (g.1.1 s)) : Nat) : Int)) (hP_15) ?_
                      refine j_ild4 hk dX4_orders_66 rfl rfl ?_
                      refine j_ishr (a := pmask (restOf (g.1.1 s))) (b := t) hk (by omega) (by omega) dX4_orders_67 ?_
                      refine j_iconst (n := 1) hk dX4_orders_68 ?_
                      refine j_ibit (a := pmask (restOf (g.1.1 s))) (b := t) hk dX4_orders_69 ?_
                      refine j_iconst (n := 1) hk dX4_orders_70 ?_
                      refine j_icmpB_ne hk dX4_orders_71 rfl (tgt := 99) (fun h71 => ?_) (fun h71 => ?_)
                      · refine j_iconst (n := 0) hk dX4_orders_99 ?_
                        refine j_ist4 hk dX4_orders_100 rfl ?_
                        refine j_ild hk dX4_orders_102 rfl ?_
                        refine j_if_eq hk (by omega) dX4_orders_104 rfl (tgt := 126) (fun _ => ?_) (fun h => absurd h (by omega))
                        refine j_iinc3 hk dX4_orders_126 rfl ?_
                        refine j_goto (tgt := 57) hk dX4_orders_129 rfl ?_
                        refine j_forget (i := 4) ?_
                        exact ih57 A3 (t + 1) (by omega) (by omega) (hk2) (hm16c) (fun y h => by rw [wPt_no ht6.1 (by omega) (by simp [enB, h71])]; exact hw y h)
                      · refine j_ild4 hk dX4_orders_74 rfl rfl ?_
                        refine j_ild4 hk dX4_orders_75 rfl rfl ?_
                        refine j_ishr (a := x) (b := t) hk (by omega) (by omega) dX4_orders_76 ?_
                        refine j_iconst (n := 1) hk dX4_orders_77 ?_
                        refine j_ibit (a := x) (b := t) hk dX4_orders_78 ?_
                        refine j_ifneB hk dX4_orders_79 rfl (tgt := 99) (fun h79 => ?_) (fun h79 => ?_)
                        · refine j_iconst (n := 0) hk dX4_orders_99 ?_
                          refine j_ist4 hk dX4_orders_100 rfl ?_
                          refine j_ild hk dX4_orders_102 rfl ?_
                          refine j_if_eq hk (by omega) dX4_orders_104 rfl (tgt := 126) (fun _ => ?_) (fun h => absurd h (by omega))
                          refine j_iinc3 hk dX4_orders_126 rfl ?_
                          refine j_goto (tgt := 57) hk dX4_orders_129 rfl ?_
                          refine j_forget (i := 4) ?_
                          exact ih57 A3 (t + 1) (by omega) (by omega) (hk2) (hm16c) (fun y h => by rw [wPt_no ht6.1 (by omega) (by simp [enB, h71, h79])]; exact hw y h)
                        · refine j_ald4 hk dX4_orders_82 rfl rfl ?_
                          refine j_mgetA hE hk 16 (by decide) rfl q2630 dX4_orders_83 ?_
                          refine j_ild4 hk dX4_orders_86 rfl rfl ?_
                          refine j_mald hE hk 16 9 rfl (t) (by omega) (by simp only [mLen]; omega) dX4_orders_87 ?_
                          refine j_top (z2 := ((aheadM (restOf (g.1.1 s)) t : Nat) : Int)) (hm16c t (by omega)) ?_
                          refine j_ild4 hk dX4_orders_88 rfl rfl ?_
                          refine j_iconst (n := -1) hk dX4_orders_89 ?_
                          refine j_inot hk dX4_orders_90 ?_
                          refine j_iandn (a := aheadM (restOf (g.1.1 s)) t) (b := x) hk dX4_orders_91 ?_
                          refine j_if_ne hk (by have : jandn (aheadM (restOf (g.1.1 s)) t) x < 64 := Nat.xor_lt_two_pow (n := 6) (maskOf_lt _) (Nat.and_lt_two_pow _ (by omega)); omega) dX4_orders_92 rfl (tgt := 99) (fun h92 => ?_) (fun h92 => ?_)
                          · refine j_iconst (n := 0) hk dX4_orders_99 ?_
                            refine j_ist4 hk dX4_orders_100 rfl ?_
                            refine j_ild hk dX4_orders_102 rfl ?_
                            refine j_if_eq hk (by omega) dX4_orders_104 rfl (tgt := 126) (fun _ => ?_) (fun h => absurd h (by omega))
                            refine j_iinc3 hk dX4_orders_126 rfl ?_
                            refine j_goto (tgt := 57) hk dX4_orders_129 rfl ?_
                            refine j_forget (i := 4) ?_
                            exact ih57 A3 (t + 1) (by omega) (by omega) (hk2) (hm16c) (fun y h => by rw [wPt_no ht6.1 (by omega) (by simp [enB, h71, h79, (show jandn (aheadM (restOf (g.1.1 s)) t) x ≠ 0 by omega)])]; exact hw y h)
                          · refine j_iconst (n := 1) hk dX4_orders_95 ?_
                            refine j_goto (tgt := 100) hk dX4_orders_96 rfl ?_
                            refine j_ist4 hk dX4_orders_100 rfl ?_
                            refine j_ild hk dX4_orders_102 rfl ?_
                            refine j_if_eq hk (by omega) dX4_orders_104 rfl (tgt := 126) (fun h => absurd h (by omega)) (fun _ => ?_)
                            have he : enB (pmask (restOf (g.1.1 s))) (aheadM (restOf (g.1.1 s))) x t = true := by simp [enB, h71, h79, (show jandn (aheadM (restOf (g.1.1 s)) t) x = 0 by omega)]
                            have hor := or_lt64 x (by omega) t (by omega)
                            refine j_ald4 hk dX4_orders_107 rfl rfl ?_
                            refine j_mgetA hE hk 18 (by decide) rfl q2632 dX4_orders_108 ?_
                            refine j_ild4 hk dX4_orders_111 rfl rfl ?_
                            refine j_iconst (n := 1) hk dX4_orders_112 ?_
                            refine j_ild4 hk dX4_orders_113 rfl rfl ?_
                            refine j_ishl (a := 1) (b := t) hk (by omega) dX4_orders_114 ?_
                            refine j_ior (a := x) (b := 1 * 2 ^ t) hk dX4_orders_115 ?_
                            refine j_dup2 hk rfl rfl dX4_orders_116 ?_
                            refine j_mald hE hk 18 11 rfl (x ||| (1 * 2 ^ t)) (by omega) (by simp only [mLen]; omega) dX4_orders_117 ?_
                            refine j_top (z2 := ((wPt (pmask (restOf (g.1.1 s))) (aheadM (restOf (g.1.1 s))) x t (x ||| 1 * 2 ^ t) : Nat) : Int)) (hw _ hor) ?_
                            refine j_ald4 hk dX4_orders_118 rfl rfl ?_
                            refine j_mgetA hE hk 18 (by decide) rfl q2632 dX4_orders_119 ?_
                            refine j_ild4 hk dX4_orders_122 rfl rfl ?_
                            refine j_mald hE hk 18 11 rfl (x) (by omega) (by simp only [mLen]; omega) dX4_orders_123 ?_
                            refine j_top (z2 := ((wW (pmask (restOf (g.1.1 s))) (aheadM (restOf (g.1.1 s))) x : Nat) : Int)) (by rw [hw x (by omega), wPt_full (Nat.le_refl x)]) ?_
                            refine j_iadd hk dX4_orders_124 ?_
                            refine j_mast hE hk hF 18 11 rfl (x ||| (1 * 2 ^ t)) (by omega) (by simp only [mLen]; omega) dX4_orders_125 ?_
                            refine j_iinc3 hk dX4_orders_126 rfl ?_
                            refine j_goto (tgt := 57) hk dX4_orders_129 rfl ?_
                            refine j_forget (i := 4) ?_
                            exact ih57 (mup A3 18 (x ||| (1 * 2 ^ t)) (((wPt (pmask (restOf (g.1.1 s))) (aheadM (restOf (g.1.1 s))) x t (x ||| 1 * 2 ^ t) : Nat) : Int) + ((wW (pmask (restOf (g.1.1 s))) (aheadM (restOf (g.1.1 s))) x : Nat) : Int))) (t + 1) (by omega) (by omega) (hk2.up (by decide)) (hm16c) (fun y h => by
  rw [mup_s, wPt_en (by omega) ht6.1 (by omega) he y h]
  by_cases e : y = x ||| 1 * 2 ^ t
  · subst e; rw [iup_s, if_pos rfl]; rfl
  · rw [iup_n e, if_neg e]; exact hw y h)
                exact loop57 _ A2 1 (Nat.lt_succ_self _) (by omega) (hk2o) (hm16b) (hv)
          exact loop49 _ A1 0 (Nat.lt_succ_self _) (by omega) (hk1) (hm16) (fun y h => by rw [hz y (by omega), wPt_0 (by decide)])
        · refine j_ald4 hk dX4_orders_26 rfl rfl ?_
          refine j_mgetA hE hk 18 (by decide) rfl q2632 dX4_orders_27 ?_
          refine j_ild4 hk dX4_orders_30 rfl rfl ?_
          refine j_ild4 hk dX4_orders_31 rfl rfl ?_
          refine j_if_ne hk (by omega) dX4_orders_32 rfl (tgt := 39) (fun h32 => ?_) (fun h32 => ?_)
          · refine j_iconst (n := 0) hk dX4_orders_39 ?_
            refine j_top (z2 := ((0 : Nat) : Int)) (rfl) ?_
            refine j_mast hE hk hF 18 11 rfl (x) (by omega) (by simp only [mLen]; omega) dX4_orders_40 ?_
            refine j_iinc2 hk dX4_orders_41 rfl ?_
            refine j_goto (tgt := 20) hk dX4_orders_44 rfl ?_
            exact ih20 (mup A1 18 x ((0 : Nat) : Int)) (x + 1) (by omega) (by omega) (hk1.up (by decide)) (fun y h => by
  rw [mup_s]
  by_cases e : y = x
  · subst e; rw [iup_s]; simp [(show y ≠ 0 by omega)]
  · rw [iup_n e]; exact hz y (by omega)) (hm16)
          · refine j_iconst (n := 1) hk dX4_orders_35 ?_
            refine j_goto (tgt := 40) hk dX4_orders_36 rfl ?_
            have hx0 : x = 0 := by omega
            refine j_top (z2 := ((1 : Nat) : Int)) (rfl) ?_
            refine j_mast hE hk hF 18 11 rfl (x) (by omega) (by simp only [mLen]; omega) dX4_orders_40 ?_
            refine j_iinc2 hk dX4_orders_41 rfl ?_
            refine j_goto (tgt := 20) hk dX4_orders_44 rfl ?_
            exact ih20 (mup A1 18 x ((1 : Nat) : Int)) (x + 1) (by omega) (by omega) (hk1.up (by decide)) (fun y h => by
  rw [mup_s]
  by_cases e : y = x
  · subst e; rw [iup_s]; simp [hx0]
  · rw [iup_n e]; exact hz y (by omega)) (hm16)
    exact loop20 _ Az4 0 (Nat.lt_succ_self _) (by omega) (hka_15.wk (by decide)) (fun y h => by omega) (hM_15)
  · refine j_iconst (n := 0) hk dX4_orders_11 ?_
    refine j_miret hk he rfl dX4_orders_12 (Nat.le_refl _) (Nat.le_refl _) ?_
    have e : sp_orders g si = (1, 0, g) := by
      have : isSl si = false := by have h := h8; rw [Bool.not_eq_true'] at h; exact h
      simp [sp_orders, this]
    rw [mP, e]
    exact ⟨rfl, by rw [iup_s, h8]; rfl, hR.up4⟩
set_option maxHeartbeats 1500000 in
/-- serialOrders(I)I -/
theorem mc_serialOrders {l : Launch} {E : jE} {m : Nat} {ad : Nat → Nat} {A : Nat → Nat → Int} {F : Nat → Int} (hls : l.stackTraces = false) (hE : jSt E) {si : Int} {g : SS} (hR : mR A F g) (hr : jr si) : mC l E yX4_serialOrders cX4_serialOrders 2 (some .int) 7 152 [.ref m, .int (jI si)] m ad A F (mQi E m ad (fun r A2 F2 => mP (sp_orders g si) r A2 F2)) := by
  refine m_start (own := "ScheduleAnalyzerModel") (vs := [some (.ref m), some (.int (jI si))]) hls (by decide +kernel) rfl rfl rfl (Nat.le_of_ble_eq_true rfl) ?_
  intro K hk he hl0 hF hG0
  refine j_ald4 hk dX4_serialOrders_0 rfl rfl ?_
  refine j_ild4 hk dX4_serialOrders_1 rfl rfl ?_
  refine j_mVi hE hk hl0 hF (mc_orders hls hE (A := A) (F := F) (si := si) (hR) (hr)) 1 (lw_V q3039 q3041 qs95 q145 q3042) (by decide +kernel) rfl (by decide) (by decide) rfl (Nat.le_of_ble_eq_true rfl) dX4_serialOrders_2 ?_
  intro rz1 Az2 Fz3 hc2
  refine j_miret hk he rfl dX4_serialOrders_5 (Nat.le_refl _) (Nat.le_refl _) ?_
  exact hc2
set_option maxHeartbeats 1500000 in
/-- serialOrdersByTrying(I)I -/
theorem mc_serialOrdersByTrying {l : Launch} {E : jE} {m : Nat} {ad : Nat → Nat} {A : Nat → Nat → Int} {F : Nat → Int} (hls : l.stackTraces = false) (hE : jSt E) {si : Int} {g : SS} (hR : mR A F g) (hr : jr si) : mC l E yX4_serialOrdersByTrying cX4_serialOrdersByTrying 2 (some .int) 7 152 [.ref m, .int (jI si)] m ad A F (mQi E m ad (fun r A2 F2 => mP (sp_orders g si) r A2 F2)) := by
  refine m_start (own := "ScheduleAnalyzerModel") (vs := [some (.ref m), some (.int (jI si))]) hls (by decide +kernel) rfl rfl rfl (Nat.le_of_ble_eq_true rfl) ?_
  intro K hk he hl0 hF hG0
  refine j_ald4 hk dX4_serialOrdersByTrying_0 rfl rfl ?_
  refine j_ild4 hk dX4_serialOrdersByTrying_1 rfl rfl ?_
  refine j_mVi hE hk hl0 hF (mc_orders hls hE (A := A) (F := F) (si := si) (hR) (hr)) 1 (lw_V q3039 q3041 qs95 q145 q3042) (by decide +kernel) rfl (by decide) (by decide) rfl (Nat.le_of_ble_eq_true rfl) dX4_serialOrdersByTrying_2 ?_
  intro rz1 Az2 Fz3 hc2
  refine j_miret hk he rfl dX4_serialOrdersByTrying_5 (Nat.le_refl _) (Nat.le_refl _) ?_
  exact hc2
