set_option maxHeartbeats 1500000 in
/-- layPermutation(II)V -/
theorem mc_layPermutation {l : Launch} {E : jE} {m : Nat} {ad : Nat → Nat} {A : Nat → Nat → Int} {F : Nat → Int} (hls : l.stackTraces = false) (hE : jSt E) {y : Nat} {n : Nat} {pm : Nat} (hP : F 20 = ((pm : Nat) : Int)) (hpm : pm < 64) (hn : n = (bL pm).length) (hn5 : n ≤ 5) (hy : y < 1000) : mC l E yX4_layPermutation cX4_layPermutation 8 (none) 1 12 [.ref m, .int (jI ((y : Nat) : Int)), .int (jI ((n : Nat) : Int))] m ad A F (mQv E m ad (fun A2 F2 => (∀ j, j < n → A2 31 j = (((uR n (bL pm) y).getD j 0 : Nat) : Int)) ∧ kA [31] A A2 ∧ F = F2)) := by
  refine m_start (own := "ScheduleAnalyzerModel") (vs := [some (.ref m), some (.int (jI ((y : Nat) : Int))), some (.int (jI ((n : Nat) : Int))), none, none, none, none, none]) hls (by decide +kernel) rfl rfl rfl (Nat.le_of_ble_eq_true rfl) ?_
  intro K hk he hl0 hF hG0
  refine j_ald4 hk dX4_layPermutation_0 rfl rfl ?_
  refine j_mget hE hk 20 (by decide) rfl q2634 dX4_layPermutation_1 ?_
  refine j_top (z2 := ((pm : Nat) : Int)) (hP) ?_
  refine j_ist3 hk dX4_layPermutation_4 rfl ?_
  refine j_ild4 hk dX4_layPermutation_5 rfl rfl ?_
  refine j_ist4 hk dX4_layPermutation_6 rfl ?_
  refine j_iconst (n := 0) hk dX4_layPermutation_8 ?_
  refine j_ist5 hk dX4_layPermutation_9 rfl ?_
  have loop11 : ∀ (fuel11 : Nat) (A1 : Nat → Nat → Int) (f : Nat) (m_ : Nat) (x : Nat) (k : Nat) (acc : List Nat), f < fuel11 → k + f = n → m_ < 64 → (bL m_).length = f → acc.length = k → acc ++ uR f (bL m_) x = uR n (bL pm) y → (∀ j, j < k → A1 31 j = ((acc.getD j 0 : Nat) : Int)) → kA [31] A A1 → x < 1000 → jW K (mAs E m ad A1 F) 0 0 11 [some (.ref m), some (.int (jI ((y : Nat) : Int))), some (.int (jI ((n : Nat) : Int))), some (.int (jI ((m_ : Nat) : Int))), some (.int (jI ((x : Nat) : Int))), some (.int (jI ((k : Nat) : Int))), none, none] [] := by
    intro fuel11
    induction fuel11 with
    | zero => intro A1 f m_ x k acc hm; exact absurd hm (Nat.not_lt_zero _)
    | succ fuel11 ih11 =>
      intro A1 f m_ x k acc hm11 g1 g2 g3 g4 g5 g6 g7 g8
      refine j_ild hk dX4_layPermutation_11 rfl ?_
      refine j_ild4 hk dX4_layPermutation_13 rfl rfl ?_
      refine j_icmp_ge hk (by omega) (by omega) dX4_layPermutation_14 rfl (tgt := 93) (fun h14 => ?_) (fun h14 => ?_)
      · refine j_mvret hk he dX4_layPermutation_93 (Nat.le_refl _) (Nat.le_refl _) ?_
        have e : f = 0 := by omega
        subst e
        have g5 : acc = uR n (bL pm) y := (List.append_nil acc).symm.trans g5
        exact ⟨fun j hj => by rw [← g5]; exact g6 j (by omega), g7, rfl⟩
      · obtain ⟨f2, rfl⟩ : ∃ f2, f = f2 + 1 := ⟨f - 1, by omega⟩
        have hmod := Nat.mod_lt x (Nat.succ_pos f2)
        have hdl := Nat.div_le_self x (f2 + 1)
        have hs0 : (x % (f2 + 1)) < (bL m_).length := by rw [g3]; exact hmod
        refine j_ild hk dX4_layPermutation_17 rfl ?_
        refine j_ild4 hk dX4_layPermutation_19 rfl rfl ?_
        refine j_ild hk dX4_layPermutation_20 rfl ?_
        refine j_isub hk dX4_layPermutation_22 ?_
        refine j_top (z2 := ((f2 + 1 : Nat) : Int)) (by omega) ?_
        refine j_irem hk (by omega) dX4_layPermutation_23 ?_
        refine j_top (z2 := ((x % (f2 + 1) : Nat) : Int)) ((Int.natCast_emod _ _).symm) ?_
        refine j_ist6 hk dX4_layPermutation_24 rfl ?_
        refine j_ild hk dX4_layPermutation_26 rfl ?_
        refine j_ild4 hk dX4_layPermutation_28 rfl rfl ?_
        refine j_ild hk dX4_layPermutation_29 rfl ?_
        refine j_isub hk dX4_layPermutation_31 ?_
        refine j_top (z2 := ((f2 + 1 : Nat) : Int)) (by omega) ?_
        refine j_idiv hk (by omega) dX4_layPermutation_32 ?_
        refine j_top (z2 := ((x / (f2 + 1) : Nat) : Int)) ((Int.natCast_ediv _ _).symm) ?_
        refine j_ist4 hk dX4_layPermutation_33 rfl ?_
        refine j_iconst (n := 1) hk dX4_layPermutation_35 ?_
        refine j_ist7 hk dX4_layPermutation_36 rfl ?_
        have loop38 : ∀ (fuel38 : Nat) (u : Nat) (s : Nat) (f3 : Nat), f3 < fuel38 → 1 ≤ u ∧ f3 + u = 6 → s < (bF m_ f3 u).length → (bF m_ f3 u).getD s 0 = (bL m_).getD (x % (f2 + 1)) 0 → jW K (mAs E m ad A1 F) 0 0 38 [some (.ref m), some (.int (jI ((y : Nat) : Int))), some (.int (jI ((n : Nat) : Int))), some (.int (jI ((m_ : Nat) : Int))), some (.int (jI ((x / (f2 + 1) : Nat) : Int))), some (.int (jI ((k : Nat) : Int))), some (.int (jI ((s : Nat) : Int))), some (.int (jI ((u : Nat) : Int)))] [] := by
          intro fuel38
          induction fuel38 with
          | zero => intro u s f3 hm; exact absurd hm (Nat.not_lt_zero _)
          | succ fuel38 ih38 =>
            intro u s f3 hm38 hu1 hs hT
            refine j_ild4 hk dX4_layPermutation_38 rfl rfl ?_
            have hbl := bF_len m_ f3 u
            obtain ⟨f4, rfl⟩ : ∃ f4, f3 = f4 + 1 := ⟨f3 - 1, by omega⟩
            refine j_ild hk dX4_layPermutation_39 rfl ?_
            refine j_ishr (a := m_) (b := u) hk (by omega) (by omega) dX4_layPermutation_41 ?_
            refine j_iconst (n := 1) hk dX4_layPermutation_42 ?_
            refine j_ibit (a := m_) (b := u) hk dX4_layPermutation_43 ?_
            refine j_ifeqB hk dX4_layPermutation_44 rfl (tgt := 52) (fun h44 => ?_) (fun h44 => ?_)
            · refine j_ild hk dX4_layPermutation_52 rfl ?_
              refine j_ild4 hk dX4_layPermutation_54 rfl rfl ?_
              refine j_ild hk dX4_layPermutation_55 rfl ?_
              refine j_ishr (a := m_) (b := u) hk (by omega) (by omega) dX4_layPermutation_57 ?_
              refine j_iconst (n := 1) hk dX4_layPermutation_58 ?_
              refine j_ibit (a := m_) (b := u) hk dX4_layPermutation_59 ?_
              refine j_isub hk dX4_layPermutation_60 ?_
              refine j_top (z2 := ((s : Nat) : Int)) (by rw [h44]; exact Int.sub_zero _) ?_
              refine j_ist6 hk dX4_layPermutation_61 rfl ?_
              refine j_iinc7 hk dX4_layPermutation_63 rfl ?_
              refine j_goto (tgt := 38) hk dX4_layPermutation_66 rfl ?_
              exact ih38 (u + 1) s f4 (by omega) (by omega) (by have h := hs; rw [bF_s, if_neg (by rw [h44]; decide)] at h; exact h) (by have h := hT; rw [bF_s, if_neg (by rw [h44]; decide)] at h; exact h)
            · refine j_ild hk dX4_layPermutation_47 rfl ?_
              refine j_if_le hk (by omega) dX4_layPermutation_49 rfl (tgt := 69) (fun h49 => ?_) (fun h49 => ?_)
              · have e0 : s = 0 := by omega
                have hu : u = (bL m_).getD (x % (f2 + 1)) 0 := by rw [← hT, bF_s, if_pos h44, e0]; rfl
                refine j_ald4 hk dX4_layPermutation_69 rfl rfl ?_
                refine j_mgetA hE hk 31 (by decide) rfl q2645 dX4_layPermutation_70 ?_
                refine j_ild hk dX4_layPermutation_73 rfl ?_
                refine j_ild hk dX4_layPermutation_75 rfl ?_
                refine j_mast hE hk hF 31 19 rfl (k) (by omega) (by simp only [mLen]; omega) dX4_layPermutation_77 ?_
                refine j_ild4 hk dX4_layPermutation_78 rfl rfl ?_
                refine j_iconst (n := 1) hk dX4_layPermutation_79 ?_
                refine j_ild hk dX4_layPermutation_80 rfl ?_
                refine j_ishl (a := 1) (b := u) hk (by omega) dX4_layPermutation_82 ?_
                refine j_iconst (n := -1) hk dX4_layPermutation_83 ?_
                refine j_inot hk dX4_layPermutation_84 ?_
                refine j_iandn (a := m_) (b := 1 * 2 ^ u) hk dX4_layPermutation_85 ?_
                refine j_ist3 hk dX4_layPermutation_86 rfl ?_
                refine j_iinc5 hk dX4_layPermutation_87 rfl ?_
                refine j_goto (tgt := 11) hk dX4_layPermutation_90 rfl ?_
                refine j_forget (i := 6) ?_
                refine j_forget (i := 7) ?_
                exact ih11 (mup A1 31 k ((u : Nat) : Int)) f2 (jandn m_ (1 * 2 ^ u)) (x / (f2 + 1)) (k + 1) (acc ++ [u]) (by omega) (by omega) (jandn_lt g2) (by rw [hu, bL_pick m_ g2 _ (by omega) hs0, List.length_eraseIdx_of_lt hs0]; omega) (by rw [List.length_append, g4]; rfl) (by rw [← g5, uR_s, hu, bL_pick m_ g2 _ (by omega) hs0, List.append_assoc]; rfl) (fun j hj => by
  rw [mup_s]
  by_cases e : j < k
  · rw [getD_app_lt (by omega), iup_n (by omega)]; exact g6 j e
  · have e : j = acc.length := by omega
    rw [e, getD_app_eq, g4, iup_s]) (g7.up (by decide)) (by omega)
              · refine j_ild hk dX4_layPermutation_52 rfl ?_
                refine j_ild4 hk dX4_layPermutation_54 rfl rfl ?_
                refine j_ild hk dX4_layPermutation_55 rfl ?_
                refine j_ishr (a := m_) (b := u) hk (by omega) (by omega) dX4_layPermutation_57 ?_
                refine j_iconst (n := 1) hk dX4_layPermutation_58 ?_
                refine j_ibit (a := m_) (b := u) hk dX4_layPermutation_59 ?_
                refine j_isub hk dX4_layPermutation_60 ?_
                obtain ⟨s2, rfl⟩ : ∃ s2, s = s2 + 1 := ⟨s - 1, by omega⟩
                refine j_top (z2 := ((s2 : Nat) : Int)) (by rw [h44]; show ((s2 + 1 : Nat) : Int) - 1 = _; omega) ?_
                refine j_ist6 hk dX4_layPermutation_61 rfl ?_
                refine j_iinc7 hk dX4_layPermutation_63 rfl ?_
                refine j_goto (tgt := 38) hk dX4_layPermutation_66 rfl ?_
                exact ih38 (u + 1) s2 f4 (by omega) (by omega) (by have h := hs; rw [bF_s, if_pos h44, List.length_cons] at h; omega) (by rw [← hT, bF_s, if_pos h44]; rfl)
        exact loop38 _ 1 (x % (f2 + 1)) 5 (Nat.lt_succ_self _) (by omega) (hs0) (rfl)
  exact loop11 _ A n pm y 0 ([]) (Nat.lt_succ_self _) (by omega) (hpm) (hn.symm) (rfl) (rfl) (fun j h => absurd h (Nat.not_lt_zero _)) (kA.rf) (hy)
set_option maxHeartbeats 1500000 in
/-- laySequence(I)V -/
theorem mc_laySequence {l : Launch} {E : jE} {m : Nat} {ad : Nat → Nat} {A : Nat → Nat → Int} {F : Nat → Int} (hls : l.stackTraces = false) (hE : jSt E) {n : Nat} {L : List Op} {P : List Nat} (hL : laid A F L) (hPn : P.Nodup) (hn : P.length = n) (hn5 : n ≤ 5) (hpr : ∀ j, j < n → A 31 j = ((P.getD j 0 : Nat) : Int)) (hP5 : ∀ j, P.getD j 0 ≤ 5) (hcv : ∀ o ∈ L, oT o ∈ P) : mC l E yX4_laySequence cX4_laySequence 5 (none) 2 33 [.ref m, .int (jI ((n : Nat) : Int))] m ad A F (mQv E m ad (fun A2 F2 => sqIs A2 L (sqAt L P) (sqPl L P) ∧ kA [29, 30] A A2 ∧ F = F2)) := by
  refine m_start (own := "ScheduleAnalyzerModel") (vs := [some (.ref m), some (.int (jI ((n : Nat) : Int))), none, none, none]) hls (by decide +kernel) rfl rfl rfl (Nat.le_of_ble_eq_true rfl) ?_
  intro K hk he hl0 hF hG0
  have hlen := hL.len
  refine j_iconst (n := 0) hk dX4_laySequence_0 ?_
  refine j_ist2 hk dX4_laySequence_1 rfl ?_
  refine j_iconst (n := 0) hk dX4_laySequence_2 ?_
  refine j_ist3 hk dX4_laySequence_3 rfl ?_
  have loop4 : ∀ (fuel4 : Nat) (A1 : Nat → Nat → Int) (k : Nat), n - k < fuel4 → k ≤ n → (∀ j, j < (sqL L (P.take k)).length → A1 29 j = (((sqL L (P.take k)).getD j 0 : Nat) : Int)) → kA [29, 30] A A1 → jW K (mAs E m ad A1 F) 0 0 4 [some (.ref m), some (.int (jI ((n : Nat) : Int))), some (.int (jI (((sqL L (P.take k)).length : Nat) : Int))), some (.int (jI ((k : Nat) : Int))), none] [] := by
    intro fuel4
    induction fuel4 with
    | zero => intro A1 k hm; exact absurd hm (Nat.not_lt_zero _)
    | succ fuel4 ih4 =>
      intro A1 k hm4 hk1 hs1 ka1
      refine j_ild4 hk dX4_laySequence_4 rfl rfl ?_
      refine j_ild4 hk dX4_laySequence_5 rfl rfl ?_
      refine j_icmp_ge hk (by omega) (by omega) dX4_laySequence_6 rfl (tgt := 63) (fun h6 => ?_) (fun h6 => ?_)
      · have ek : P.take k = P := List.take_of_length_le (by omega)
        rw [ek] at hs1
        have hal := sq_all hPn hcv
        refine j_ald4 hk dX4_laySequence_63 rfl rfl ?_
        refine j_mVv hE hk hl0 hF (mc_layPlaces hls hE (A := A1) (F := F) (L := L) (q := sqAt L P) (hL.keep (ka1 13 (by decide)) (ka1 14 (by decide)) (ka1 15 (by decide)) rfl) (fun j hj => ⟨hs1 j (by omega), sqAt_lt (by omega)⟩) (fun i j hi hj e => sqAt_inj hPn (by omega) (by omega) e)) 0 (lw_V q3071 q3073 qs99 q145 q3074) (by decide +kernel) rfl (by decide) (by decide) rfl (Nat.le_of_ble_eq_true rfl) dX4_laySequence_64 ?_
        intro Az1 Fz2 hc64
        obtain ⟨hpl_64, ka_64, rfl⟩ := hc64
        refine j_mvret hk he dX4_laySequence_67 (Nat.le_refl _) (Nat.le_refl _) ?_
        exact ⟨⟨fun j hj => ⟨by rw [ka_64 29 (by decide)]; exact hs1 j (by omega), sqAt_lt (by omega)⟩, fun j hj => ⟨by have h := hpl_64 (sqPl L P j) (sqPl_lt hPn hcv hj).1; rw [(sqPl_lt hPn hcv hj).2] at h; exact h, (sqPl_lt hPn hcv hj).1⟩⟩, ka1.tr ka_64 (by decide), rfl⟩
      · refine j_iconst (n := 0) hk dX4_laySequence_9 ?_
        refine j_ist4 hk dX4_laySequence_10 rfl ?_
        have loop12 : ∀ (fuel12 : Nat) (A2 : Nat → Nat → Int) (i : Nat), L.length - i < fuel12 → i ≤ L.length → (∀ j, j < (sqL L (P.take k) ++ (List.range i).filter (sqP L (P.getD k 0))).length → A2 29 j = (((sqL L (P.take k) ++ (List.range i).filter (sqP L (P.getD k 0))).getD j 0 : Nat) : Int)) → kA [29, 30] A A2 → jW K (mAs E m ad A2 F) 0 0 12 [some (.ref m), some (.int (jI ((n : Nat) : Int))), some (.int (jI (((sqL L (P.take k) ++ (List.range i).filter (sqP L (P.getD k 0))).length : Nat) : Int))), some (.int (jI ((k : Nat) : Int))), some (.int (jI ((i : Nat) : Int)))] [] := by
          intro fuel12
          induction fuel12 with
          | zero => intro A2 i hm; exact absurd hm (Nat.not_lt_zero _)
          | succ fuel12 ih12 =>
            intro A2 i hm12 hi1 hs2 ka2
            refine j_ild hk dX4_laySequence_12 rfl ?_
            refine j_ald4 hk dX4_laySequence_14 rfl rfl ?_
            refine j_mget hE hk 19 (by decide) rfl q2633 dX4_laySequence_15 ?_
            refine j_top (z2 := ((L.length : Nat) : Int)) (hL.1) ?_
            refine j_icmp_ge hk (by omega) (by omega) dX4_laySequence_18 rfl (tgt := 57) (fun h18 => ?_) (fun h18 => ?_)
            · have ei : i = L.length := by omega
              have es2 : (sqL L (P.take k) ++ (List.range i).filter (sqP L (P.getD k 0))) = sqL L (P.take (k + 1)) := by rw [getD_take (by omega), sqL_push, ei]
              refine j_loc (i := 2) (z2 := (((sqL L (P.take (k + 1))).length : Nat) : Int)) rfl (by rw [es2]) ?_
              refine j_iinc3 hk dX4_laySequence_57 rfl ?_
              refine j_goto (tgt := 4) hk dX4_laySequence_60 rfl ?_
              refine j_forget (i := 4) ?_
              exact ih4 A2 (k + 1) (by omega) (by omega) (by rw [← es2]; exact hs2) (ka2)
            · obtain ⟨l1, l2, l3⟩ := hL.2.2 i (by omega)
              have l5 := (hL.ok (i := i) (by omega)).2.2.1
              have hP6 := hP5 k
              refine j_ald4 hk dX4_laySequence_21 rfl rfl ?_
              refine j_mgetA hE hk 14 (by decide) rfl q2628 dX4_laySequence_22 ?_
              refine j_ild hk dX4_laySequence_25 rfl ?_
              refine j_mald hE hk 14 7 rfl (i) (by omega) (by simp only [mLen]; omega) dX4_laySequence_27 ?_
              refine j_top (z2 := ((oT (opAt L i) : Nat) : Int)) (by rw [ka2 14 (by decide)]; exact l2) ?_
              refine j_ald4 hk dX4_laySequence_28 rfl rfl ?_
              refine j_mgetA hE hk 31 (by decide) rfl q2645 dX4_laySequence_29 ?_
              refine j_ild4 hk dX4_laySequence_32 rfl rfl ?_
              refine j_mald hE hk 31 19 rfl (k) (by omega) (by simp only [mLen]; omega) dX4_laySequence_33 ?_
              refine j_top (z2 := ((P.getD k 0 : Nat) : Int)) (by rw [ka2 31 (by decide)]; exact hpr k (by omega)) ?_
              refine j_icmp_eq hk (by omega) (by omega) dX4_laySequence_34 rfl (tgt := 40) (fun h34 => ?_) (fun h34 => ?_)
              · have he : oT (opAt L i) = P.getD k 0 := by omega
                have hlt20 := sq_lt (r := k) (k := i) hlen hPn (by omega) (by omega) he
                refine j_ald4 hk dX4_laySequence_40 rfl rfl ?_
                refine j_mgetA hE hk 29 (by decide) rfl q2643 dX4_laySequence_41 ?_
                refine j_ild4 hk dX4_laySequence_44 rfl rfl ?_
                refine j_ild hk dX4_laySequence_45 rfl ?_
                refine j_mast hE hk hF 29 17 rfl ((sqL L (P.take k) ++ (List.range i).filter (sqP L (P.getD k 0))).length) (by omega) (by simp only [mLen]; omega) dX4_laySequence_47 ?_
                refine j_iinc2 hk dX4_laySequence_48 rfl ?_
                have hsq : sqP L (P.getD k 0) i = true := decide_eq_true he
                have es : (sqL L (P.take k) ++ (List.range (i + 1)).filter (sqP L (P.getD k 0))) = (sqL L (P.take k) ++ (List.range i).filter (sqP L (P.getD k 0))) ++ [i] := by rw [sq_s, if_pos hsq, List.append_assoc]
                refine j_loc (i := 2) (z2 := (((sqL L (P.take k) ++ (List.range (i + 1)).filter (sqP L (P.getD k 0))).length : Nat) : Int)) rfl (by simp only [es, List.length_append, List.length_singleton]; omega) ?_
                refine j_iinc4 hk dX4_laySequence_51 rfl ?_
                refine j_goto (tgt := 12) hk dX4_laySequence_54 rfl ?_
                exact ih12 (mup A2 29 ((sqL L (P.take k) ++ (List.range i).filter (sqP L (P.getD k 0))).length) ((i : Nat) : Int)) (i + 1) (by omega) (by omega) (fun j hj => by
  rw [mup_s, es]
  rw [es, List.length_append] at hj
  by_cases e : j < (sqL L (P.take k) ++ (List.range i).filter (sqP L (P.getD k 0))).length
  · rw [getD_app_lt e, iup_n (by omega)]; exact hs2 j e
  · have e : j = (sqL L (P.take k) ++ (List.range i).filter (sqP L (P.getD k 0))).length := by have : [i].length = 1 := rfl; omega
    rw [e, getD_app_eq, iup_s]) (ka2.up (by decide))
              · refine j_goto (tgt := 51) hk dX4_laySequence_37 rfl ?_
                have hsq : sqP L (P.getD k 0) i = false := decide_eq_false (by omega)
                have es : (sqL L (P.take k) ++ (List.range (i + 1)).filter (sqP L (P.getD k 0))) = (sqL L (P.take k) ++ (List.range i).filter (sqP L (P.getD k 0))) := by rw [sq_s, if_neg (by rw [hsq]; decide), List.append_nil]
                refine j_loc (i := 2) (z2 := (((sqL L (P.take k) ++ (List.range (i + 1)).filter (sqP L (P.getD k 0))).length : Nat) : Int)) rfl (by rw [es]) ?_
                refine j_iinc4 hk dX4_laySequence_51 rfl ?_
                refine j_goto (tgt := 12) hk dX4_laySequence_54 rfl ?_
                exact ih12 A2 (i + 1) (by omega) (by omega) (by rw [es]; exact hs2) (ka2)
        refine j_loc (i := 2) (z2 := (((sqL L (P.take k) ++ (List.range 0).filter (sqP L (P.getD k 0))).length : Nat) : Int)) rfl (by rw [show (sqL L (P.take k) ++ (List.range 0).filter (sqP L (P.getD k 0))) = sqL L (P.take k) from List.append_nil _]) ?_
        exact loop12 _ A1 0 (Nat.lt_succ_self _) (Nat.zero_le _) (by rw [show (sqL L (P.take k) ++ (List.range 0).filter (sqP L (P.getD k 0))) = sqL L (P.take k) from List.append_nil _]; exact hs1) (ka1)
  exact loop4 _ A 0 (Nat.lt_succ_self _) (Nat.zero_le _) (fun j h => absurd h (Nat.not_lt_zero _)) (kA.rf)
set_option maxHeartbeats 1500000 in
/-- isViewSerializable(I)Z -/
theorem mc_isViewSerializable {l : Launch} {E : jE} {m : Nat} {ad : Nat → Nat} {A : Nat → Nat → Int} {F : Nat → Int} (hls : l.stackTraces = false) (hE : jSt E) {si : Int} {g : SS} (hR : mR A F g) (hr : jr si) : mC l E yX4_isViewSerializable cX4_isViewSerializable 5 (some .boolean) 5 105 [.ref m, .int (jI si)] m ad A F (mQi E m ad (fun r A2 F2 => mP (sp_isViewSerializable g si) r A2 F2)) := by
  refine m_start (own := "ScheduleAnalyzerModel") (vs := [some (.ref m), some (.int (jI si)), none, none, none]) hls (by decide +kernel) rfl rfl rfl (Nat.le_of_ble_eq_true rfl) ?_
  intro K hk he hl0 hF hG0
  refine j_ald4 hk dX4_isViewSerializable_0 rfl rfl ?_
  refine j_ild4 hk dX4_isViewSerializable_1 rfl rfl ?_
  refine j_sSi hk hl0 (sc_isSlot hls (v := si) (hr)) 1 (lw_S q2752 q2753 q145 q2754) (by decide +kernel) rfl (by decide) (by decide) rfl (Nat.le_of_ble_eq_true rfl) dX4_isViewSerializable_2 ?_
  refine j_mVi hE hk hl0 hF (mc_checked hls hE (A := A) (F := F) (b := decide (0 ≤ si ∧ si ≤ 3)) ) 1 (lw_V q2972 q2974 qs92 q145 q2975) (by decide +kernel) rfl (by decide) (by decide) rfl (Nat.le_of_ble_eq_true rfl) dX4_isViewSerializable_5 ?_
  rintro _ _ _ ⟨rfl, rfl, rfl⟩
  refine j_ifleB hk dX4_isViewSerializable_8 rfl (tgt := 13) (fun h8 => ?_) (fun h8 => ?_)
  · have q1 : 0 ≤ si ∧ si ≤ 3 := by simpa using h8
    obtain ⟨s, rfl⟩ : ∃ s : Nat, si = ((s : Nat) : Int) := ⟨si.toNat, by omega⟩
    have e1 : isSl (s : Int) = true := by simp [isSl]; omega
    have hm : mR A (iup F 4 (jB (!decide (0 ≤ (s : Int) ∧ (s : Int) ≤ 3)))) g := hR.up4
    have ht : (iup F 4 (jB (!decide (0 ≤ (s : Int) ∧ (s : Int) ≤ 3)))) 4 = 0 := by rw [iup_s, h8]; rfl
    refine j_ald4 hk dX4_isViewSerializable_13 rfl rfl ?_
    refine j_ild4 hk dX4_isViewSerializable_14 rfl rfl ?_
    refine j_iconst (n := 1) hk dX4_isViewSerializable_15 ?_
    refine j_mVv hE hk hl0 hF (mc_lay hls hE (A := A) (F := (iup F 4 (jB (!(decide (0 ≤ ((s : Nat) : Int) ∧ ((s : Nat) : Int) ≤ 3)))))) (s := s) (b := true) (S := g.1.1) (V := g.1.2) (hm.1) (by omega)) 2 (lw_V q2889 q2891 qs74 q145 q2892) (by decide +kernel) rfl (by decide) (by decide) rfl (Nat.le_of_ble_eq_true rfl) dX4_isViewSerializable_16 ?_
    intro Az4 Fz5 hc16
    obtain ⟨hL0, hP0, hka0, hkf0⟩ := hc16
    have hL0 : laid Az4 Fz5 (restOf (g.1.1 s)) := hL0
    have hP0 : Fz5 20 = (((pmask (restOf (g.1.1 s))) : Nat) : Int) := hP0
    have hlen := hL0.len
    have hPl : (pmask (restOf (g.1.1 s))) < 64 := pmask_lt hL0.2.1.2
    have hn5 : (bL (pmask (restOf (g.1.1 s)))).length ≤ 5 := bF_len _ _ _
    have hfc := fcN_le (bL (pmask (restOf (g.1.1 s)))).length hn5
    refine j_ald4 hk dX4_isViewSerializable_19 rfl rfl ?_
    refine j_mget hE hk 20 (by decide) rfl q2634 dX4_isViewSerializable_20 ?_
    refine j_top (z2 := (((pmask (restOf (g.1.1 s))) : Nat) : Int)) (hP0) ?_
    refine j_sSi hk hl0 (sc_bits hls (p := (pmask (restOf (g.1.1 s)))) (hPl)) 1 (lw_S q2909 q2910 q145 q2911) (by decide +kernel) rfl (by decide) (by decide) rfl (Nat.le_of_ble_eq_true rfl) dX4_isViewSerializable_23 ?_
    refine j_top (z2 := (((bL (pmask (restOf (g.1.1 s)))).length : Nat) : Int)) (by rw [bL_bits _ hPl (pmask_even hL0.2.1.2)]) ?_
    refine j_ist2 hk dX4_isViewSerializable_26 rfl ?_
    refine j_iconst (n := 1) hk dX4_isViewSerializable_27 ?_
    refine j_ist3 hk dX4_isViewSerializable_28 rfl ?_
    refine j_iconst (n := 2) hk dX4_isViewSerializable_29 ?_
    refine j_ist4 hk dX4_isViewSerializable_30 rfl ?_
    have loop32 : ∀ (fuel32 : Nat) (j : Nat), 6 - j < fuel32 → 1 ≤ j ∧ (j ≤ (bL (pmask (restOf (g.1.1 s)))).length ∨ j = 1) → jW K (mAs E m ad Az4 Fz5) 0 0 32 [some (.ref m), some (.int (jI ((s : Nat) : Int))), some (.int (jI (((bL (pmask (restOf (g.1.1 s)))).length : Nat) : Int))), some (.int (jI ((fcN j : Nat) : Int))), some (.int (jI ((j + 1 : Nat) : Int)))] [] := by
      intro fuel32
      induction fuel32 with
      | zero => intro j hm; exact absurd hm (Nat.not_lt_zero _)
      | succ fuel32 ih32 =>
        intro j hm32 hj
        refine j_ild hk dX4_isViewSerializable_32 rfl ?_
        refine j_ild4 hk dX4_isViewSerializable_34 rfl rfl ?_
        refine j_icmp_gt hk (by omega) (by omega) dX4_isViewSerializable_35 rfl (tgt := 49) (fun h35 => ?_) (fun h35 => ?_)
        · have hfe : fcN j = fcN (bL (pmask (restOf (g.1.1 s)))).length := fc_end hj (by omega)
          refine j_loc (i := 3) (z2 := ((fcN (bL (pmask (restOf (g.1.1 s)))).length : Nat) : Int)) rfl (by rw [hfe]) ?_
          refine j_iconst (n := 0) hk dX4_isViewSerializable_49 ?_
          refine j_ist4 hk dX4_isViewSerializable_50 rfl ?_
          have loop52 : ∀ (fuel52 : Nat) (A1 : Nat → Nat → Int) (x : Nat), fcN (bL (pmask (restOf (g.1.1 s)))).length - x < fuel52 → x ≤ fcN (bL (pmask (restOf (g.1.1 s)))).length → (∀ z, z < x → vwX (restOf (g.1.1 s)) z = false) → laid A1 Fz5 (restOf (g.1.1 s)) → kA [13, 14, 15, 29, 30, 31] A A1 → jW K (mAs E m ad A1 Fz5) 0 0 52 [some (.ref m), some (.int (jI ((s : Nat) : Int))), some (.int (jI (((bL (pmask (restOf (g.1.1 s)))).length : Nat) : Int))), some (.int (jI ((fcN (bL (pmask (restOf (g.1.1 s)))).length : Nat) : Int))), some (.int (jI ((x : Nat) : Int)))] [] := by
            intro fuel52
            induction fuel52 with
            | zero => intro A1 x hm; exact absurd hm (Nat.not_lt_zero _)
            | succ fuel52 ih52 =>
              intro A1 x hm52 hx hx2 hL1 ka1
              refine j_ild hk dX4_isViewSerializable_52 rfl ?_
              refine j_ild4 hk dX4_isViewSerializable_54 rfl rfl ?_
              refine j_icmp_ge hk (by omega) (by omega) dX4_isViewSerializable_55 rfl (tgt := 85) (fun h55 => ?_) (fun h55 => ?_)
              · refine j_iconst (n := 0) hk dX4_isViewSerializable_85 ?_
                refine j_miret hk he rfl dX4_isViewSerializable_86 (Nat.le_refl _) (Nat.le_refl _) ?_
                have e : sp_isViewSerializable g (s : Int) = (0, jB false, g) := by simp only [sp_isViewSerializable, e1, gRest, Int.toNat_natCast, Bool.not_true, Bool.false_eq_true, if_false]; rw [show viewB (restOf (g.1.1 s)) = false from any_range (fun z hz => hx2 z (by omega))]
                rw [mP, e]
                exact ⟨rfl, by rw [hkf0 4 (by decide)]; exact ht, hm.keep ka1 hkf0 (by decide) (by decide)⟩
              · refine j_ald4 hk dX4_isViewSerializable_58 rfl rfl ?_
                refine j_ild hk dX4_isViewSerializable_59 rfl ?_
                refine j_ild4 hk dX4_isViewSerializable_61 rfl rfl ?_
                refine j_mVv hE hk hl0 hF (mc_layPermutation hls hE (A := A1) (F := Fz5) (y := x) (n := (bL (pmask (restOf (g.1.1 s)))).length) (pm := (pmask (restOf (g.1.1 s)))) (hP0) (hPl) (rfl) (hn5) (by omega)) 2 (lw_V q3063 q3065 qs97 q145 q3066) (by decide +kernel) rfl (by decide) (by decide) rfl (Nat.le_of_ble_eq_true rfl) dX4_isViewSerializable_62 ?_
                intro Az6 Fz7 hc62
                obtain ⟨hpr_62, ka_62, rfl⟩ := hc62
                refine j_ald4 hk dX4_isViewSerializable_65 rfl rfl ?_
                refine j_ild4 hk dX4_isViewSerializable_66 rfl rfl ?_
                refine j_mVv hE hk hl0 hF (mc_laySequence hls hE (A := Az6) (F := Fz5) (n := (bL (pmask (restOf (g.1.1 s)))).length) (L := (restOf (g.1.1 s))) (P := (uR (bL (pmask (restOf (g.1.1 s)))).length (bL (pmask (restOf (g.1.1 s)))) x)) (hL1.keep (ka_62 13 (by decide)) (ka_62 14 (by decide)) (ka_62 15 (by decide)) rfl) (uR_nd) (uR_len rfl) (hn5) (hpr_62) (fun j => uR_5) (uR_all hL0.2.1)) 1 (lw_V q3067 q3069 qs98 q145 q3070) (by decide +kernel) rfl (by decide) (by decide) rfl (Nat.le_of_ble_eq_true rfl) dX4_isViewSerializable_67 ?_
                intro Az8 Fz9 hc67
                obtain ⟨hsq_67, ka_67, rfl⟩ := hc67
                refine j_ald4 hk dX4_isViewSerializable_70 rfl rfl ?_
                refine j_mVi hE hk hl0 hF (mc_isSameView hls hE (A := Az8) (F := Fz5) (L := (restOf (g.1.1 s))) (q := (sqAt (restOf (g.1.1 s)) (uR (bL (pmask (restOf (g.1.1 s)))).length (bL (pmask (restOf (g.1.1 s)))) x))) (pl := (sqPl (restOf (g.1.1 s)) (uR (bL (pmask (restOf (g.1.1 s)))).length (bL (pmask (restOf (g.1.1 s)))) x))) ((hL1.keep (ka_62 13 (by decide)) (ka_62 14 (by decide)) (ka_62 15 (by decide)) rfl).keep (ka_67 13 (by decide)) (ka_67 14 (by decide)) (ka_67 15 (by decide)) rfl) (hsq_67)) 0 (lw_V q3075 q3077 qs100 q145 q3078) (by decide +kernel) rfl (by decide) (by decide) rfl (Nat.le_of_ble_eq_true rfl) dX4_isViewSerializable_71 ?_
                rintro _ _ _ ⟨rfl, rfl, rfl⟩
                refine j_ifeqB hk dX4_isViewSerializable_74 rfl (tgt := 79) (fun h74 => ?_) (fun h74 => ?_)
                · refine j_iinc4 hk dX4_isViewSerializable_79 rfl ?_
                  refine j_goto (tgt := 52) hk dX4_isViewSerializable_82 rfl ?_
                  exact ih52 Az8 (x + 1) (by omega) (by omega) (all_s hx2 h74) ((hL1.keep (ka_62 13 (by decide)) (ka_62 14 (by decide)) (ka_62 15 (by decide)) rfl).keep (ka_67 13 (by decide)) (ka_67 14 (by decide)) (ka_67 15 (by decide)) rfl) ((ka1.tr ka_62 (by decide)).tr ka_67 (by decide))
                · refine j_iconst (n := 1) hk dX4_isViewSerializable_77 ?_
                  refine j_miret hk he rfl dX4_isViewSerializable_78 (Nat.le_refl _) (Nat.le_refl _) ?_
                  have e : sp_isViewSerializable g (s : Int) = (0, jB true, g) := by simp only [sp_isViewSerializable, e1, gRest, Int.toNat_natCast, Bool.not_true, Bool.false_eq_true, if_false]; rw [show viewB (restOf (g.1.1 s)) = true from any_range_t (j := x) (by omega) h74]
                  rw [mP, e]
                  exact ⟨rfl, by rw [hkf0 4 (by decide)]; exact ht, hm.keep ((ka1.tr ka_62 (by decide)).tr ka_67 (by decide)) hkf0 (by decide) (by decide)⟩
          exact loop52 _ Az4 0 (Nat.lt_succ_self _) (Nat.zero_le _) (fun z h => absurd h (Nat.not_lt_zero _)) (hL0) (hka0.wk (by decide))
        · refine j_ild4 hk dX4_isViewSerializable_38 rfl rfl ?_
          refine j_ild hk dX4_isViewSerializable_39 rfl ?_
          refine j_imul hk dX4_isViewSerializable_41 ?_
          refine j_top (z2 := ((fcN (j + 1) : Nat) : Int)) (by show _ = (((j + 1) * fcN j : Nat) : Int); rw [Nat.mul_comm, Int.natCast_mul]) ?_
          refine j_ist3 hk dX4_isViewSerializable_42 rfl ?_
          refine j_iinc4 hk dX4_isViewSerializable_43 rfl ?_
          refine j_goto (tgt := 32) hk dX4_isViewSerializable_46 rfl ?_
          exact ih32 (j + 1) (by omega) (by omega)
    exact loop32 _ 1 (Nat.lt_succ_self _) (by omega)
  · refine j_iconst (n := 0) hk dX4_isViewSerializable_11 ?_
    refine j_miret hk he rfl dX4_isViewSerializable_12 (Nat.le_refl _) (Nat.le_refl _) ?_
    have e : sp_isViewSerializable g si = (1, 0, g) := by
      have : isSl si = false := by have h := h8; rw [Bool.not_eq_true'] at h; exact h
      simp [sp_isViewSerializable, this]
    rw [mP, e]
    exact ⟨rfl, by rw [iup_s, h8]; rfl, hR.up4⟩
