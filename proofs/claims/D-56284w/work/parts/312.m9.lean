set_option maxHeartbeats 1500000 in
/-- bits(I)I -/
theorem sc_bits {l : Launch} {E : jE} (hls : l.stackTraces = false) {p : Nat} (hp : p < 64) : sC l E yX4_bits cX4_bits 3 (some .int) 1 12 [.int (jI ((p : Nat) : Int))] (fun rr => rr = some (.int (jI ((bitsN p : Nat) : Int)))) := by
  refine s_start (own := "ScheduleAnalyzerModel") (vs := [some (.int (jI ((p : Nat) : Int))), none, none]) hls (by decide +kernel) rfl rfl rfl (Nat.le_of_ble_eq_true rfl) ?_
  intro K H0 hk he hl0
  refine j_iconst (n := 0) hk dX4_bits_0 ?_
  refine j_ist1 hk dX4_bits_1 rfl ?_
  refine j_iconst (n := 0) hk dX4_bits_2 ?_
  refine j_ist2 hk dX4_bits_3 rfl ?_
  have loop4 : ∀ (fuel4 : Nat) (t : Nat), 6 - t < fuel4 → t ≤ 6 → jW K (fun X => X = H0) 0 0 4 [some (.int (jI ((p : Nat) : Int))), some (.int (jI ((bitsTo p t : Nat) : Int))), some (.int (jI ((t : Nat) : Int)))] [] := by
    intro fuel4
    induction fuel4 with
    | zero => intro t hm; exact absurd hm (Nat.not_lt_zero _)
    | succ fuel4 ih4 =>
      intro t hm4 ht
      refine j_ild4 hk dX4_bits_4 rfl rfl ?_
      refine j_iconst (n := 5) hk dX4_bits_5 ?_
      refine j_icmp_gt hk (by omega) (by omega) dX4_bits_6 rfl (tgt := 23) (fun h6 => ?_) (fun h6 => ?_)
      · refine j_ild4 hk dX4_bits_23 rfl rfl ?_
        refine j_siret hk he rfl dX4_bits_24 (Nat.le_refl _) (Nat.le_refl _) ?_
        have e : t = 6 := by omega
        subst e
        exact rfl
      · refine j_ild4 hk dX4_bits_9 rfl rfl ?_
        refine j_ild4 hk dX4_bits_10 rfl rfl ?_
        refine j_ild4 hk dX4_bits_11 rfl rfl ?_
        refine j_ishr (a := p) (b := t) hk (by omega) (by omega) dX4_bits_12 ?_
        refine j_iconst (n := 1) hk dX4_bits_13 ?_
        refine j_ibit (a := p) (b := t) hk dX4_bits_14 ?_
        refine j_iadd hk dX4_bits_15 ?_
        refine j_top (z2 := ((bitsTo p (t + 1) : Nat) : Int)) (by unfold jB; show _ = ((bitsTo p t + _ : Nat) : Int); split <;> rfl) ?_
        refine j_ist1 hk dX4_bits_16 rfl ?_
        refine j_iinc2 hk dX4_bits_17 rfl ?_
        refine j_goto (tgt := 4) hk dX4_bits_20 rfl ?_
        exact ih4 (t + 1) (by omega) (by omega)
  exact loop4 _ 0 (Nat.lt_succ_self _) (by omega)
set_option maxHeartbeats 1500000 in
/-- laySerial(I)I -/
theorem mc_laySerial {l : Launch} {E : jE} {m : Nat} {ad : Nat → Nat} {A : Nat → Nat → Int} {F : Nat → Int} (hls : l.stackTraces = false) (hE : jSt E) {s : Nat} {S : Nat → List Op} {V : Nat → Nat} (hN : nowIs (A 0) S V) (hs : s < 4) : mC l E yX4_laySerial cX4_laySerial 6 (some .int) 6 128 [.ref m, .int (jI ((s : Nat) : Int))] m ad A F (mQi E m ad (fun r A2 F2 => (((serL (restOf (S s))).length : Nat) : Int) = r ∧ laid A2 F2 (restOf (S s)) ∧ F2 20 = ((pmask (restOf (S s)) : Nat) : Int) ∧ (∀ r, r < (serL (restOf (S s))).length → A2 17 r = (((serL (restOf (S s))).getD r 0 : Nat) : Int)) ∧ kA [13, 14, 15, 16, 17] A A2 ∧ kF [19, 20] F F2)) := by
  refine m_start (own := "ScheduleAnalyzerModel") (vs := [some (.ref m), some (.int (jI ((s : Nat) : Int))), none, none, none, none]) hls (by decide +kernel) rfl rfl rfl (Nat.le_of_ble_eq_true rfl) ?_
  intro K hk he hl0 hF hG0
  refine j_ald4 hk dX4_laySerial_0 rfl rfl ?_
  refine j_ild4 hk dX4_laySerial_1 rfl rfl ?_
  refine j_mVv hE hk hl0 hF (mc_layOrder hls hE (A := A) (F := F) (s := s) (by first | assumption | omega) (by first | assumption | omega)) 1 (lw_V q2885 q2887 qs73 q145 q2888) (by decide +kernel) rfl (by decide) (by decide) rfl (Nat.le_of_ble_eq_true rfl) dX4_laySerial_2 ?_
  intro Az1 Fz2 hc2
  obtain ⟨hL_2, hP_2, hM_2, hka_2, hkf_2⟩ := hc2
  have hPl : pmask (restOf (S s)) < 64 := pmask_lt hL_2.2.1.2
  refine j_iconst (n := 0) hk dX4_laySerial_5 ?_
  refine j_ist2 hk dX4_laySerial_6 rfl ?_
  refine j_iconst (n := 0) hk dX4_laySerial_7 ?_
  refine j_ist3 hk dX4_laySerial_8 rfl ?_
  refine j_iconst (n := 1) hk dX4_laySerial_9 ?_
  refine j_ist4 hk dX4_laySerial_10 rfl ?_
  have loop12 : ∀ (fuel12 : Nat) (A1 : Nat → Nat → Int) (f : Nat) (c : Nat) (dn : List Nat) (rk : Nat) (t : Nat), f * 7 + (6 - t) < fuel12 → dn ++ greedy f (pmask (restOf (S s))) (aheadM (restOf (S s))) c = serL (restOf (S s)) → dn.length = rk → 1 ≤ t ∧ t ≤ 6 → (∀ u, 1 ≤ u → u < t → enB (pmask (restOf (S s))) (aheadM (restOf (S s))) c u = false) → c < 64 → c % 2 = 0 → dn.length = bitsN c → f + dn.length = 6 → (∀ r, r < dn.length → A1 17 r = ((dn.getD r 0 : Nat) : Int)) → laid A1 Fz2 (restOf (S s)) → (∀ x, x ≤ 5 → A1 16 x = ((aheadM (restOf (S s)) x : Nat) : Int)) → kA [13, 14, 15, 16, 17] A A1 → jW K (mAs E m ad A1 Fz2) 0 0 12 [some (.ref m), some (.int (jI ((s : Nat) : Int))), some (.int (jI ((c : Nat) : Int))), some (.int (jI ((rk : Nat) : Int))), some (.int (jI ((t : Nat) : Int))), none] [] := by
    intro fuel12
    induction fuel12 with
    | zero => intro A1 f c dn rk t hm; exact absurd hm (Nat.not_lt_zero _)
    | succ fuel12 ih12 =>
      intro A1 f c dn rk t hm12 hg hrk ht hn hc hc2 hd hf ho hL1 hM1 hk1
      refine j_ild hk dX4_laySerial_12 rfl ?_
      refine j_iconst (n := 5) hk dX4_laySerial_14 ?_
      refine j_icmp_gt hk (by omega) (by omega) dX4_laySerial_15 rfl (tgt := 96) (fun h15 => ?_) (fun h15 => ?_)
      · refine j_ild4 hk dX4_laySerial_96 rfl rfl ?_
        refine j_miret hk he rfl dX4_laySerial_97 (Nat.le_refl _) (Nat.le_refl _) ?_
        have hn5 := cnt_le5 c hc hc2
        obtain ⟨f2, rfl⟩ : ∃ f2, f = f2 + 1 := ⟨f - 1, by omega⟩
        rw [greedy_none (gnext_none (fun u h1 h2 => hn u h1 (by omega))), List.append_nil] at hg
        rw [← hg]
        exact ⟨by rw [hrk], hL1, hP_2, ho, hk1, hkf_2⟩
      · refine j_ald4 hk dX4_laySerial_18 rfl rfl ?_
        refine j_mget hE hk 20 (by decide) rfl q2634 dX4_laySerial_19 ?_
        refine j_top (z2 := ((pmask (restOf (S s)) : Nat) : Int)) (hP_2) ?_
        refine j_ild hk dX4_laySerial_22 rfl ?_
        refine j_ishr (a := pmask (restOf (S s))) (b := t) hk (by omega) (by omega) dX4_laySerial_24 ?_
        refine j_iconst (n := 1) hk dX4_laySerial_25 ?_
        refine j_ibit (a := pmask (restOf (S s))) (b := t) hk dX4_laySerial_26 ?_
        refine j_iconst (n := 1) hk dX4_laySerial_27 ?_
        refine j_icmpB_ne hk dX4_laySerial_28 rfl (tgt := 58) (fun h28 => ?_) (fun h28 => ?_)
        · refine j_iconst (n := 0) hk dX4_laySerial_58 ?_
          refine j_ist5 hk dX4_laySerial_59 rfl ?_
          refine j_ild hk dX4_laySerial_61 rfl ?_
          refine j_if_ne hk (by omega) dX4_laySerial_63 rfl (tgt := 72) (fun h => absurd h (by omega)) (fun _ => ?_)
          refine j_iinc4 hk dX4_laySerial_66 rfl ?_
          refine j_goto (tgt := 12) hk dX4_laySerial_69 rfl ?_
          refine j_forget (i := 5) ?_
          exact ih12 A1 f c dn rk (t + 1) (by omega) (hg) (hrk) (by omega) (fun u h1 h2 => by
  by_cases e : u = t
  · subst e; simp [enB, h28]
  · exact hn u h1 (by omega)) (hc) (hc2) (hd) (hf) (ho) (hL1) (hM1) (hk1)
        · refine j_ild4 hk dX4_laySerial_31 rfl rfl ?_
          refine j_ild hk dX4_laySerial_32 rfl ?_
          refine j_ishr (a := c) (b := t) hk (by omega) (by omega) dX4_laySerial_34 ?_
          refine j_iconst (n := 1) hk dX4_laySerial_35 ?_
          refine j_ibit (a := c) (b := t) hk dX4_laySerial_36 ?_
          refine j_ifneB hk dX4_laySerial_37 rfl (tgt := 58) (fun h37 => ?_) (fun h37 => ?_)
          · refine j_iconst (n := 0) hk dX4_laySerial_58 ?_
            refine j_ist5 hk dX4_laySerial_59 rfl ?_
            refine j_ild hk dX4_laySerial_61 rfl ?_
            refine j_if_ne hk (by omega) dX4_laySerial_63 rfl (tgt := 72) (fun h => absurd h (by omega)) (fun _ => ?_)
            refine j_iinc4 hk dX4_laySerial_66 rfl ?_
            refine j_goto (tgt := 12) hk dX4_laySerial_69 rfl ?_
            refine j_forget (i := 5) ?_
            exact ih12 A1 f c dn rk (t + 1) (by omega) (hg) (hrk) (by omega) (fun u h1 h2 => by
  by_cases e : u = t
  · subst e; simp [enB, h28, h37]
  · exact hn u h1 (by omega)) (hc) (hc2) (hd) (hf) (ho) (hL1) (hM1) (hk1)
          · refine j_ald4 hk dX4_laySerial_40 rfl rfl ?_
            refine j_mgetA hE hk 16 (by decide) rfl q2630 dX4_laySerial_41 ?_
            refine j_ild hk dX4_laySerial_44 rfl ?_
            refine j_mald hE hk 16 9 rfl (t) (by omega) (by simp only [mLen]; omega) dX4_laySerial_46 ?_
            refine j_top (z2 := ((aheadM (restOf (S s)) t : Nat) : Int)) (hM1 t (by omega)) ?_
            refine j_ild4 hk dX4_laySerial_47 rfl rfl ?_
            refine j_iconst (n := -1) hk dX4_laySerial_48 ?_
            refine j_inot hk dX4_laySerial_49 ?_
            refine j_iandn (a := aheadM (restOf (S s)) t) (b := c) hk dX4_laySerial_50 ?_
            refine j_if_ne hk (by have : jandn (aheadM (restOf (S s)) t) c < 64 := Nat.xor_lt_two_pow (n := 6) (maskOf_lt _) (Nat.and_lt_two_pow _ hc); omega) dX4_laySerial_51 rfl (tgt := 58) (fun h51 => ?_) (fun h51 => ?_)
            · refine j_iconst (n := 0) hk dX4_laySerial_58 ?_
              refine j_ist5 hk dX4_laySerial_59 rfl ?_
              refine j_ild hk dX4_laySerial_61 rfl ?_
              refine j_if_ne hk (by omega) dX4_laySerial_63 rfl (tgt := 72) (fun h => absurd h (by omega)) (fun _ => ?_)
              refine j_iinc4 hk dX4_laySerial_66 rfl ?_
              refine j_goto (tgt := 12) hk dX4_laySerial_69 rfl ?_
              refine j_forget (i := 5) ?_
              exact ih12 A1 f c dn rk (t + 1) (by omega) (hg) (hrk) (by omega) (fun u h1 h2 => by
  by_cases e : u = t
  · subst e; simp [enB, h28, h37, (show jandn (aheadM (restOf (S s)) u) c ≠ 0 by omega)]
  · exact hn u h1 (by omega)) (hc) (hc2) (hd) (hf) (ho) (hL1) (hM1) (hk1)
            · refine j_iconst (n := 1) hk dX4_laySerial_54 ?_
              refine j_goto (tgt := 59) hk dX4_laySerial_55 rfl ?_
              refine j_ist5 hk dX4_laySerial_59 rfl ?_
              refine j_ild hk dX4_laySerial_61 rfl ?_
              refine j_if_ne hk (by omega) dX4_laySerial_63 rfl (tgt := 72) (fun _ => ?_) (fun h => absurd h (by omega))
              have he2 : enB (pmask (restOf (S s))) (aheadM (restOf (S s))) c t = true := by simp [enB, h28, h37, (show jandn (aheadM (restOf (S s)) t) c = 0 by omega)]
              have hd5 := cnt_le c hc hc2 t (by omega) ht.1 h37
              obtain ⟨f2, rfl⟩ : ∃ f2, f = f2 + 1 := ⟨f - 1, by omega⟩
              refine j_ald4 hk dX4_laySerial_72 rfl rfl ?_
              refine j_mgetA hE hk 17 (by decide) rfl q2631 dX4_laySerial_73 ?_
              refine j_ild4 hk dX4_laySerial_76 rfl rfl ?_
              refine j_ild hk dX4_laySerial_77 rfl ?_
              refine j_mast hE hk hF 17 10 rfl (rk) (by omega) (by simp only [mLen]; omega) dX4_laySerial_79 ?_
              refine j_iinc3 hk dX4_laySerial_80 rfl ?_
              refine j_ild4 hk dX4_laySerial_83 rfl rfl ?_
              refine j_iconst (n := 1) hk dX4_laySerial_84 ?_
              refine j_ild hk dX4_laySerial_85 rfl ?_
              refine j_ishl (a := 1) (b := t) hk (by omega) dX4_laySerial_87 ?_
              refine j_ior (a := c) (b := 1 * 2 ^ t) hk dX4_laySerial_88 ?_
              refine j_ist2 hk dX4_laySerial_89 rfl ?_
              refine j_iconst (n := 1) hk dX4_laySerial_90 ?_
              refine j_ist4 hk dX4_laySerial_91 rfl ?_
              refine j_goto (tgt := 12) hk dX4_laySerial_93 rfl ?_
              refine j_forget (i := 5) ?_
              exact ih12 (mup A1 17 rk ((t : Nat) : Int)) f2 (c ||| 1 * 2 ^ t) (dn ++ [t]) (rk + 1) 1 (by omega) (by rw [← hg, greedy_some (gnext_some ht.1 (by omega) he2 hn), List.append_assoc]; rfl) (by rw [List.length_append, hrk]; rfl) (by omega) (fun u h1 h2 => by omega) (or_lt64 c hc t (by omega)) (or_even c hc hc2 t (by omega) ht.1) (by rw [List.length_append, cnt_up c hc t (by omega) h37]; simp; omega) (by rw [List.length_append]; simp; omega) (fun r h => by
  rw [mup_s]
  by_cases e : r < dn.length
  · rw [getD_app_lt e, iup_n (by omega)]; exact ho r e
  · have e : r = dn.length := by rw [List.length_append] at h; simp at h; omega
    rw [e, getD_app_eq, hrk, iup_s]) (hL1.keep rfl rfl rfl rfl) (hM1) (hk1.up (by decide))
  exact loop12 _ Az1 6 0 ([]) 0 1 (Nat.lt_succ_self _) (rfl) (rfl) (by omega) (fun u h1 h2 => by omega) (by omega) (rfl) (rfl) (rfl) (fun r h => by simp at h) (hL_2) (hM_2) (hka_2.wk (by decide))
set_option maxHeartbeats 1500000 in
/-- isSerial(I)Z -/
theorem mc_isSerial {l : Launch} {E : jE} {m : Nat} {ad : Nat → Nat} {A : Nat → Nat → Int} {F : Nat → Int} (hls : l.stackTraces = false) (hE : jSt E) {s : Nat} {S : Nat → List Op} {V : Nat → Nat} (hN : nowIs (A 0) S V) (hs : s < 4) : mC l E yX4_isSerial cX4_isSerial 2 (some .boolean) 7 153 [.ref m, .int (jI ((s : Nat) : Int))] m ad A F (mQi E m ad (fun r A2 F2 => jB (isSerB (restOf (S s))) = r ∧ laid A2 F2 (restOf (S s)) ∧ F2 20 = ((pmask (restOf (S s)) : Nat) : Int) ∧ (∀ r, r < (serL (restOf (S s))).length → A2 17 r = (((serL (restOf (S s))).getD r 0 : Nat) : Int)) ∧ kA [13, 14, 15, 16, 17] A A2 ∧ kF [19, 20] F F2)) := by
  refine m_start (own := "ScheduleAnalyzerModel") (vs := [some (.ref m), some (.int (jI ((s : Nat) : Int)))]) hls (by decide +kernel) rfl rfl rfl (Nat.le_of_ble_eq_true rfl) ?_
  intro K hk he hl0 hF hG0
  refine j_ald4 hk dX4_isSerial_0 rfl rfl ?_
  refine j_ild4 hk dX4_isSerial_1 rfl rfl ?_
  refine j_mVi hE hk hl0 hF (mc_laySerial hls hE (A := A) (F := F) (s := s) (by first | assumption | omega) (by first | assumption | omega)) 1 (lw_V q2881 q2883 qs72 q145 q2884) (by decide +kernel) rfl (by decide) (by decide) rfl (Nat.le_of_ble_eq_true rfl) dX4_isSerial_2 ?_
  intro rz1 Az2 Fz3 hc2
  obtain ⟨rfl, hc2⟩ := hc2
  obtain ⟨hL_2, hP_2, hO_2, hka_2, hkf_2⟩ := hc2
  refine j_ald4 hk dX4_isSerial_5 rfl rfl ?_
  refine j_mget hE hk 20 (by decide) rfl q2634 dX4_isSerial_6 ?_
  refine j_top (z2 := ((pmask (restOf (S s)) : Nat) : Int)) (hP_2) ?_
  refine j_sSi hk hl0 (sc_bits hls (p := pmask (restOf (S s))) (pmask_lt hL_2.2.1.2)) 1 (lw_S q2909 q2910 q145 q2911) (by decide +kernel) rfl (by decide) (by decide) rfl (Nat.le_of_ble_eq_true rfl) dX4_isSerial_9 ?_
  refine j_icmp_ne hk (by have : (serL (restOf (S s))).length ≤ 6 := greedy_len _ _ _ _; omega) (by have := bitsTo_le (pmask (restOf (S s))) 6; unfold bitsN; omega) dX4_isSerial_12 rfl (tgt := 19) (fun h12 => ?_) (fun h12 => ?_)
  · refine j_iconst (n := 0) hk dX4_isSerial_19 ?_
    refine j_miret hk he rfl dX4_isSerial_20 (Nat.le_refl _) (Nat.le_refl _) ?_
    exact ⟨by simp [isSerB, jB]; omega, hL_2, hP_2, hO_2, hka_2, hkf_2⟩
  · refine j_iconst (n := 1) hk dX4_isSerial_15 ?_
    refine j_goto (tgt := 20) hk dX4_isSerial_16 rfl ?_
    refine j_miret hk he rfl dX4_isSerial_20 (Nat.le_refl _) (Nat.le_refl _) ?_
    exact ⟨by simp [isSerB, jB]; omega, hL_2, hP_2, hO_2, hka_2, hkf_2⟩
