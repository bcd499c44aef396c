/-! K, 1 -/
/-- the number of a list's operations with a property -/
def ctC (p : Op → Bool) (s : List Op) : Nat := cN (fun i => p (opAt s i)) s.length
/-- an operation is kept back by a transaction -/
def prC (es : List Op) (o : Op) (t : Nat) : Bool := decide (ctC (pEnd t) es = 0) && decide (0 < ctC (pBy t o) es)
/-- none below n keeps it back -/
def psC (es : List Op) (o : Op) : Nat → Bool
  | 0 => true
  | n + 1 => psC es o n && (decide (n = 0) || !prC es o n)
theorem psC_S {es : List Op} {o : Op} {n : Nat} (h : 1 ≤ n) : psC es o (n + 1) = (psC es o n && !prC es o n) := by
  conv => lhs; unfold psC
  rw [show decide (n = 0) = false from decide_eq_false (by omega), Bool.false_or]
set_option maxHeartbeats 1500000 in
/-- X8 isWaiting(I)Z -/
theorem fc_X8_isWaiting {l : Launch} {E : jE} (hls : l.stackTraces = false) (hE : jSt E) (hN : jCn E) {z : jZ} (hzc : zLe (zS E) z) {a : Nat} {t : Nat} {ex : Nat} {wt : Nat} {vv : Value} {wv : Value} {me : Int} {mw : Int} {le : List Nat} {lw : List Nat} {es : List Op} {ws : List Op} (hx : z (a, .inr (7, [.ref ex, .ref wt, vv, wv]))) (hxe : alZ E z ex me le) (hxw : alZ E z wt mw lw) (hse : opsZ z le es) (hsw : opsZ z lw ws) (ht : t < 1000) : fC l E yX8_isWaiting cX8_isWaiting 2 (some .boolean) 8 3092 (1) (1) [.ref a, .int (jI ((t : Nat) : Int))] z [] (fun rr z2 W2 => rr = some (.int (jI (jB (decide (0 < ctC (pTr t) ws))))) ∧ W2 = [] ∧ z = z2) := by
  refine f_startM (own := "ScheduleAnalyzer$Locking") (vs := [some (.ref a), some (.int (jI ((t : Nat) : Int)))]) hls (by decide +kernel) rfl rfl rfl (Nat.le_of_ble_eq_true rfl) ?_
  intro K H0 hk he hl0 hI hM hA
  have hl1 := hse.len
  have hl2 := hsw.len
  have hl3 := hxe.len
  have hl4 := hxw.len
  refine j_ald4 hk dX8_isWaiting_0 rfl rfl ?_
  refine f_get hE hk in_X8 (.inl hx) (show vwCl[7]? = some (RX8, TX8, 4) from rfl) 1 (by decide) q2084 (Or.inl rfl) rfl dX8_isWaiting_1 ?_
  refine j_ild4 hk dX8_isWaiting_4 rfl rfl ?_
  refine f_indy (vals := [.int (jI ((t : Nat) : Int))]) (N := 1) hN.lam hk 15 rfl rfl hM rfl rfl (by decide) ⟨rfl, rfl, trivial⟩ (by simp [Value.category]) (by omega) ⟨by omega, by omega⟩ rfl rfl dX8_isWaiting_5 ?_
  intro lm1
  refine f_W (W2 := [[(lm1, .inr (33, [.int (jI ((t : Nat) : Int))]))]]) rfl ?_
  obtain ⟨zL1, hlL1, hmL1, hbL1⟩ := f_lend z [[(lm1, .inr (33, [.int (jI ((t : Nat) : Int))]))]] [[(lm1, .inr (33, [.int (jI ((t : Nat) : Int))]))]] (by simp)
  refine f_callSN (Wc := []) (Wr := [[(lm1, .inr (33, [.int (jI ((t : Nat) : Int))]))]]) hE hk hl0 (fc_X1_count hls hE hN (z := zL1) (hzc.tr hlL1) (a := wt) (t := lm1) (p := (pTr t)) (mc := mw) (li := lw) (s := ws) (hxw.up hlL1) (hsw.up hlL1) (fun b o hb ho => tc_15 hls hE hN (hzc.tr hlL1) (hmL1 _ (List.mem_cons_self) _ (List.mem_cons_self)) hb ho ht)) (hbL1) 2 q1277 q115 q1978 q1276 (by decide +kernel) rfl (by decide) (by omega) rfl (Nat.le_of_ble_eq_true rfl) dX8_isWaiting_10 ?_
  refine Or.inr ?_
  rintro _ _ _ ⟨rfl, rfl, -⟩ -
  refine f_W (W2 := [[(lm1, .inr (33, [.int (jI ((t : Nat) : Int))]))]]) rfl ?_
  have rf3 := cN_le (fun i => (pTr t) (opAt ws i)) ws.length
  refine j_if_le hk (by omega) dX8_isWaiting_13 rfl (tgt := 20) (fun h13 => ?_) (fun h13 => ?_)
  · refine j_iconst (n := 0) hk dX8_isWaiting_20 ?_
    refine f_sel (W2 := []) [] rfl rfl ?_
    refine f_iret hk he hA rfl dX8_isWaiting_21 (by omega) (by omega) ?_
    exact ⟨congrArg (fun z => some (Value.int (jI z))) (by rw [show decide (0 < ctC (pTr t) ws) = false by unfold ctC; simp; omega]; rfl), rfl, rfl⟩
  · refine j_iconst (n := 1) hk dX8_isWaiting_16 ?_
    refine j_goto (tgt := 21) hk dX8_isWaiting_17 rfl ?_
    refine f_sel (W2 := []) [] rfl rfl ?_
    refine f_iret hk he hA rfl dX8_isWaiting_21 (by omega) (by omega) ?_
    exact ⟨congrArg (fun z => some (Value.int (jI z))) (by rw [show decide (0 < ctC (pTr t) ws) = true by unfold ctC; simp; omega]; rfl), rfl, rfl⟩
set_option maxHeartbeats 1500000 in
/-- X8 isPreventedBy(LScheduleAnalyzer$Operation;I)Z -/
theorem fc_X8_isPreventedBy {l : Launch} {E : jE} (hls : l.stackTraces = false) (hE : jSt E) (hN : jCn E) {z : jZ} (hzc : zLe (zS E) z) {a : Nat} {b : Nat} {t : Nat} {ex : Nat} {wt : Nat} {vv : Value} {wv : Value} {me : Int} {mw : Int} {le : List Nat} {lw : List Nat} {es : List Op} {ws : List Op} {o : Op} (hx : z (a, .inr (7, [.ref ex, .ref wt, vv, wv]))) (hxe : alZ E z ex me le) (hxw : alZ E z wt mw lw) (hse : opsZ z le es) (hsw : opsZ z lw ws) (ho_b : z (b, .inr (5, opFs o))) (hk_b : opOK o) (ht : t < 1000) : fC l E yX8_isPreventedBy cX8_isPreventedBy 4 (some .boolean) 8 3092 (2) (3) [.ref a, .ref b, .int (jI ((t : Nat) : Int))] z [] (fun rr z2 W2 => rr = some (.int (jI (jB (prC es o t)))) ∧ W2 = [] ∧ z = z2) := by
  refine f_startM (own := "ScheduleAnalyzer$Locking") (vs := [some (.ref a), some (.ref b), some (.int (jI ((t : Nat) : Int))), none]) hls (by decide +kernel) rfl rfl rfl (Nat.le_of_ble_eq_true rfl) ?_
  intro K H0 hk he hl0 hI hM hA
  have hl1 := hse.len
  have hl2 := hsw.len
  have hl3 := hxe.len
  have hl4 := hxw.len
  have lk_b := letK_c hk_b
  have hk0_b := hk_b
  obtain ⟨b1, b2, b3, b4, b5⟩ := hk0_b
  refine j_ald4 hk dX8_isPreventedBy_0 rfl rfl ?_
  refine f_get hE hk in_X8 (.inl hx) (show vwCl[7]? = some (RX8, TX8, 4) from rfl) 0 (by decide) q2082 (Or.inl rfl) rfl dX8_isPreventedBy_1 ?_
  refine j_ild4 hk dX8_isPreventedBy_4 rfl rfl ?_
  refine f_indy (vals := [.int (jI ((t : Nat) : Int))]) (N := 1) hN.lam hk 16 rfl rfl hM rfl rfl (by decide) ⟨rfl, rfl, trivial⟩ (by simp [Value.category]) (by omega) ⟨by omega, by omega⟩ rfl rfl dX8_isPreventedBy_5 ?_
  intro lm1
  refine f_W (W2 := [[(lm1, .inr (34, [.int (jI ((t : Nat) : Int))]))]]) rfl ?_
  obtain ⟨zL1, hlL1, hmL1, hbL1⟩ := f_lend z [[(lm1, .inr (34, [.int (jI ((t : Nat) : Int))]))]] [[(lm1, .inr (34, [.int (jI ((t : Nat) : Int))]))]] (by simp)
  refine f_callSN (Wc := []) (Wr := [[(lm1, .inr (34, [.int (jI ((t : Nat) : Int))]))]]) hE hk hl0 (fc_X1_count hls hE hN (z := zL1) (hzc.tr hlL1) (a := ex) (t := lm1) (p := (pEnd t)) (mc := me) (li := le) (s := es) (hxe.up hlL1) (hse.up hlL1) (fun b o hb ho => tc_16 hls hE hN (hzc.tr hlL1) (hmL1 _ (List.mem_cons_self) _ (List.mem_cons_self)) hb ho ht)) (hbL1) 2 q1277 q115 q1978 q1276 (by decide +kernel) rfl (by decide) (by omega) rfl (Nat.le_of_ble_eq_true rfl) dX8_isPreventedBy_10 ?_
  refine Or.inr ?_
  rintro _ _ _ ⟨rfl, rfl, -⟩ -
  refine f_W (W2 := [[(lm1, .inr (34, [.int (jI ((t : Nat) : Int))]))]]) rfl ?_
  have rf3 := cN_le (fun i => (pEnd t) (opAt es i)) es.length
  refine j_if_le hk (by omega) dX8_isPreventedBy_13 rfl (tgt := 20) (fun h13 => ?_) (fun h13 => ?_)
  · refine j_iconst (n := 0) hk dX8_isPreventedBy_20 ?_
    refine j_ist3 hk dX8_isPreventedBy_21 rfl ?_
    refine j_ild4 hk dX8_isPreventedBy_22 rfl rfl ?_
    refine j_if_ne hk (by omega) dX8_isPreventedBy_23 rfl (tgt := 47) (fun h => absurd h (by omega)) (fun _ => ?_)
    refine j_ald4 hk dX8_isPreventedBy_26 rfl rfl ?_
    refine f_get hE hk in_X8 (.inl hx) (show vwCl[7]? = some (RX8, TX8, 4) from rfl) 0 (by decide) q2082 (Or.inl rfl) rfl dX8_isPreventedBy_27 ?_
    refine j_ild4 hk dX8_isPreventedBy_30 rfl rfl ?_
    refine j_ald4 hk dX8_isPreventedBy_31 rfl rfl ?_
    refine f_indy (vals := [.int (jI ((t : Nat) : Int)), .ref b]) (N := 2) hN.lam hk 17 rfl rfl hM rfl rfl (by decide) ⟨rfl, rfl, rfl, rfl, trivial⟩ (by simp [Value.category]) (by omega) ⟨by omega, by omega⟩ rfl rfl dX8_isPreventedBy_32 ?_
    intro lm2
    refine f_W (W2 := [[(lm2, .inr (35, [.int (jI ((t : Nat) : Int)), .ref b]))], [(lm1, .inr (34, [.int (jI ((t : Nat) : Int))]))]]) rfl ?_
    obtain ⟨zL4, hlL4, hmL4, hbL4⟩ := f_lend z [[(lm2, .inr (35, [.int (jI ((t : Nat) : Int)), .ref b]))]] [[(lm2, .inr (35, [.int (jI ((t : Nat) : Int)), .ref b]))], [(lm1, .inr (34, [.int (jI ((t : Nat) : Int))]))]] (by simp)
    refine f_callSN (Wc := []) (Wr := [[(lm2, .inr (35, [.int (jI ((t : Nat) : Int)), .ref b]))], [(lm1, .inr (34, [.int (jI ((t : Nat) : Int))]))]]) hE hk hl0 (fc_X1_count hls hE hN (z := zL4) (hzc.tr hlL4) (a := ex) (t := lm2) (p := (pBy t o)) (mc := me) (li := le) (s := es) (hxe.up hlL4) (hse.up hlL4) (fun b o hb ho => tc_17 hls hE hN (hzc.tr hlL4) (hmL4 _ (List.mem_cons_self) _ (List.mem_cons_self)) (hlL4 _ ho_b) hk_b hb ho ht)) (hbL4) 2 q1277 q115 q1978 q1276 (by decide +kernel) rfl (by decide) (by omega) rfl (Nat.le_of_ble_eq_true rfl) dX8_isPreventedBy_37 ?_
    refine Or.inr ?_
    rintro _ _ _ ⟨rfl, rfl, -⟩ -
    refine f_W (W2 := [[(lm2, .inr (35, [.int (jI ((t : Nat) : Int)), .ref b]))], [(lm1, .inr (34, [.int (jI ((t : Nat) : Int))]))]]) rfl ?_
    have rf6 := cN_le (fun i => (pBy t o) (opAt es i)) es.length
    refine j_if_le hk (by omega) dX8_isPreventedBy_40 rfl (tgt := 47) (fun h40 => ?_) (fun h40 => ?_)
    · refine j_iconst (n := 0) hk dX8_isPreventedBy_47 ?_
      refine f_sel (W2 := []) [] rfl rfl ?_
      refine f_iret hk he hA rfl dX8_isPreventedBy_48 (by omega) (by omega) ?_
      exact ⟨congrArg (fun z => some (Value.int (jI z))) (by rw [show prC es o t = false by unfold prC ctC; simp; omega]; rfl), rfl, rfl⟩
    · refine j_iconst (n := 1) hk dX8_isPreventedBy_43 ?_
      refine j_goto (tgt := 48) hk dX8_isPreventedBy_44 rfl ?_
      refine f_sel (W2 := []) [] rfl rfl ?_
      refine f_iret hk he hA rfl dX8_isPreventedBy_48 (by omega) (by omega) ?_
      exact ⟨congrArg (fun z => some (Value.int (jI z))) (by rw [show prC es o t = true by unfold prC ctC; simp; omega]; rfl), rfl, rfl⟩
  · refine j_iconst (n := 1) hk dX8_isPreventedBy_16 ?_
    refine j_goto (tgt := 21) hk dX8_isPreventedBy_17 rfl ?_
    refine j_ist3 hk dX8_isPreventedBy_21 rfl ?_
    refine j_ild4 hk dX8_isPreventedBy_22 rfl rfl ?_
    refine j_if_ne hk (by omega) dX8_isPreventedBy_23 rfl (tgt := 47) (fun _ => ?_) (fun h => absurd h (by omega))
    refine j_iconst (n := 0) hk dX8_isPreventedBy_47 ?_
    refine f_sel (W2 := []) [] rfl rfl ?_
    refine f_iret hk he hA rfl dX8_isPreventedBy_48 (by omega) (by omega) ?_
    exact ⟨congrArg (fun z => some (Value.int (jI z))) (by rw [show prC es o t = false by unfold prC ctC; simp; omega]; rfl), rfl, rfl⟩
set_option maxHeartbeats 1500000 in
/-- X8 isPossible(LScheduleAnalyzer$Operation;)Z -/
theorem fc_X8_isPossible {l : Launch} {E : jE} (hls : l.stackTraces = false) (hE : jSt E) (hN : jCn E) {z : jZ} (hzc : zLe (zS E) z) {a : Nat} {b : Nat} {ex : Nat} {wt : Nat} {vv : Value} {wv : Value} {me : Int} {mw : Int} {le : List Nat} {lw : List Nat} {es : List Op} {ws : List Op} {o : Op} (hx : z (a, .inr (7, [.ref ex, .ref wt, vv, wv]))) (hxe : alZ E z ex me le) (hxw : alZ E z wt mw lw) (hse : opsZ z le es) (hsw : opsZ z lw ws) (ho_b : z (b, .inr (5, opFs o))) (hk_b : opOK o) : fC l E yX8_isPossible cX8_isPossible 4 (some .boolean) 9 3115 (12) (18) [.ref a, .ref b] z [] (fun rr z2 W2 => rr = some (.int (jI (jB (psC es o 6)))) ∧ W2 = [] ∧ z = z2) := by
  refine f_start (own := "ScheduleAnalyzer$Locking") (vs := [some (.ref a), some (.ref b), none, none]) hls (by decide +kernel) rfl rfl rfl (Nat.le_of_ble_eq_true rfl) ?_
  intro K H0 hk he hl0 hI hA
  have hl1 := hse.len
  have hl2 := hsw.len
  have hl3 := hxe.len
  have hl4 := hxw.len
  have lk_b := letK_c hk_b
  have hk0_b := hk_b
  obtain ⟨b1, b2, b3, b4, b5⟩ := hk0_b
  refine j_iconst (n := 1) hk dX8_isPossible_0 ?_
  refine j_ist2 hk dX8_isPossible_1 rfl ?_
  refine j_iconst (n := 1) hk dX8_isPossible_2 ?_
  refine j_ist3 hk dX8_isPossible_3 rfl ?_
  have loop4 : ∀ (fuel4 : Nat) (k : Nat), 6 - k < fuel4 → 1 ≤ k → k ≤ 6 → jW K (fO K E z z []) (2 * k) (3 * k) 4 [some (.ref a), some (.ref b), some (.int (jI (jB (psC es o k)))), some (.int (jI ((k : Nat) : Int)))] [] := by
    intro fuel4
    induction fuel4 with
    | zero => intro k hm; exact absurd hm (Nat.not_lt_zero _)
    | succ fuel4 ih4 =>
      intro k hm4 hk1 hk6
      refine j_ild4 hk dX8_isPossible_4 rfl rfl ?_
      refine j_iconst (n := 5) hk dX8_isPossible_5 ?_
      refine j_icmp_gt hk (by omega) (by omega) dX8_isPossible_6 rfl (tgt := 32) (fun h6 => ?_) (fun h6 => ?_)
      · refine j_ild4 hk dX8_isPossible_32 rfl rfl ?_
        refine f_iret hk he hA (jn_bool _) dX8_isPossible_33 (by omega) (by omega) ?_
        exact ⟨congrArg (fun z => some (Value.int (jI z))) (by rw [show 6 = k by omega]), rfl, rfl⟩
      · refine j_ild4 hk dX8_isPossible_9 rfl rfl ?_
        refine j_ald4 hk dX8_isPossible_10 rfl rfl ?_
        refine j_ald4 hk dX8_isPossible_11 rfl rfl ?_
        refine j_ild4 hk dX8_isPossible_12 rfl rfl ?_
        refine f_callV (Wc := []) (Wr := []) hE hk hl0 (.inl hx) (show vwCl[7]? = some (RX8, TX8, 4) from rfl) (fc_X8_isPreventedBy hls hE hN (z := z) hzc (a := a) (b := b) (t := k) (ex := ex) (wt := wt) (vv := vv) (wv := wv) (me := me) (le := le) (mw := mw) (lw := lw) (es := es) (ws := ws) (o := o) (hx) (hxe) (hxw) (hse) (hsw) (ho_b) (hk_b) (by first | assumption | omega)) (fun _ h => Or.inl h) 2 (lw_V q1983 q1985 qs41 q156 q1986) (by decide +kernel) rfl (by decide) (by omega) rfl (Nat.le_of_ble_eq_true rfl) dX8_isPossible_13 ?_
        refine Or.inl ⟨rfl, ?_⟩
        rintro _ _ _ ⟨rfl, rfl, rfl⟩ -
        refine f_W (W2 := []) rfl ?_
        refine j_ifneB hk dX8_isPossible_16 rfl (tgt := 23) (fun h16 => ?_) (fun h16 => ?_)
        · refine j_iconst (n := 0) hk dX8_isPossible_23 ?_
          refine j_top (z2 := jB (!prC es o k)) (by rw [h16]; rfl) ?_
          refine j_iandB hk dX8_isPossible_24 ?_
          refine j_ist2 hk dX8_isPossible_25 rfl ?_
          refine j_loc (i := 2) (z2 := jB (psC es o (k + 1))) rfl (by rw [psC_S (by omega)]) ?_
          refine j_iinc3 hk dX8_isPossible_26 rfl ?_
          refine j_goto (tgt := 4) hk dX8_isPossible_29 rfl ?_
          refine j_wide (k2 := 2 * (k + 1)) (n2 := 3 * (k + 1)) (by omega) (by omega) ?_
          exact ih4 (k + 1) (by omega) (by omega) (by omega)
        · refine j_iconst (n := 1) hk dX8_isPossible_19 ?_
          refine j_goto (tgt := 24) hk dX8_isPossible_20 rfl ?_
          refine j_top (z2 := jB (!prC es o k)) (by rw [h16]; rfl) ?_
          refine j_iandB hk dX8_isPossible_24 ?_
          refine j_ist2 hk dX8_isPossible_25 rfl ?_
          refine j_loc (i := 2) (z2 := jB (psC es o (k + 1))) rfl (by rw [psC_S (by omega)]) ?_
          refine j_iinc3 hk dX8_isPossible_26 rfl ?_
          refine j_goto (tgt := 4) hk dX8_isPossible_29 rfl ?_
          refine j_wide (k2 := 2 * (k + 1)) (n2 := 3 * (k + 1)) (by omega) (by omega) ?_
          exact ih4 (k + 1) (by omega) (by omega) (by omega)
  refine j_wide (k2 := 2 * 1) (n2 := 3 * 1) (by omega) (by omega) ?_
  exact loop4 _ 1 (Nat.lt_succ_self _) (Nat.le_refl _) (by omega)
