/-! K, 3 -/
theorem fwV_op {z : jZ} {lw : List Nat} {s : List Op} {t b : Nat} (hs : opsZ z lw s) (h : fwV lw s t = some b) : ∃ i, fwI s t = some i ∧ i < s.length ∧ z (b, .inr (5, opFs (opAt s i))) ∧ opOK (opAt s i) := by
  unfold fwV at h
  cases hi : fwI s t with
  | none => rw [hi] at h; cases h
  | some i =>
    rw [hi] at h
    have hl : i < s.length := by
      unfold fwI at hi
      rw [List.find?_range_eq_some] at hi
      exact List.mem_range.mp hi.2.1
    obtain ⟨b8, hb8, hob, hok⟩ := hs.at (i := i) hl
    have h8 : lw.getD i 0 = b8 := by rw [List.getD_eq_getElem?_getD, hb8]; rfl
    have e : b8 = b := by rw [← h8]; exact Option.some.inj h
    exact ⟨i, rfl, hl, e ▸ hob, hok⟩
theorem fwV_n {lw : List Nat} {s : List Op} {t : Nat} (h : fwV lw s t = none) : fwI s t = none := by
  unfold fwV at h
  exact Option.map_eq_none_iff.mp h
/-- a transaction's first waiting operation may come -/
def npP (es s : List Op) (t : Nat) : Bool := decide (1 ≤ t) && (match fwI s t with | some i => psC es (opAt s i) 6 | none => false)
def npV (lw : List Nat) (es s : List Op) : Option Nat := ((List.range 6).find? (npP es s)).bind (fwV lw s)
theorem npP_n {es s : List Op} {t : Nat} (h : fwI s t = none) : npP es s t = false := by
  unfold npP
  rw [h, Bool.and_false]
theorem npP_s {es s : List Op} {t i : Nat} (h0 : 1 ≤ t) (h : fwI s t = some i) : npP es s t = psC es (opAt s i) 6 := by
  unfold npP
  rw [h, decide_eq_true h0, Bool.true_and]
theorem npV_1 {lw : List Nat} {es s : List Op} {k : Nat} (h : ∀ i, i < k → npP es s i = false) (hk : k ≤ 5) (hp : npP es s k = true) : npV lw es s = fwV lw s k := by
  unfold npV
  rw [show (List.range 6).find? (npP es s) = some k from List.find?_range_eq_some.mpr ⟨hp, List.mem_range.mpr (by omega), fun j hj => by rw [h j hj]; rfl⟩]
  rfl
theorem npV_0 {lw : List Nat} {es s : List Op} (h : ∀ i, i < 6 → npP es s i = false) : npV lw es s = none := by
  unfold npV
  rw [List.find?_range_eq_none.mpr (fun i hi => by rw [h i hi]; rfl)]
  rfl
set_option maxHeartbeats 1500000 in
/-- X8 nextPossible()LScheduleAnalyzer$Operation; -/
theorem fc_X8_nextPossible {l : Launch} {E : jE} (hls : l.stackTraces = false) (hE : jSt E) (hN : jCn E) {z : jZ} (hzc : zLe (zS E) z) {a : Nat} {ex : Nat} {wt : Nat} {vv : Value} {wv : Value} {me : Int} {mw : Int} {le : List Nat} {lw : List Nat} {es : List Op} {s : List Op} (hx : z (a, .inr (7, [.ref ex, .ref wt, vv, wv]))) (hxe : alZ E z ex me le) (hxw : alZ E z wt mw lw) (hse : opsZ z le es) (hsw : opsZ z lw s) : fC l E yX8_nextPossible cX8_nextPossible 3 (some (.object "ScheduleAnalyzer$Operation")) 10 3138 (100) (200) [.ref a] z [] (fun rr z2 W2 => rr = some (va_rf (npV lw es s)) ∧ W2 = [] ∧ z = z2) := by
  refine f_start (own := "ScheduleAnalyzer$Locking") (vs := [some (.ref a), none, none]) hls (by decide +kernel) rfl rfl rfl (Nat.le_of_ble_eq_true rfl) ?_
  intro K H0 hk he hl0 hI hA
  have hl1 := hse.len
  have hl2 := hsw.len
  have hl3 := hxe.len
  have hl4 := hxw.len
  refine j_iconst (n := 1) hk dX8_nextPossible_0 ?_
  refine j_ist1 hk dX8_nextPossible_1 rfl ?_
  have loop2 : ∀ (fuel2 : Nat) (k : Nat), 6 - k < fuel2 → 1 ≤ k → k ≤ 6 → (∀ i, i < k → npP es s i = false) → jW K (fO K E z z []) (16 * k) (30 * k) 2 [some (.ref a), some (.int (jI ((k : Nat) : Int))), none] [] := by
    intro fuel2
    induction fuel2 with
    | zero => intro k hm; exact absurd hm (Nat.not_lt_zero _)
    | succ fuel2 ih2 =>
      intro k hm2 hk1 hk6 hno
      refine j_ild4 hk dX8_nextPossible_2 rfl rfl ?_
      refine j_iconst (n := 5) hk dX8_nextPossible_3 ?_
      refine j_icmp_gt hk (by omega) (by omega) dX8_nextPossible_4 rfl (tgt := 33) (fun h4 => ?_) (fun h4 => ?_)
      · refine j_null hk dX8_nextPossible_33 ?_
        refine f_aret hk he hA (Or.inl ⟨_, rfl⟩) (Or.inl rfl) dX8_nextPossible_34 (by omega) (by omega) ?_
        exact ⟨by rw [npV_0 (fun i hi => hno i (by omega))]; rfl, rfl, rfl⟩
      · refine j_ald4 hk dX8_nextPossible_7 rfl rfl ?_
        refine j_ild4 hk dX8_nextPossible_8 rfl rfl ?_
        refine f_callV (Wc := []) (Wr := []) hE hk hl0 (.inl hx) (show vwCl[7]? = some (RX8, TX8, 4) from rfl) (fc_X8_firstWaitingOf hls hE hN (z := z) hzc (a := a) (t := k) (ex := ex) (wt := wt) (vv := vv) (wv := wv) (me := me) (le := le) (mw := mw) (lw := lw) (es := es) (s := s) (hx) (hxe) (hxw) (hse) (hsw) (by first | assumption | omega)) (fun _ h => Or.inl h) 1 (lw_V q2004 q2006 qs44 q156 q2007) (by decide +kernel) rfl (by decide) (by omega) rfl (Nat.le_of_ble_eq_true rfl) dX8_nextPossible_9 ?_
        refine Or.inl ⟨rfl, ?_⟩
        rintro _ _ _ ⟨rfl, rfl, rfl⟩ -
        refine f_W (W2 := []) rfl ?_
        generalize hq12 : fwV lw s k = oq12
        rcases oq12 with _ | b9
        · refine j_astN2 hk dX8_nextPossible_12 rfl ?_
          refine j_ald4N hk dX8_nextPossible_13 rfl rfl ?_
          refine j_ifnullN hk dX8_nextPossible_14 rfl ?_
          refine j_iinc1 hk dX8_nextPossible_27 rfl ?_
          refine j_goto (tgt := 2) hk dX8_nextPossible_30 rfl ?_
          refine j_forget (i := 2) ?_
          refine j_wide (k2 := 16 * (k + 1)) (n2 := 30 * (k + 1)) (by omega) (by omega) ?_
          exact ih2 (k + 1) (by omega) (by omega) (by omega) (fun i hi => by rcases Nat.lt_succ_iff_lt_or_eq.mp hi with q | q; exact hno i q; rw [q]; exact (npP_n (fwV_n hq12)))
        · obtain ⟨i9, hf9, hl9, ho_b9, hk_b9⟩ := fwV_op hsw hq12
          refine j_ast2 hk dX8_nextPossible_12 rfl ?_
          refine j_ald4 hk dX8_nextPossible_13 rfl rfl ?_
          refine j_ifnullR hk dX8_nextPossible_14 ?_
          refine j_ald4 hk dX8_nextPossible_17 rfl rfl ?_
          refine j_ald4 hk dX8_nextPossible_18 rfl rfl ?_
          refine f_callV (Wc := []) (Wr := []) hE hk hl0 (.inl hx) (show vwCl[7]? = some (RX8, TX8, 4) from rfl) (fc_X8_isPossible hls hE hN (z := z) hzc (a := a) (b := b9) (ex := ex) (wt := wt) (vv := vv) (wv := wv) (me := me) (le := le) (mw := mw) (lw := lw) (es := es) (ws := s) (o := opAt s i9) (hx) (hxe) (hxw) (hse) (hsw) (ho_b9) (hk_b9)) (fun _ h => Or.inl h) 1 (lw_V q1979 q1981 qs40 q156 q1982) (by decide +kernel) rfl (by decide) (by omega) rfl (Nat.le_of_ble_eq_true rfl) dX8_nextPossible_19 ?_
          refine Or.inl ⟨rfl, ?_⟩
          rintro _ _ _ ⟨rfl, rfl, rfl⟩ -
          refine f_W (W2 := []) rfl ?_
          refine j_ifeqB hk dX8_nextPossible_22 rfl (tgt := 27) (fun h22 => ?_) (fun h22 => ?_)
          · refine j_iinc1 hk dX8_nextPossible_27 rfl ?_
            refine j_goto (tgt := 2) hk dX8_nextPossible_30 rfl ?_
            refine j_forget (i := 2) ?_
            refine j_wide (k2 := 16 * (k + 1)) (n2 := 30 * (k + 1)) (by omega) (by omega) ?_
            exact ih2 (k + 1) (by omega) (by omega) (by omega) (fun i hi => by rcases Nat.lt_succ_iff_lt_or_eq.mp hi with q | q; exact hno i q; rw [q]; exact (by rw [npP_s hk1 hf9]; exact h22))
          · refine j_ald4 hk dX8_nextPossible_25 rfl rfl ?_
            refine f_aret hk he hA (Or.inl ⟨_, rfl⟩) (Or.inr ⟨_, rfl⟩) dX8_nextPossible_26 (by omega) (by omega) ?_
            exact ⟨by rw [npV_1 hno (by omega) (by rw [npP_s hk1 hf9]; exact h22), hq12]; rfl, rfl, rfl⟩
  refine j_wide (k2 := 16 * 1) (n2 := 30 * 1) (by omega) (by omega) ?_
  exact loop2 _ 1 (Nat.lt_succ_self _) (Nat.le_refl _) (by omega) (fun i hi => by rw [show i = 0 by omega]; rfl)
