/-! V, 1 -/
def fgN (g : Nat → Int) (k : Nat) : Nat → Int := fun i => if i < k then -1 else g i
theorem fgN_0 {g : Nat → Int} : fgN g 0 = g := by
  funext i
  unfold fgN
  rw [if_neg (Nat.not_lt_zero _)]
theorem fgN_S {g : Nat → Int} {k : Nat} : iup (fgN g k) k (-1) = fgN g (k + 1) := by
  funext i
  unfold iup fgN
  by_cases h : i = k
  · rw [if_pos h, if_pos (by omega)]
  · rw [if_neg h]
    by_cases h2 : i < k
    · rw [if_pos h2, if_pos (by omega)]
    · rw [if_neg h2, if_neg (by omega)]
/-- the latest writes behind an operation; its source -/
def flW (s : List Op) (g : Nat → Int) (k : Nat) : Nat → Int := if oK (opAt s k) = 1 then iup g (oI (opAt s k)) ((k : Nat) : Int) else g
def flR (s : List Op) (g : Nat → Int) (k : Nat) : Int := if oK (opAt s k) = 0 then g (oI (opAt s k)) else -1
theorem iup_id {g : Nat → Int} {i : Nat} : iup g i (g i) = g := by
  funext j
  unfold iup
  split
  · rename_i h; rw [h]
  · rfl
/-- a transaction's places are written down behind c others -/
def agW (s : List Op) (t c : Nat) (q : Nat → Int) : Nat → (Nat → Int)
  | 0 => q
  | k + 1 => if sqP s t k then iup (agW s t c q k) (c + cN (sqP s t) k) ((k : Nat) : Int) else agW s t c q k
theorem agW_S {s : List Op} {t c : Nat} {q : Nat → Int} {k : Nat} : agW s t c q (k + 1) = if sqP s t k then iup (agW s t c q k) (c + cN (sqP s t) k) ((k : Nat) : Int) else agW s t c q k := rfl
set_option maxHeartbeats 1500000 in
/-- X9 forget()V -/
theorem fc_X9_forget {l : Launch} {E : jE} (hls : l.stackTraces = false) (hE : jSt E) (hN : jCn E) {z : jZ} (hzc : zLe (zS E) z) {a : Nat} {lo : Nat} {so : Nat} {lwv : Value} {ao : Nat} {la : Nat} {g : Nat → Int} (hv : z (a, .inr (8, [.ref lo, .ref so, lwv, .ref ao, .ref la]))) : fC l E yX9_forget cX9_forget 2 (none) 1 12 (0) (0) [.ref a] z [[(la, .inl (E.2.2 0, 4, .inl (fun j => jI (g j))))]] (fun rr z2 W2 => rr = none ∧ W2 = [[(la, .inl (E.2.2 0, 4, .inl (fun j => jI ((fgN g 4) j))))]] ∧ z = z2) := by
  refine f_start (own := "ScheduleAnalyzer$ViewSearch") (vs := [some (.ref a), none]) hls (by decide +kernel) rfl rfl rfl (Nat.le_of_ble_eq_true rfl) ?_
  intro K H0 hk he hl0 hI hA
  refine j_iconst (n := 0) hk dX9_forget_0 ?_
  refine j_ist1 hk dX9_forget_1 rfl ?_
  have loop2 : ∀ (fuel2 : Nat) (k : Nat), 4 - k < fuel2 → k ≤ 4 → jW K (fO K E z z [[(la, .inl (E.2.2 0, 4, .inl (fun j => jI ((fgN g k) j))))]]) (0) (0) 2 [some (.ref a), some (.int (jI ((k : Nat) : Int)))] [] := by
    intro fuel2
    induction fuel2 with
    | zero => intro k hm; exact absurd hm (Nat.not_lt_zero _)
    | succ fuel2 ih2 =>
      intro k hm2 hk4
      refine j_ild4 hk dX9_forget_2 rfl rfl ?_
      refine j_iconst (n := 4) hk dX9_forget_3 ?_
      refine j_icmp_ge hk (by omega) (by omega) dX9_forget_4 rfl (tgt := 20) (fun h4 => ?_) (fun h4 => ?_)
      · have hk44 : k = 4 := by omega
        subst hk44
        refine f_vret hk he hA dX9_forget_20 (by omega) (by omega) ?_
        exact ⟨rfl, rfl, rfl⟩
      · refine j_ald4 hk dX9_forget_7 rfl rfl ?_
        refine f_get hE hk in_X9 (.inl hv) (show vwCl[8]? = some (RX9, TX9, 5) from rfl) 4 (by decide) q1349 (Or.inl rfl) rfl dX9_forget_8 ?_
        refine j_ild4 hk dX9_forget_11 rfl rfl ?_
        refine j_iconst (n := -1) hk dX9_forget_12 ?_
        refine f_iast (n := 4) (f := (fgN g k)) (W2 := [[(la, .inl (E.2.2 0, 4, .inl (fun j => jI ((iup (fgN g k) k (-1)) j))))]]) hE hk 0 0 rfl rfl (k) (by omega) (by omega) (by omega) rfl dX9_forget_13 ?_
        refine f_W (W2 := [[(la, .inl (E.2.2 0, 4, .inl (fun j => jI ((fgN g (k + 1)) j))))]]) (by rw [show iup (fgN g k) k (-1) = (fgN g (k + 1)) from fgN_S]) ?_
        refine j_iinc1 hk dX9_forget_14 rfl ?_
        refine j_goto (tgt := 2) hk dX9_forget_17 rfl ?_
        exact ih2 (k + 1) (by omega) (by omega)
  refine f_W (W2 := [[(la, .inl (E.2.2 0, 4, .inl (fun j => jI ((fgN g 0) j))))]]) (by rw [fgN_0]) ?_
  exact loop2 _ 0 (Nat.lt_succ_self _) (Nat.zero_le _)
set_option maxHeartbeats 1500000 in
/-- X9 follow(I)I -/
theorem fc_X9_follow {l : Launch} {E : jE} (hls : l.stackTraces = false) (hE : jSt E) (hN : jCn E) {z : jZ} (hzc : zLe (zS E) z) {a : Nat} {k : Nat} {lo : Nat} {so : Nat} {lwv : Value} {ao : Nat} {la : Nat} {mo : Int} {li : List Nat} {s : List Op} {g : Nat → Int} (hv : z (a, .inr (8, [.ref lo, .ref so, lwv, .ref ao, .ref la]))) (hl : alZ E z lo mo li) (hs : opsZ z li s) (hk_ : k < s.length) (hg : ∀ i, i < 4 → -1 ≤ g i ∧ g i < 100) : fC l E yX9_follow cX9_follow 5 (some .int) 4 76 (0) (0) [.ref a, .int (jI ((k : Nat) : Int))] z [[(la, .inl (E.2.2 0, 4, .inl (fun j => jI (g j))))]] (fun rr z2 W2 => rr = some (.int (jI (flR s g k))) ∧ W2 = [[(la, .inl (E.2.2 0, 4, .inl (fun j => jI ((flW s g k) j))))]] ∧ z = z2) := by
  refine f_start (own := "ScheduleAnalyzer$ViewSearch") (vs := [some (.ref a), some (.int (jI ((k : Nat) : Int))), none, none, none]) hls (by decide +kernel) rfl rfl rfl (Nat.le_of_ble_eq_true rfl) ?_
  intro K H0 hk he hl0 hI hA
  refine j_ald4 hk dX9_follow_0 rfl rfl ?_
  refine f_get hE hk in_X9 (.inl hv) (show vwCl[8]? = some (RX9, TX9, 5) from rfl) 0 (by decide) q1345 (Or.inl rfl) rfl dX9_follow_1 ?_
  refine j_ild4 hk dX9_follow_4 rfl rfl ?_
  have hlen := hs.len
  have hl33 := hl.len
  obtain ⟨b, hb, hob, hok⟩ := hs.at (i := k) (by omega)
  obtain ⟨o1, o2, o3, o4, o5⟩ := id hok
  have lk := letK_c hok
  obtain ⟨qo1, capo1, fo1, hc1o1, hc2o1, hl1o1, hl2o1, hfo1⟩ := hl.cell hN hzc
  refine f_callF (Wc := []) (Wr := [[(la, .inl (E.2.2 0, 4, .inl (fun j => jI (g j))))]]) hE hk hl0 (.inl hc1o1) (show vwCl[10]? = some (RJ2, TJ2, 3) from rfl) (fc_J2_get hls hE hN (z := z) hzc (a := lo) (i := k) (mc := mo) (li := li) (b := b) (hl) (hb)) (fun _ h => Or.inl h) 1 (lw_Fg q1338 q393 q395 q120 q397) q392 q391 q396 q394 q222 (by decide +kernel) rfl (by decide) (by omega) rfl (Nat.le_of_ble_eq_true rfl) dX9_follow_5 ?_
  refine Or.inl ⟨rfl, ?_⟩
  rintro _ _ _ ⟨rfl, rfl, rfl⟩ -
  refine f_W (W2 := [[(la, .inl (E.2.2 0, 4, .inl (fun j => jI (g j))))]]) rfl ?_
  refine f_castS hE hk (.inl hob) (show vwCl[5]? = some (RX6, TX6, 3) from rfl) q1339 dX9_follow_10 ?_
  refine j_ast2 hk dX9_follow_13 rfl ?_
  refine j_ald4 hk dX9_follow_14 rfl rfl ?_
  refine f_getN hE hk in_X6 (.inl hob) (show vwCl[5]? = some (RX6, TX6, 3) from rfl) 2 (by decide) q1671 rfl rfl dX9_follow_15 ?_
  refine j_bipush (n := 97) hk rfl dX9_follow_18 ?_
  refine j_isub hk dX9_follow_20 ?_
  refine j_top (z2 := ((oI (opAt s (k)) : Nat) : Int)) (by omega) ?_
  refine j_ist3 hk dX9_follow_21 rfl ?_
  refine j_ald4 hk dX9_follow_22 rfl rfl ?_
  refine f_getN hE hk in_X6 (.inl hob) (show vwCl[5]? = some (RX6, TX6, 3) from rfl) 0 (by decide) q1660 rfl rfl dX9_follow_23 ?_
  refine j_bipush (n := 114) hk rfl dX9_follow_26 ?_
  refine j_icmp_ne hk (by omega) (by omega) dX9_follow_28 rfl (tgt := 40) (fun h28 => ?_) (fun h28 => ?_)
  · refine j_iconst (n := -1) hk dX9_follow_40 ?_
    refine j_ist4 hk dX9_follow_41 rfl ?_
    refine j_ald4 hk dX9_follow_43 rfl rfl ?_
    refine f_get hE hk in_X9 (.inl hv) (show vwCl[8]? = some (RX9, TX9, 5) from rfl) 4 (by decide) q1349 (Or.inl rfl) rfl dX9_follow_44 ?_
    refine j_ild4 hk dX9_follow_47 rfl rfl ?_
    refine j_ald4 hk dX9_follow_48 rfl rfl ?_
    refine f_getN hE hk in_X6 (.inl hob) (show vwCl[5]? = some (RX6, TX6, 3) from rfl) 0 (by decide) q1660 rfl rfl dX9_follow_49 ?_
    refine j_bipush (n := 119) hk rfl dX9_follow_52 ?_
    refine j_icmp_ne hk (by omega) (by omega) dX9_follow_54 rfl (tgt := 61) (fun h54 => ?_) (fun h54 => ?_)
    · refine j_ald4 hk dX9_follow_61 rfl rfl ?_
      refine f_get hE hk in_X9 (.inl hv) (show vwCl[8]? = some (RX9, TX9, 5) from rfl) 4 (by decide) q1349 (Or.inl rfl) rfl dX9_follow_62 ?_
      refine j_ild4 hk dX9_follow_65 rfl rfl ?_
      refine f_iald (n := 4) (f := g) hE hk (fIn.at 0 0 rfl rfl) (oI (opAt s (k))) (by omega) (by omega) (by omega) dX9_follow_66 ?_
      refine f_iast (n := 4) (f := g) (W2 := [[(la, .inl (E.2.2 0, 4, .inl (fun j => jI ((iup g (oI (opAt s (k))) (g (oI (opAt s (k))))) j))))]]) hE hk 0 0 rfl rfl (oI (opAt s (k))) (by omega) (by omega) (by omega) rfl dX9_follow_67 ?_
      refine f_W (W2 := [[(la, .inl (E.2.2 0, 4, .inl (fun j => jI ((flW s g k) j))))]]) (by rw [show iup g (oI (opAt s (k))) (g (oI (opAt s (k)))) = (flW s g k) from by unfold flW; rw [if_neg (show ¬ oK (opAt s k) = 1 by omega), iup_id]]) ?_
      refine j_ild hk dX9_follow_68 rfl ?_
      refine f_iret hk he hA rfl dX9_follow_70 (by omega) (by omega) ?_
      exact ⟨congrArg (fun z => some (Value.int (jI z))) (by unfold flR; first | (rw [if_pos (show oK (opAt s k) = 0 by omega)]; done) | (rw [if_neg (show ¬ oK (opAt s k) = 0 by omega)]; done) | (exfalso; omega)), rfl, rfl⟩
    · refine j_ild4 hk dX9_follow_57 rfl rfl ?_
      refine j_goto (tgt := 67) hk dX9_follow_58 rfl ?_
      refine f_iast (n := 4) (f := g) (W2 := [[(la, .inl (E.2.2 0, 4, .inl (fun j => jI ((iup g (oI (opAt s (k))) ((k : Nat) : Int)) j))))]]) hE hk 0 0 rfl rfl (oI (opAt s (k))) (by omega) (by omega) (by omega) rfl dX9_follow_67 ?_
      refine f_W (W2 := [[(la, .inl (E.2.2 0, 4, .inl (fun j => jI ((flW s g k) j))))]]) (by rw [show iup g (oI (opAt s (k))) ((k : Nat) : Int) = (flW s g k) from by unfold flW; rw [if_pos (show oK (opAt s k) = 1 by omega)]]) ?_
      refine j_ild hk dX9_follow_68 rfl ?_
      refine f_iret hk he hA rfl dX9_follow_70 (by omega) (by omega) ?_
      exact ⟨congrArg (fun z => some (Value.int (jI z))) (by unfold flR; first | (rw [if_pos (show oK (opAt s k) = 0 by omega)]; done) | (rw [if_neg (show ¬ oK (opAt s k) = 0 by omega)]; done) | (exfalso; omega)), rfl, rfl⟩
  · refine j_ald4 hk dX9_follow_31 rfl rfl ?_
    refine f_get hE hk in_X9 (.inl hv) (show vwCl[8]? = some (RX9, TX9, 5) from rfl) 4 (by decide) q1349 (Or.inl rfl) rfl dX9_follow_32 ?_
    refine j_ild4 hk dX9_follow_35 rfl rfl ?_
    refine f_iald (n := 4) (f := g) hE hk (fIn.at 0 0 rfl rfl) (oI (opAt s (k))) (by omega) (by omega) (by omega) dX9_follow_36 ?_
    refine j_goto (tgt := 41) hk dX9_follow_37 rfl ?_
    refine j_ist4 hk dX9_follow_41 rfl ?_
    refine j_ald4 hk dX9_follow_43 rfl rfl ?_
    refine f_get hE hk in_X9 (.inl hv) (show vwCl[8]? = some (RX9, TX9, 5) from rfl) 4 (by decide) q1349 (Or.inl rfl) rfl dX9_follow_44 ?_
    refine j_ild4 hk dX9_follow_47 rfl rfl ?_
    refine j_ald4 hk dX9_follow_48 rfl rfl ?_
    refine f_getN hE hk in_X6 (.inl hob) (show vwCl[5]? = some (RX6, TX6, 3) from rfl) 0 (by decide) q1660 rfl rfl dX9_follow_49 ?_
    refine j_bipush (n := 119) hk rfl dX9_follow_52 ?_
    refine j_icmp_ne hk (by omega) (by omega) dX9_follow_54 rfl (tgt := 61) (fun h54 => ?_) (fun h54 => ?_)
    · refine j_ald4 hk dX9_follow_61 rfl rfl ?_
      refine f_get hE hk in_X9 (.inl hv) (show vwCl[8]? = some (RX9, TX9, 5) from rfl) 4 (by decide) q1349 (Or.inl rfl) rfl dX9_follow_62 ?_
      refine j_ild4 hk dX9_follow_65 rfl rfl ?_
      refine f_iald (n := 4) (f := g) hE hk (fIn.at 0 0 rfl rfl) (oI (opAt s (k))) (by omega) (by omega) (by omega) dX9_follow_66 ?_
      refine f_iast (n := 4) (f := g) (W2 := [[(la, .inl (E.2.2 0, 4, .inl (fun j => jI ((iup g (oI (opAt s (k))) (g (oI (opAt s (k))))) j))))]]) hE hk 0 0 rfl rfl (oI (opAt s (k))) (by omega) (by omega) (by omega) rfl dX9_follow_67 ?_
      refine f_W (W2 := [[(la, .inl (E.2.2 0, 4, .inl (fun j => jI ((flW s g k) j))))]]) (by rw [show iup g (oI (opAt s (k))) (g (oI (opAt s (k)))) = (flW s g k) from by unfold flW; rw [if_neg (show ¬ oK (opAt s k) = 1 by omega), iup_id]]) ?_
      refine j_ild hk dX9_follow_68 rfl ?_
      refine f_iret hk he hA rfl dX9_follow_70 (by omega) (by omega) ?_
      exact ⟨congrArg (fun z => some (Value.int (jI z))) (by unfold flR; first | (rw [if_pos (show oK (opAt s k) = 0 by omega)]; done) | (rw [if_neg (show ¬ oK (opAt s k) = 0 by omega)]; done) | (exfalso; omega)), rfl, rfl⟩
    · refine j_ild4 hk dX9_follow_57 rfl rfl ?_
      refine j_goto (tgt := 67) hk dX9_follow_58 rfl ?_
      refine f_iast (n := 4) (f := g) (W2 := [[(la, .inl (E.2.2 0, 4, .inl (fun j => jI ((iup g (oI (opAt s (k))) ((k : Nat) : Int)) j))))]]) hE hk 0 0 rfl rfl (oI (opAt s (k))) (by omega) (by omega) (by omega) rfl dX9_follow_67 ?_
      refine f_W (W2 := [[(la, .inl (E.2.2 0, 4, .inl (fun j => jI ((flW s g k) j))))]]) (by rw [show iup g (oI (opAt s (k))) ((k : Nat) : Int) = (flW s g k) from by unfold flW; rw [if_pos (show oK (opAt s k) = 1 by omega)]]) ?_
      refine j_ild hk dX9_follow_68 rfl ?_
      refine f_iret hk he hA rfl dX9_follow_70 (by omega) (by omega) ?_
      exact ⟨congrArg (fun z => some (Value.int (jI z))) (by unfold flR; first | (rw [if_pos (show oK (opAt s k) = 0 by omega)]; done) | (rw [if_neg (show ¬ oK (opAt s k) = 0 by omega)]; done) | (exfalso; omega)), rfl, rfl⟩
