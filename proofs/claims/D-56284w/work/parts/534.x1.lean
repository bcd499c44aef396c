/-! X, 1 -/
/-- the values behind the undoing of a transaction's writes, from the last -/
def unC (ws : List Op) (rp : List Nat) (t : Nat) : Nat → (Nat → Nat) → (Nat → Nat)
  | 0, c => c
  | k + 1, c => unC ws rp t k (if oT (opAt ws k) = t then nup c (oI (opAt ws k)) (rp.getD k 0) else c)
theorem unC_S {ws : List Op} {rp : List Nat} {t k : Nat} {c : Nat → Nat} (h : 0 < k) : unC ws rp t k c = unC ws rp t (k - 1) (if oT (opAt ws (k - 1)) = t then nup c (oI (opAt ws (k - 1))) (rp.getD (k - 1) 0) else c) := by
  obtain ⟨j, rfl⟩ : ∃ j, k = j + 1 := ⟨k - 1, by omega⟩
  rfl
set_option maxHeartbeats 1500000 in
/-- X10 undo(I)V -/
theorem fc_X10_undo {l : Launch} {E : jE} (hls : l.stackTraces = false) (hE : jSt E) (hN : jCn E) {z : jZ} (hzc : zLe (zS E) z) {a : Nat} {t : Nat} {va : Nat} {rg : Nat} {wl : Nat} {rl : Nat} {c : Nat → Nat} {l1 : List Nat} {l2 : List Nat} {m1 : Int} {m2 : Int} {w1 : va_W} {w2 : va_W} {ws : List Op} {rp : List Nat} (hx : z (a, .inr (9, [.ref va, .ref rg, .ref wl, .ref rl]))) (hw1 : alW E wl m1 l1 w1) (hw2 : alW E rl m2 l2 w2) (hop : opsZ z l1 ws) (hin : intsZ z l2 rp) (hln : rp.length = ws.length) (ht : t < 1000) : fC l E yX10_undo cX10_undo 3 (none) 4 76 (0) (0) [.ref a, .int (jI ((t : Nat) : Int))] z [[(va, .inl (E.2.2 0, 4, .inl (fun j => jI ((fun j => ((c j : Nat) : Int)) j))))], w1, w2] (fun rr z2 W2 => rr = none ∧ W2 = [[(va, .inl (E.2.2 0, 4, .inl (fun j => jI ((fun j => (((unC ws rp t ws.length c) j : Nat) : Int)) j))))], w1, w2] ∧ z = z2) := by
  refine f_start (own := "ScheduleAnalyzer$Execution") (vs := [some (.ref a), some (.int (jI ((t : Nat) : Int))), none]) hls (by decide +kernel) rfl rfl rfl (Nat.le_of_ble_eq_true rfl) ?_
  intro K H0 hk he hl0 hI hA
  have hl1 := hop.len
  have hl2 := hin.len
  have h133 := hw1.len
  refine j_ald4 hk dX10_undo_0 rfl rfl ?_
  refine f_get hE hk in_X10 (.inl hx) (show vwCl[9]? = some (RX10, TX10, 4) from rfl) 2 (by decide) q1439 (Or.inl rfl) rfl dX10_undo_1 ?_
  obtain ⟨zL1, hlL1, hmL1, hbL1⟩ := f_lend z [w1] [[(va, .inl (E.2.2 0, 4, .inl (fun j => jI ((fun j => ((c j : Nat) : Int)) j))))], w1, w2] (by simp)
  obtain ⟨rm2, hrm2⟩ := alW.mem hw1
  refine f_callF (Wc := []) (Wr := [[(va, .inl (E.2.2 0, 4, .inl (fun j => jI ((fun j => ((c j : Nat) : Int)) j))))], w1, w2]) hE hk hl0 (fIn.of 1 rfl hrm2) (show vwCl[10]? = some (RJ2, TJ2, 3) from rfl) (fc_J2_size hls hE hN (z := zL1) (hzc.tr hlL1) (a := wl) (li := l1) (mc := m1) (((hw1).z (fun x hx => hmL1 _ (List.mem_cons_self) _ hx)))) (hbL1) 0 (lw_Fg q1427 q896 q898 q120 q900) q895 q894 q899 q897 q222 (by decide +kernel) rfl (by decide) (by omega) rfl (Nat.le_of_ble_eq_true rfl) dX10_undo_4 ?_
  refine Or.inr ?_
  rintro _ _ _ ⟨rfl, rfl, -⟩ -
  refine f_W (W2 := [[(va, .inl (E.2.2 0, 4, .inl (fun j => jI ((fun j => ((c j : Nat) : Int)) j))))], w1, w2]) rfl ?_
  refine j_top (z2 := ((ws.length : Nat) : Int)) (by rw [hl1]) ?_
  refine j_iconst (n := 1) hk dX10_undo_9 ?_
  refine j_isub hk dX10_undo_10 ?_
  refine j_ist2 hk dX10_undo_11 rfl ?_
  have loop12 : ∀ (fuel12 : Nat) (k : Nat) (ce : Nat → Nat), k < fuel12 → k ≤ ws.length → unC ws rp t k ce = unC ws rp t ws.length c → jW K (fO K E z z [[(va, .inl (E.2.2 0, 4, .inl (fun j => jI ((fun j => ((ce j : Nat) : Int)) j))))], w1, w2]) (0) (0) 12 [some (.ref a), some (.int (jI ((t : Nat) : Int))), some (.int (jI ((k : Int) - 1)))] [] := by
    intro fuel12
    induction fuel12 with
    | zero => intro k ce hm; exact absurd hm (Nat.not_lt_zero _)
    | succ fuel12 ih12 =>
      intro k ce hm12 hkn huc
      refine j_ild4 hk dX10_undo_12 rfl rfl ?_
      refine j_if_lt hk (by omega) dX10_undo_13 rfl (tgt := 82) (fun h13 => ?_) (fun h13 => ?_)
      · have hk0 : k = 0 := by omega
        refine f_W (W2 := [[(va, .inl (E.2.2 0, 4, .inl (fun j => jI ((fun j => (((unC ws rp t ws.length c) j : Nat) : Int)) j))))], w1, w2]) (by rw [show (fun j => ((ce j : Nat) : Int)) = (fun j => (((unC ws rp t ws.length c) j : Nat) : Int)) from by rw [← huc, hk0]; rfl]) ?_
        refine f_vret hk he hA dX10_undo_82 (by omega) (by omega) ?_
        exact ⟨rfl, rfl, rfl⟩
      · refine j_ald4 hk dX10_undo_16 rfl rfl ?_
        refine f_get hE hk in_X10 (.inl hx) (show vwCl[9]? = some (RX10, TX10, 4) from rfl) 2 (by decide) q1439 (Or.inl rfl) rfl dX10_undo_17 ?_
        refine j_ild4 hk dX10_undo_20 rfl rfl ?_
        refine j_top (z2 := ((k - 1 : Nat) : Int)) (by omega) ?_
        obtain ⟨b, hb, hob, hok⟩ := hop.at (i := k - 1) (by omega)
        obtain ⟨o1, o2, o3, o4, o5⟩ := id hok
        obtain ⟨zL4, hlL4, hmL4, hbL4⟩ := f_lend z [w1] [[(va, .inl (E.2.2 0, 4, .inl (fun j => jI ((fun j => ((ce j : Nat) : Int)) j))))], w1, w2] (by simp)
        obtain ⟨rm5, hrm5⟩ := alW.mem hw1
        refine f_callF (Wc := []) (Wr := [[(va, .inl (E.2.2 0, 4, .inl (fun j => jI ((fun j => ((ce j : Nat) : Int)) j))))], w1, w2]) hE hk hl0 (fIn.of 1 rfl hrm5) (show vwCl[10]? = some (RJ2, TJ2, 3) from rfl) (fc_J2_get hls hE hN (z := zL4) (hzc.tr hlL4) (a := wl) (i := k - 1) (li := l1) (mc := m1) (b := b) (((hw1).z (fun x hx => hmL4 _ (List.mem_cons_self) _ hx))) (hb)) (hbL4) 1 (lw_Fg q1429 q393 q395 q120 q397) q392 q391 q396 q394 q222 (by decide +kernel) rfl (by decide) (by omega) rfl (Nat.le_of_ble_eq_true rfl) dX10_undo_21 ?_
        refine Or.inr ?_
        rintro _ _ _ ⟨rfl, rfl, -⟩ -
        refine f_W (W2 := [[(va, .inl (E.2.2 0, 4, .inl (fun j => jI ((fun j => ((ce j : Nat) : Int)) j))))], w1, w2]) rfl ?_
        refine f_castS hE hk (.inl hob) (show vwCl[5]? = some (RX6, TX6, 3) from rfl) q1414 dX10_undo_26 ?_
        refine f_getN hE hk in_X6 (.inl hob) (show vwCl[5]? = some (RX6, TX6, 3) from rfl) 1 (by decide) q1665 rfl rfl dX10_undo_29 ?_
        refine j_ild4 hk dX10_undo_32 rfl rfl ?_
        refine j_icmp_ne hk (by omega) (by omega) dX10_undo_33 rfl (tgt := 76) (fun h33 => ?_) (fun h33 => ?_)
        · refine j_iinc2 hk dX10_undo_76 rfl ?_
          refine j_loc (i := 2) (z2 := ((k - 1 : Nat) : Int) - 1) rfl (by omega) ?_
          refine j_goto (tgt := 12) hk dX10_undo_79 rfl ?_
          exact ih12 (k - 1) ce (by omega) (by omega) (by rw [← huc, unC_S (k := k) (by omega), if_neg (show ¬ oT (opAt ws (k - 1)) = t by omega)])
        · refine j_ald4 hk dX10_undo_36 rfl rfl ?_
          refine f_get hE hk in_X10 (.inl hx) (show vwCl[9]? = some (RX10, TX10, 4) from rfl) 0 (by decide) q1435 (Or.inl rfl) rfl dX10_undo_37 ?_
          refine j_ald4 hk dX10_undo_40 rfl rfl ?_
          refine f_get hE hk in_X10 (.inl hx) (show vwCl[9]? = some (RX10, TX10, 4) from rfl) 2 (by decide) q1439 (Or.inl rfl) rfl dX10_undo_41 ?_
          refine j_ild4 hk dX10_undo_44 rfl rfl ?_
          refine j_top (z2 := ((k - 1 : Nat) : Int)) (by omega) ?_
          obtain ⟨zL7, hlL7, hmL7, hbL7⟩ := f_lend z [w1] [[(va, .inl (E.2.2 0, 4, .inl (fun j => jI ((fun j => ((ce j : Nat) : Int)) j))))], w1, w2] (by simp)
          obtain ⟨rm8, hrm8⟩ := alW.mem hw1
          refine f_callF (Wc := []) (Wr := [[(va, .inl (E.2.2 0, 4, .inl (fun j => jI ((fun j => ((ce j : Nat) : Int)) j))))], w1, w2]) hE hk hl0 (fIn.of 1 rfl hrm8) (show vwCl[10]? = some (RJ2, TJ2, 3) from rfl) (fc_J2_get hls hE hN (z := zL7) (hzc.tr hlL7) (a := wl) (i := k - 1) (li := l1) (mc := m1) (b := b) (((hw1).z (fun x hx => hmL7 _ (List.mem_cons_self) _ hx))) (hb)) (hbL7) 1 (lw_Fg q1429 q393 q395 q120 q397) q392 q391 q396 q394 q222 (by decide +kernel) rfl (by decide) (by omega) rfl (Nat.le_of_ble_eq_true rfl) dX10_undo_45 ?_
          refine Or.inr ?_
          rintro _ _ _ ⟨rfl, rfl, -⟩ -
          refine f_W (W2 := [[(va, .inl (E.2.2 0, 4, .inl (fun j => jI ((fun j => ((ce j : Nat) : Int)) j))))], w1, w2]) rfl ?_
          refine f_castS hE hk (.inl hob) (show vwCl[5]? = some (RX6, TX6, 3) from rfl) q1414 dX10_undo_50 ?_
          refine f_getN hE hk in_X6 (.inl hob) (show vwCl[5]? = some (RX6, TX6, 3) from rfl) 2 (by decide) q1670 rfl rfl dX10_undo_53 ?_
          refine j_bipush (n := 97) hk rfl dX10_undo_56 ?_
          refine j_isub hk dX10_undo_58 ?_
          refine j_top (z2 := ((oI (opAt ws (k - 1)) : Nat) : Int)) (by omega) ?_
          refine j_ald4 hk dX10_undo_59 rfl rfl ?_
          refine f_get hE hk in_X10 (.inl hx) (show vwCl[9]? = some (RX10, TX10, 4) from rfl) 3 (by decide) q1440 (Or.inl rfl) rfl dX10_undo_60 ?_
          refine j_ild4 hk dX10_undo_63 rfl rfl ?_
          refine j_top (z2 := ((k - 1 : Nat) : Int)) (by omega) ?_
          obtain ⟨b9, hb9, hi9, hn9⟩ := hin.at (i := k - 1) (by omega)
          obtain ⟨zL10, hlL10, hmL10, hbL10⟩ := f_lend z [w2] [[(va, .inl (E.2.2 0, 4, .inl (fun j => jI ((fun j => ((ce j : Nat) : Int)) j))))], w1, w2] (by simp)
          obtain ⟨rm11, hrm11⟩ := alW.mem hw2
          refine f_callF (Wc := []) (Wr := [[(va, .inl (E.2.2 0, 4, .inl (fun j => jI ((fun j => ((ce j : Nat) : Int)) j))))], w1, w2]) hE hk hl0 (fIn.of 2 rfl hrm11) (show vwCl[10]? = some (RJ2, TJ2, 3) from rfl) (fc_J2_get hls hE hN (z := zL10) (hzc.tr hlL10) (a := rl) (i := k - 1) (li := l2) (mc := m2) (b := b9) (((hw2).z (fun x hx => hmL10 _ (List.mem_cons_self) _ hx))) (hb9)) (hbL10) 1 (lw_Fg q1429 q393 q395 q120 q397) q392 q391 q396 q394 q222 (by decide +kernel) rfl (by decide) (by omega) rfl (Nat.le_of_ble_eq_true rfl) dX10_undo_64 ?_
          refine Or.inr ?_
          rintro _ _ _ ⟨rfl, rfl, -⟩ -
          refine f_W (W2 := [[(va, .inl (E.2.2 0, 4, .inl (fun j => jI ((fun j => ((ce j : Nat) : Int)) j))))], w1, w2]) rfl ?_
          refine f_castS hE hk (.inl hi9) (show vwCl[17]? = some (RJ22, TJ22, 1) from rfl) q1430 dX10_undo_69 ?_
          refine f_callV (Wc := []) (Wr := [[(va, .inl (E.2.2 0, 4, .inl (fun j => jI ((fun j => ((ce j : Nat) : Int)) j))))], w1, w2]) hE hk hl0 (.inl hi9) (show vwCl[17]? = some (RJ22, TJ22, 1) from rfl) (fc_J22_intValue hls hE hN (z := z) hzc (a := b9) (va := ((rp.getD (k - 1) 0 : Nat) : Int)) (hi9)) (fun _ h => Or.inl h) 0 (lw_V q1431 q1432 q1433 q141 q1434) (by decide +kernel) rfl (by decide) (by omega) rfl (Nat.le_of_ble_eq_true rfl) dX10_undo_72 ?_
          refine Or.inl ⟨rfl, ?_⟩
          rintro _ _ _ ⟨rfl, rfl, rfl⟩ -
          refine f_W (W2 := [[(va, .inl (E.2.2 0, 4, .inl (fun j => jI ((fun j => ((ce j : Nat) : Int)) j))))], w1, w2]) rfl ?_
          refine f_iast (n := 4) (f := (fun j => ((ce j : Nat) : Int))) (W2 := [[(va, .inl (E.2.2 0, 4, .inl (fun j => jI ((iup (fun j => ((ce j : Nat) : Int)) (oI (opAt ws (k - 1))) ((rp.getD (k - 1) 0 : Nat) : Int)) j))))], w1, w2]) hE hk 0 0 rfl rfl (oI (opAt ws (k - 1))) (by omega) (by omega) (by omega) rfl dX10_undo_75 ?_
          have hiu : ∀ (f : Nat → Nat) (k v : Nat), iup (fun j => ((f j : Nat) : Int)) k ((v : Nat) : Int) = (fun j => ((nup f k v j : Nat) : Int)) := fun f k v => by
            funext j
            unfold iup nup
            split <;> rfl
          refine f_W (W2 := [[(va, .inl (E.2.2 0, 4, .inl (fun j => jI ((fun j => (((nup ce (oI (opAt ws (k - 1))) (rp.getD (k - 1) 0)) j : Nat) : Int)) j))))], w1, w2]) (by rw [show iup (fun j => ((ce j : Nat) : Int)) (oI (opAt ws (k - 1))) ((rp.getD (k - 1) 0 : Nat) : Int) = (fun j => (((nup ce (oI (opAt ws (k - 1))) (rp.getD (k - 1) 0)) j : Nat) : Int)) from hiu _ _ _]) ?_
          refine j_iinc2 hk dX10_undo_76 rfl ?_
          refine j_loc (i := 2) (z2 := ((k - 1 : Nat) : Int) - 1) rfl (by omega) ?_
          refine j_goto (tgt := 12) hk dX10_undo_79 rfl ?_
          exact ih12 (k - 1) (nup ce (oI (opAt ws (k - 1))) (rp.getD (k - 1) 0)) (by omega) (by omega) (by rw [← huc, unC_S (k := k) (by omega), if_pos (show oT (opAt ws (k - 1)) = t by omega)])
  exact loop12 _ ws.length c (Nat.lt_succ_self _) (Nat.le_refl _) (rfl)
