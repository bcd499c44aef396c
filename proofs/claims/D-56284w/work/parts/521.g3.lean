/-! G, 3 -/
/-- what the conflicts note, by places -/
def bgIn (l : List Op) (ns : List Nat) (k : Nat) : Nat → (Nat → Nat) → (Nat → Nat)
  | 0, b => b
  | i + 1, b => if opConf (opAt l i) (opAt l k) then nup (bgIn l ns k i b) (ns.idxOf (oT (opAt l k))) (bgIn l ns k i b (ns.idxOf (oT (opAt l k))) ||| 2 ^ ns.idxOf (oT (opAt l i))) else bgIn l ns k i b
def bgTo (l : List Op) (ns : List Nat) : Nat → (Nat → Nat)
  | 0 => fun _ => 0
  | k + 1 => bgIn l ns k k (bgTo l ns k)
def gnC (l : List Op) : List Nat := gNd (ntl l)
def bgC (l : List Op) : Nat → Nat := bgTo l (gnC l) l.length
theorem bgIn_t {l : List Op} {ns : List Nat} {k i : Nat} {b : Nat → Nat} (h : opConf (opAt l i) (opAt l k) = true) : nup (bgIn l ns k i b) (ns.idxOf (oT (opAt l k))) (bgIn l ns k i b (ns.idxOf (oT (opAt l k))) ||| 2 ^ ns.idxOf (oT (opAt l i))) = bgIn l ns k (i + 1) b := (if_pos h).symm
theorem bgIn_f {l : List Op} {ns : List Nat} {k i : Nat} {b : Nat → Nat} (h : opConf (opAt l i) (opAt l k) = false) : bgIn l ns k i b = bgIn l ns k (i + 1) b := (if_neg (by rw [h]; decide)).symm
theorem ntl_mem {l : List Op} {i : Nat} (h : i < l.length) : oT (opAt l i) ∈ ntl l := List.mem_map.mpr ⟨_, opAt_mem h, rfl⟩
theorem bgIn_lt {l : List Op} {ns : List Nat} (hns : ns.length ≤ 5) (hm : ∀ t ∈ ntl l, t ∈ ns) {k : Nat} (hk : k < l.length) : ∀ {i : Nat} {b : Nat → Nat}, i ≤ k → (∀ j, b j < 32) → ∀ j, bgIn l ns k i b j < 32 := by
  intro i
  induction i with
  | zero => exact fun _ hb => hb
  | succ i ih =>
    intro b hi hb j
    have h0 := ih (by omega) hb
    unfold bgIn
    split
    · unfold nup
      split
      · have hx := List.idxOf_lt_length_of_mem (hm _ (ntl_mem (show i < l.length by omega)))
        have h1 : 2 ^ ns.idxOf (oT (opAt l i)) < 2 ^ 5 := Nat.pow_lt_pow_right (by decide) (by omega)
        exact Nat.or_lt_two_pow (n := 5) (h0 _) h1
      · exact h0 j
    · exact h0 j
theorem bgTo_lt {l : List Op} {ns : List Nat} (hns : ns.length ≤ 5) (hm : ∀ t ∈ ntl l, t ∈ ns) : ∀ {k : Nat}, k ≤ l.length → ∀ j, bgTo l ns k j < 32 := by
  intro k
  induction k with
  | zero => exact fun _ _ => by unfold bgTo; decide
  | succ k ih => exact fun hk => bgIn_lt hns hm (by omega) (Nat.le_refl _) (ih (by omega))
set_option maxHeartbeats 1500000 in
/-- X3 graph()LScheduleAnalyzer$Graph; -/
theorem fc_X3_graph {l : Launch} {E : jE} (hls : l.stackTraces = false) (hE : jSt E) (hN : jCn E) {z : jZ} (hzc : zLe (zS E) z) {a : Nat} {s : List Op} (h : schZ E z a s) : fC l E yX3_graph cX3_graph 7 (some (.object "ScheduleAnalyzer$Graph")) 10 3136 (5 * s.length + 12) (133 * s.length + 45) [.ref a] z [] (fun rr z2 W2 => ∃ r : Nat, rr = some (.ref r) ∧ W2 = [] ∧ grZ E z2 r (gnC (rsC s)) (bgC (rsC s))) := by
  refine f_start (own := "ScheduleAnalyzer$Schedule") (vs := [some (.ref a), none, none, none, none, none, none]) hls (by decide +kernel) rfl rfl rfl (Nat.le_of_ble_eq_true rfl) ?_
  intro K H0 hk he hl0 hI hA
  have hsl33 := h.len
  refine j_ald4 hk dX3_graph_0 rfl rfl ?_
  obtain ⟨lss1, mss1, lis1, hzs1, hals1, hops1, hnds1⟩ := id h
  refine f_callV (Wc := []) (Wr := []) hE hk hl0 (.inl hzs1) (show vwCl[2]? = some (RX3, TX3, 1) from rfl) (fc_X3_rest hls hE hN (z := z) hzc (a := a) (s := s) (h)) (fun _ h => Or.inl h) 0 (lw_V q870 q871 q872 q117 q873) (by decide +kernel) rfl (by decide) (by omega) rfl (Nat.le_of_ble_eq_true rfl) dX3_graph_1 ?_
  refine Or.inl ⟨rfl, ?_⟩
  rintro _ z1 _ ⟨r2, rfl, rfl, hp2_0⟩ zl1
  refine f_W (W2 := []) rfl ?_
  have hzc := hzc.tr zl1
  have h := h.up zl1
  have hzs1 := zl1 _ hzs1
  have hals1 := hals1.up zl1
  have hops1 := hops1.up zl1
  refine j_ast1 hk dX3_graph_4 rfl ?_
  have hrl := rsC_len (s := s)
  obtain ⟨lss3, mss3, lis3, hzs3, hals3, hops3, hnds3⟩ := id hp2_0
  have hlr := (hops3).len
  have hok9 := (hops3).ok
  have hnt : ∀ t ∈ ntl (rsC s), 1 ≤ t ∧ t ≤ 5 := fun t ht => by
    obtain ⟨o, ho, rfl⟩ := List.mem_map.mp ht
    exact ⟨(hok9 o ho).2.1, (hok9 o ho).2.2.1⟩
  have hlo : nsOK (gnC (rsC s)) := gNd_ok hnt
  have hmem : ∀ t ∈ ntl (rsC s), t ∈ gnC (rsC s) := fun t ht => gNd_mem.mpr ht
  have hnl9 : (ntl (rsC s)).length = (rsC s).length := List.length_map _
  refine f_new (fs := [.null, .null]) hE hk in_X7 tyX7 tyX7_ok q919 q920 q151 (show vwCl[6]? = some (RX7, TX7, 2) from rfl) (fun j hj => match j, hj with | 0, _ => rfl | 1, _ => rfl | j + 2, h => absurd h (by omega)) ⟨by omega, by omega⟩ dX3_graph_5 ?_
  intro ad1
  refine j_dup hk rfl dX3_graph_8 ?_
  refine j_ald4 hk dX3_graph_9 rfl rfl ?_
  refine f_callV (Wc := []) (Wr := [[(ad1, .inr (6, [.null, .null]))]]) hE hk hl0 (.inl hzs3) (show vwCl[2]? = some (RX3, TX3, 1) from rfl) (fc_X3_transactions hls hE hN (z := z1) hzc (a := r2) (s := rsC s) (hp2_0)) (fun _ h => Or.inl h) 0 (lw_V q921 q922 q923 q117 q924) (by decide +kernel) rfl (by decide) (by omega) rfl (Nat.le_of_ble_eq_true rfl) dX3_graph_10 ?_
  refine Or.inl ⟨rfl, ?_⟩
  rintro _ _ _ ⟨q4, mq4, w14, rfl, rfl, rfl, hp4_0⟩ -
  refine f_W (W2 := [w14, [(ad1, .inr (6, [.null, .null]))]]) rfl ?_
  refine f_sel (W2 := [[(ad1, .inr (6, [.null, .null]))], w14]) [1, 0] rfl rfl ?_
  obtain ⟨zL5, hlL5, hmL5, hbL5⟩ := f_lend z1 [w14] [w14] (by simp)
  refine f_callI (Wc := [[(ad1, .inr (6, [.null, .null]))]]) (Wr := [w14]) hk hl0 (fc_X7_init hls hE hN (z := zL5) (hzc.tr hlL5) (a := ad1) (el := q4) (ts := (ntl (rsC s))) ((hp4_0).z (fun x hx => hmL5 _ (List.mem_cons_self) _ hx)) (hnt)) (hbL5) 1 q947 q151 q945 q946 rfl (by decide +kernel) rfl (by decide) (by omega) rfl (Nat.le_of_ble_eq_true rfl) dX3_graph_13 ?_
  refine Or.inr ?_
  rintro _ _ _ ⟨nl6, ba6, mq6, w16, rfl, rfl, -, hp6_0⟩ -
  refine f_W (W2 := [[(ad1, .inr (6, [.ref nl6, .ref ba6]))], w16, [(ba6, .inl (E.2.2 0, 5, .inl (fun j => jI ((fun j => (((fun _ => 0) j : Nat) : Int)) j))))], w14]) rfl ?_
  refine f_freeze hk ?_
  intro z2 zl2 hm2
  have hzc := hzc.tr zl2
  have h := h.up zl2
  have hzs1 := zl2 _ hzs1
  have hals1 := hals1.up zl2
  have hops1 := hops1.up zl2
  have hp2_0 := hp2_0.up zl2
  have hzs3 := zl2 _ hzs3
  have hals3 := hals3.up zl2
  have hops3 := hops3.up zl2
  have hzg := hm2 _ (List.mem_cons_self)
  refine f_freeze hk ?_
  intro z3 zl3 hm3
  have hzc := hzc.tr zl3
  have h := h.up zl3
  have hzs1 := zl3 _ hzs1
  have hals1 := hals1.up zl3
  have hops1 := hops1.up zl3
  have hp2_0 := hp2_0.up zl3
  have hzs3 := zl3 _ hzs3
  have hals3 := hals3.up zl3
  have hops3 := hops3.up zl3
  have hzg := zl3 _ hzg
  have hgn : gnZ E z3 ad1 ba6 (gnC (rsC s)) := ⟨_, _, hzg, alW.z hp6_0 hm3, fun t ht => (by have := hlo.2 t ht; omega), hlo.len, hlo.nd⟩
  refine f_sel (W2 := [[(ba6, .inl (E.2.2 0, 5, .inl (fun j => jI ((fun j => (((fun _ => 0) j : Nat) : Int)) j))))]]) [0] rfl rfl ?_
  refine j_ast2 hk dX3_graph_16 rfl ?_
  refine j_iconst (n := 0) hk dX3_graph_17 ?_
  refine j_ist3 hk dX3_graph_18 rfl ?_
  have loop19 : ∀ (fuel19 : Nat) (k : Nat), (rsC s).length - k < fuel19 → k ≤ (rsC s).length → jW K (fO K E z z3 [[(ba6, .inl (E.2.2 0, 5, .inl (fun j => jI ((fun j => ((bgTo (rsC s) (gnC (rsC s)) k j : Nat) : Int)) j))))]]) (5 * s.length + 12) (133 * s.length + 45) 19 [some (.ref a), some (.ref r2), some (.ref ad1), some (.int (jI ((k : Nat) : Int))), none, none, none] [] := by
    intro fuel19
    induction fuel19 with
    | zero => intro k hm; exact absurd hm (Nat.not_lt_zero _)
    | succ fuel19 ih19 =>
      intro k hm19 hkn
      refine j_ild4 hk dX3_graph_19 rfl rfl ?_
      refine j_ald4 hk dX3_graph_20 rfl rfl ?_
      refine f_callV (Wc := []) (Wr := [[(ba6, .inl (E.2.2 0, 5, .inl (fun j => jI ((fun j => ((bgTo (rsC s) (gnC (rsC s)) k j : Nat) : Int)) j))))]]) hE hk hl0 (.inl hzs3) (show vwCl[2]? = some (RX3, TX3, 1) from rfl) (fc_X3_size hls hE hN (z := z3) hzc (a := r2) (s := rsC s) (hp2_0)) (fun _ h => Or.inl h) 0 (lw_V q888 q889 q890 q117 q891) (by decide +kernel) rfl (by decide) (by omega) rfl (Nat.le_of_ble_eq_true rfl) dX3_graph_21 ?_
      refine Or.inl ⟨rfl, ?_⟩
      rintro _ _ _ ⟨rfl, rfl, rfl⟩ -
      refine f_W (W2 := [[(ba6, .inl (E.2.2 0, 5, .inl (fun j => jI ((fun j => ((bgTo (rsC s) (gnC (rsC s)) k j : Nat) : Int)) j))))]]) rfl ?_
      refine j_icmp_ge hk (by omega) (by omega) dX3_graph_24 rfl (tgt := 109) (fun h24 => ?_) (fun h24 => ?_)
      · refine j_ald4 hk dX3_graph_109 rfl rfl ?_
        have h32 := bgTo_lt hlo.len hmem (k := k) hkn
        refine f_freeze hk ?_
        intro z4 zl4 hm4
        have hzc := hzc.tr zl4
        have h := h.up zl4
        have hzs1 := zl4 _ hzs1
        have hals1 := hals1.up zl4
        have hops1 := hops1.up zl4
        have hp2_0 := hp2_0.up zl4
        have hzs3 := zl4 _ hzs3
        have hals3 := hals3.up zl4
        have hops3 := hops3.up zl4
        have hzg := zl4 _ hzg
        have hgn := hgn.up zl4
        have hbz := hm4 _ (List.mem_cons_self)
        have hkk : k = (rsC s).length := by omega
        refine f_aret hk he hA (Or.inl ⟨_, rfl⟩) (Or.inr ⟨_, rfl⟩) dX3_graph_110 (by omega) (by omega) ?_
        subst hkk
        exact ⟨_, rfl, rfl, _, hgn, hbz, h32⟩
      · refine j_iconst (n := 0) hk dX3_graph_27 ?_
        refine j_ist4 hk dX3_graph_28 rfl ?_
        have loop30 : ∀ (fuel30 : Nat) (i : Nat), k - i < fuel30 → i ≤ k → jW K (fO K E z z3 [[(ba6, .inl (E.2.2 0, 5, .inl (fun j => jI ((fun j => ((bgIn (rsC s) (gnC (rsC s)) k i (bgTo (rsC s) (gnC (rsC s)) k) j : Nat) : Int)) j))))]]) (5 * s.length + 12) (133 * s.length + 45) 30 [some (.ref a), some (.ref r2), some (.ref ad1), some (.int (jI ((k : Nat) : Int))), some (.int (jI ((i : Nat) : Int))), none, none] [] := by
          intro fuel30
          induction fuel30 with
          | zero => intro i hm; exact absurd hm (Nat.not_lt_zero _)
          | succ fuel30 ih30 =>
            intro i hm30 hik
            refine j_ild hk dX3_graph_30 rfl ?_
            refine j_ild4 hk dX3_graph_32 rfl rfl ?_
            refine j_icmp_ge hk (by omega) (by omega) dX3_graph_33 rfl (tgt := 103) (fun h33 => ?_) (fun h33 => ?_)
            · refine j_iinc3 hk dX3_graph_103 rfl ?_
              refine j_goto (tgt := 19) hk dX3_graph_106 rfl ?_
              refine j_forget (i := 4) ?_
              refine f_W (W2 := [[(ba6, .inl (E.2.2 0, 5, .inl (fun j => jI ((fun j => ((bgTo (rsC s) (gnC (rsC s)) (k + 1) j : Nat) : Int)) j))))]]) (by first | rfl | (rw [show i = k by omega]; rfl)) ?_
              exact ih19 (k + 1) (by omega) (by omega)
            · refine j_ald4 hk dX3_graph_36 rfl rfl ?_
              refine f_get hE hk in_X3 (.inl hzs3) (show vwCl[2]? = some (RX3, TX3, 1) from rfl) 0 (by decide) q803 (Or.inl rfl) rfl dX3_graph_37 ?_
              refine j_ild hk dX3_graph_40 rfl ?_
              obtain ⟨b, hb, hob, hok⟩ := hops3.at (i := i) (by omega)
              obtain ⟨o1, o2, o3, o4, o5⟩ := id hok
              have lk := letK_c hok
              obtain ⟨qo8, capo8, fo8, hc1o8, hc2o8, hl1o8, hl2o8, hfo8⟩ := hals3.cell hN hzc
              refine f_callF (Wc := []) (Wr := [[(ba6, .inl (E.2.2 0, 5, .inl (fun j => jI ((fun j => ((bgIn (rsC s) (gnC (rsC s)) k i (bgTo (rsC s) (gnC (rsC s)) k) j : Nat) : Int)) j))))]]) hE hk hl0 (.inl hc1o8) (show vwCl[10]? = some (RJ2, TJ2, 3) from rfl) (fc_J2_get hls hE hN (z := z3) hzc (a := lss3) (i := i) (mc := mss3) (li := lis3) (b := b) (hals3) (hb)) (fun _ h => Or.inl h) 1 (lw_Fg q1201 q393 q395 q120 q397) q392 q391 q396 q394 q222 (by decide +kernel) rfl (by decide) (by omega) rfl (Nat.le_of_ble_eq_true rfl) dX3_graph_42 ?_
              refine Or.inl ⟨rfl, ?_⟩
              rintro _ _ _ ⟨rfl, rfl, rfl⟩ -
              refine f_W (W2 := [[(ba6, .inl (E.2.2 0, 5, .inl (fun j => jI ((fun j => ((bgIn (rsC s) (gnC (rsC s)) k i (bgTo (rsC s) (gnC (rsC s)) k) j : Nat) : Int)) j))))]]) rfl ?_
              refine f_castS hE hk (.inl hob) (show vwCl[5]? = some (RX6, TX6, 3) from rfl) q712 dX3_graph_47 ?_
              refine j_ast5 hk dX3_graph_50 rfl ?_
              refine j_ald4 hk dX3_graph_52 rfl rfl ?_
              refine f_get hE hk in_X3 (.inl hzs3) (show vwCl[2]? = some (RX3, TX3, 1) from rfl) 0 (by decide) q803 (Or.inl rfl) rfl dX3_graph_53 ?_
              refine j_ild4 hk dX3_graph_56 rfl rfl ?_
              obtain ⟨bK, hbK, hobK, hokK⟩ := hops3.at (i := k) (by omega)
              obtain ⟨o1K, o2K, o3K, o4K, o5K⟩ := id hokK
              have lkK := letK_c hokK
              refine f_callF (Wc := []) (Wr := [[(ba6, .inl (E.2.2 0, 5, .inl (fun j => jI ((fun j => ((bgIn (rsC s) (gnC (rsC s)) k i (bgTo (rsC s) (gnC (rsC s)) k) j : Nat) : Int)) j))))]]) hE hk hl0 (.inl hc1o8) (show vwCl[10]? = some (RJ2, TJ2, 3) from rfl) (fc_J2_get hls hE hN (z := z3) hzc (a := lss3) (i := k) (mc := mss3) (li := lis3) (b := bK) (hals3) (hbK)) (fun _ h => Or.inl h) 1 (lw_Fg q1201 q393 q395 q120 q397) q392 q391 q396 q394 q222 (by decide +kernel) rfl (by decide) (by omega) rfl (Nat.le_of_ble_eq_true rfl) dX3_graph_57 ?_
              refine Or.inl ⟨rfl, ?_⟩
              rintro _ _ _ ⟨rfl, rfl, rfl⟩ -
              refine f_W (W2 := [[(ba6, .inl (E.2.2 0, 5, .inl (fun j => jI ((fun j => ((bgIn (rsC s) (gnC (rsC s)) k i (bgTo (rsC s) (gnC (rsC s)) k) j : Nat) : Int)) j))))]]) rfl ?_
              refine f_castS hE hk (.inl hobK) (show vwCl[5]? = some (RX6, TX6, 3) from rfl) q712 dX3_graph_62 ?_
              refine j_ast6 hk dX3_graph_65 rfl ?_
              refine j_ald hk dX3_graph_67 rfl ?_
              refine j_ald hk dX3_graph_69 rfl ?_
              refine f_callV (Wc := []) (Wr := [[(ba6, .inl (E.2.2 0, 5, .inl (fun j => jI ((fun j => ((bgIn (rsC s) (gnC (rsC s)) k i (bgTo (rsC s) (gnC (rsC s)) k) j : Nat) : Int)) j))))]]) hE hk hl0 (.inl hob) (show vwCl[5]? = some (RX6, TX6, 3) from rfl) (fc_X6_conflictsWith hls hE hN (z := z3) hzc (a := b) (b := bK) (o := opAt (rsC s) i) (o2 := opAt (rsC s) k) (hob) (hok) (hobK) (hokK)) (fun _ h => Or.inl h) 1 (lw_V q1202 q1203 q1204 q149 q1205) (by decide +kernel) rfl (by decide) (by omega) rfl (Nat.le_of_ble_eq_true rfl) dX3_graph_71 ?_
              refine Or.inl ⟨rfl, ?_⟩
              rintro _ _ _ ⟨rfl, rfl, rfl⟩ -
              refine f_W (W2 := [[(ba6, .inl (E.2.2 0, 5, .inl (fun j => jI ((fun j => ((bgIn (rsC s) (gnC (rsC s)) k i (bgTo (rsC s) (gnC (rsC s)) k) j : Nat) : Int)) j))))]]) rfl ?_
              refine j_ifeqB hk dX3_graph_74 rfl (tgt := 97) (fun h74 => ?_) (fun h74 => ?_)
              · refine f_W (W2 := [[(ba6, .inl (E.2.2 0, 5, .inl (fun j => jI ((fun j => ((bgIn (rsC s) (gnC (rsC s)) k (i + 1) (bgTo (rsC s) (gnC (rsC s)) k) j : Nat) : Int)) j))))]]) (by rw [← bgIn_f h74]) ?_
                refine j_iinc4 hk dX3_graph_97 rfl ?_
                refine j_goto (tgt := 30) hk dX3_graph_100 rfl ?_
                refine j_forget (i := 5) ?_
                refine j_forget (i := 6) ?_
                exact ih30 (i + 1) (by omega) (by omega)
              · have hmi := hmem _ (ntl_mem (show i < (rsC s).length by omega))
                have hmk := hmem _ (ntl_mem (show k < (rsC s).length by omega))
                refine j_ald4 hk dX3_graph_77 rfl rfl ?_
                refine j_ald hk dX3_graph_78 rfl ?_
                refine f_getN hE hk in_X6 (.inl hob) (show vwCl[5]? = some (RX6, TX6, 3) from rfl) 1 (by decide) q1667 rfl rfl dX3_graph_80 ?_
                refine f_callS (Wc := []) (Wr := [[(ba6, .inl (E.2.2 0, 5, .inl (fun j => jI ((fun j => ((bgIn (rsC s) (gnC (rsC s)) k i (bgTo (rsC s) (gnC (rsC s)) k) j : Nat) : Int)) j))))]]) hk hl0 (fc_J22_valueOf hls hE hN (z := z3) hzc (n := oT (opAt (rsC s) i)) (by first | assumption | omega)) (fun _ h => Or.inl h) 1 (lw_S q925 q926 q141 q927) (by decide +kernel) rfl (by decide) (by omega) rfl (Nat.le_of_ble_eq_true rfl) dX3_graph_83 ?_
                refine Or.inl ⟨rfl, ?_⟩
                rintro _ _ _ ⟨rfl, rfl, rfl⟩ -
                refine f_W (W2 := [[(ba6, .inl (E.2.2 0, 5, .inl (fun j => jI ((fun j => ((bgIn (rsC s) (gnC (rsC s)) k i (bgTo (rsC s) (gnC (rsC s)) k) j : Nat) : Int)) j))))]]) rfl ?_
                refine j_ald hk dX3_graph_86 rfl ?_
                refine f_getN hE hk in_X6 (.inl hobK) (show vwCl[5]? = some (RX6, TX6, 3) from rfl) 1 (by decide) q1667 rfl rfl dX3_graph_88 ?_
                refine f_callS (Wc := []) (Wr := [[(ba6, .inl (E.2.2 0, 5, .inl (fun j => jI ((fun j => ((bgIn (rsC s) (gnC (rsC s)) k i (bgTo (rsC s) (gnC (rsC s)) k) j : Nat) : Int)) j))))]]) hk hl0 (fc_J22_valueOf hls hE hN (z := z3) hzc (n := oT (opAt (rsC s) k)) (by first | assumption | omega)) (fun _ h => Or.inl h) 1 (lw_S q925 q926 q141 q927) (by decide +kernel) rfl (by decide) (by omega) rfl (Nat.le_of_ble_eq_true rfl) dX3_graph_91 ?_
                refine Or.inl ⟨rfl, ?_⟩
                rintro _ _ _ ⟨rfl, rfl, rfl⟩ -
                refine f_W (W2 := [[(ba6, .inl (E.2.2 0, 5, .inl (fun j => jI ((fun j => ((bgIn (rsC s) (gnC (rsC s)) k i (bgTo (rsC s) (gnC (rsC s)) k) j : Nat) : Int)) j))))]]) rfl ?_
                obtain ⟨nln14, mnn14, hgn14, hnln14, hnsn14, hn5n14, hnnn14⟩ := id hgn
                have hkln14 : (kIs E (gnC (rsC s))).length = (gnC (rsC s)).length := kIs_len
                refine f_callV (Wc := [[(ba6, .inl (E.2.2 0, 5, .inl (fun j => jI ((fun j => ((bgIn (rsC s) (gnC (rsC s)) k i (bgTo (rsC s) (gnC (rsC s)) k) j : Nat) : Int)) j))))]]) (Wr := []) hE hk hl0 (.inl hgn14) (show vwCl[6]? = some (RX7, TX7, 2) from rfl) (fc_X7_connect hls hE hN (z := z3) hzc (a := ad1) (b := (bgIn (rsC s) (gnC (rsC s)) k i (bgTo (rsC s) (gnC (rsC s)) k))) (t := oT (opAt (rsC s) i)) (u := oT (opAt (rsC s) k)) (ba := ba6) (ns := gnC (rsC s)) (hgn) (by first | assumption | omega) (by first | assumption | omega)) (fun _ h => Or.inl h) 2 (lw_V q1210 q1211 q1212 q151 q1213) (by decide +kernel) rfl (by decide) (by omega) rfl (Nat.le_of_ble_eq_true rfl) dX3_graph_94 ?_
                refine Or.inl ⟨rfl, ?_⟩
                rintro _ _ _ ⟨rfl, rfl, rfl⟩ -
                refine f_W (W2 := [[(ba6, .inl (E.2.2 0, 5, .inl (fun j => jI ((fun j => ((nup (bgIn (rsC s) (gnC (rsC s)) k i (bgTo (rsC s) (gnC (rsC s)) k)) ((gnC (rsC s)).idxOf (oT (opAt (rsC s) k))) ((bgIn (rsC s) (gnC (rsC s)) k i (bgTo (rsC s) (gnC (rsC s)) k)) ((gnC (rsC s)).idxOf (oT (opAt (rsC s) k))) ||| 2 ^ (gnC (rsC s)).idxOf (oT (opAt (rsC s) i))) j : Nat) : Int)) j))))]]) rfl ?_
                refine f_W (W2 := [[(ba6, .inl (E.2.2 0, 5, .inl (fun j => jI ((fun j => ((bgIn (rsC s) (gnC (rsC s)) k (i + 1) (bgTo (rsC s) (gnC (rsC s)) k) j : Nat) : Int)) j))))]]) (by rw [bgIn_t h74]) ?_
                refine j_iinc4 hk dX3_graph_97 rfl ?_
                refine j_goto (tgt := 30) hk dX3_graph_100 rfl ?_
                refine j_forget (i := 5) ?_
                refine j_forget (i := 6) ?_
                exact ih30 (i + 1) (by omega) (by omega)
        refine f_W (W2 := [[(ba6, .inl (E.2.2 0, 5, .inl (fun j => jI ((fun j => ((bgIn (rsC s) (gnC (rsC s)) k 0 (bgTo (rsC s) (gnC (rsC s)) k) j : Nat) : Int)) j))))]]) (rfl) ?_
        exact loop30 _ 0 (Nat.lt_succ_self _) (Nat.zero_le _)
  refine f_W (W2 := [[(ba6, .inl (E.2.2 0, 5, .inl (fun j => jI ((fun j => ((bgTo (rsC s) (gnC (rsC s)) 0 j : Nat) : Int)) j))))]]) (by first | rfl | (rw [show i = k by omega]; rfl)) ?_
  refine j_wide (k2 := 5 * s.length + 12) (n2 := 133 * s.length + 45) (by omega) (by omega) ?_
  exact loop19 _ 0 (Nat.lt_succ_self _) (Nat.zero_le _)
