/-! M, 21: the reference's constructor -/
def cF0 (k : Nat) : Int := if k = 6 then -1 else 0
def cFs (ad : Nat → Nat) (n : Nat) : List Value := (List.range 37).map fun i => if i < n then (if mIsA i then .ref (ad i) else .int (jI (cF0 i))) else (if mIsA i then .null else .int (jI 0))
def cA0 : Nat → Nat → Int := fun _ _ => 0
def cWs (m : Nat) (ad : Nat → Nat) (dI : ClassId) (n : Nat) : va_W := (m, .inr (3, cFs ad n)) :: (mArr.filter fun k => decide (k < n)).map (mCell ad dI cA0)
theorem cFs_len (ad : Nat → Nat) (n : Nat) : (cFs ad n).length = 37 := by simp [cFs]
theorem cFs_at (ad : Nat → Nat) (n : Nat) {k : Nat} (h : k < 37) : (cFs ad n)[k]? = some (if k < n then (if mIsA k then .ref (ad k) else .int (jI (cF0 k))) else (if mIsA k then .null else .int (jI 0))) := by simp [cFs, h]
theorem cFs_set {ad ad2 : Nat → Nat} {k : Nat} {v : Value} (hk : k < 37) (hv : v = if mIsA k then .ref (ad2 k) else .int (jI (cF0 k))) (ha : ∀ j, j < k → ad2 j = ad j) : (cFs ad k).set k v = cFs ad2 (k + 1) := by
  apply List.ext_getElem?
  intro j
  by_cases hj : j < 37
  · by_cases e : j = k
    · subst e
      rw [List.getElem?_set_self (by rw [cFs_len]; exact hj), cFs_at _ _ hj, if_pos (Nat.lt_succ_self _), hv]
    · rw [List.getElem?_set_ne (Ne.symm e), cFs_at _ _ hj, cFs_at _ _ hj]
      by_cases q : j < k
      · rw [if_pos q, if_pos (show j < k + 1 by omega), ha j q]
      · rw [if_neg q, if_neg (show ¬ j < k + 1 by omega)]
  · rw [List.getElem?_eq_none (by rw [List.length_set, cFs_len]; omega), List.getElem?_eq_none (by rw [cFs_len]; omega)]
theorem cFl_n : ∀ k, k < 37 → mIsA k = false → (mArr.filter fun j => decide (j < k + 1)) = mArr.filter fun j => decide (j < k) := by decide +kernel
theorem cFl_a : ∀ k, k < 37 → mIsA k = true → (mArr.filter fun j => decide (j < k + 1)) = (mArr.filter fun j => decide (j < k)) ++ [k] := by decide +kernel
theorem cWs_num {m : Nat} {ad : Nat → Nat} {dI : ClassId} {k : Nat} (hk : k < 37) (hA : mIsA k = false) : (cWs m ad dI k).set 0 (m, .inr (3, (cFs ad k).set k (.int (jI (cF0 k))))) = cWs m ad dI (k + 1) := by
  rw [cFs_set (ad2 := ad) hk (by rw [hA]; rfl) (fun _ _ => rfl)]
  unfold cWs
  rw [cFl_n k hk hA]; rfl
theorem cWs_arr {m q : Nat} {ad : Nat → Nat} {dI : ClassId} {k : Nat} (hk : k < 37) (hA : mIsA k = true) : (cWs m ad dI k ++ ([(q, .inl (dI, mLen k, .inl (fun _ => 0)))] : va_W)).set 0 (m, .inr (3, (cFs ad k).set k (.ref q))) = cWs m (nup ad k q) dI (k + 1) := by
  rw [cFs_set (ad2 := nup ad k q) hk (by rw [hA, nup_s]; rfl) (fun j hj => nup_n (by omega))]
  unfold cWs
  rw [cFl_a k hk hA, List.map_append, List.cons_append]
  show _ :: (_ ++ _) = _ :: (_ ++ _)
  congr 2
  · apply List.map_congr_left
    intro j hj
    have := of_decide_eq_true (List.mem_filter.mp hj).2
    unfold mCell
    rw [nup_n (by omega)]
  · show [_] = [_]
    unfold mCell
    rw [nup_s]; rfl
section CNEW
variable {E : jE} {K : jK} {cc : ByteArray} {Rf Rc Rs Rl : Nat} {cells slots pc : Nat} {vs : List (Option Value)} {st : List Value} {m : Nat} {ad : Nat → Nat}
theorem c_num (hE : jSt E) (hk : jOK E K cc "ScheduleAnalyzerModel" ({ frames := Rf, cells := Rc, slots := Rs, locals := Rl } : Room)) (k : Nat) (h37 : k < 37) (hA : mIsA k = false) {z : Int} (hz : z = cF0 k) {index : Nat} (hlink : (Cond.fieldLink "ScheduleAnalyzerModel" index "ScheduleAnalyzerModel" (TX4 k).2.1 (TX4 k).2.2.1) ∈ lw_all) (hsame : (TX4 k).1 = RX4) (hfin : (TX4 k).2.2.2 = false) {ty : FieldType} (hd : parseFieldDescriptor (TX4 k).2.2.1 = some ty) (hn : narrow ty (.int (jI z)) = .int (jI z)) (hfit : fits ty (.int (jI z)) = true) (d : decode cc pc = .ok (.putfield index, 3)) (kk : jW K (wO K E (cWs m ad (E.2.2 0) (k + 1))) cells slots (pc + 3) vs st) : jW K (wO K E (cWs m ad (E.2.2 0) k)) cells slots pc vs (.int (jI z) :: .ref m :: st) := by
  subst hz
  exact j_wput hE hk in_X4 tyX4_ok nmX4 0 rfl (show vwCl[3]? = some (RX4, TX4, 37) from rfl) k h37 hlink hsame (Or.inl hfin) hd hn hfit (by rw [cFs_len]; exact h37) (cWs_num h37 hA) d kk
theorem c_arr (hE : jSt E) (hk : jOK E K cc "ScheduleAnalyzerModel" ({ frames := Rf, cells := Rc, slots := Rs, locals := Rl } : Room)) (hI : jKn K = "<init>") (k : Nat) (h37 : k < 37) (hA : mIsA k = true) {z : Int} (hz : z = ((mLen k : Nat) : Int)) {index : Nat} (hlink : (Cond.fieldLink "ScheduleAnalyzerModel" index "ScheduleAnalyzerModel" (TX4 k).2.1 (TX4 k).2.2.1) ∈ lw_all) (hsame : (TX4 k).1 = RX4) (hfin : (TX4 k).2.2.2 = true) {ty : FieldType} (hd : parseFieldDescriptor (TX4 k).2.2.1 = some ty) (hn : ∀ q, narrow ty (.ref q) = .ref q) (hfit : ∀ q, fits ty (.ref q) = true) (d1 : decode cc pc = .ok (.newarray .int, 2)) (d2 : decode cc (pc + 2) = .ok (.putfield index, 3)) (hroom : cells + 1 ≤ Rc ∧ slots + mLen k ≤ Rs) (kk : ∀ ad2 : Nat → Nat, jW K (wO K E (cWs m ad2 (E.2.2 0) (k + 1))) (cells + 1) (slots + mLen k) (pc + 5) vs st) : jW K (wO K E (cWs m ad (E.2.2 0) k)) cells slots pc vs (.int (jI z) :: .ref m :: st) := by
  refine j_wnewI hE hk q211 (mLen k) hz (by have : mLen k ≤ 704 := by unfold mLen; split <;> omega
                                            omega) hroom d1 (fun q => ?_)
  exact j_wput hE hk in_X4 tyX4_ok nmX4 0 rfl (show vwCl[3]? = some (RX4, TX4, 37) from rfl) k h37 hlink hsame (Or.inr ⟨hfin, hI, hsame⟩) hd (hn q) (hfit q) (by rw [cFs_len]; exact h37) (cWs_arr h37 hA) d2 (kk _)
end CNEW
theorem cWs_end {m : Nat} {ad : Nat → Nat} {dI : ClassId} : cWs m ad dI 37 = mW m ad dI cA0 cF0 := by
  unfold cWs mW
  have e : (mArr.filter fun k => decide (k < 37)) = mArr := by decide +kernel
  rw [e]
  congr 3
set_option maxHeartbeats 1500000 in
/-- the constructor -/
theorem jc_X4_init {l : Launch} {E : jE} {m : Nat} (hls : l.stackTraces = false) (hE : jSt E) : jC l E yX4_init cX4_init 1 none 2 60 24 1416 [.ref m] (fun H => va_at E.2.1 vwCl (m, .inr (3, cFs (fun _ => 0) 0)) H ∧ E.1.heap.size ≤ m) (fun q => q = m) (fun v H => v = none ∧ ∃ ad : Nat → Nat, mAs E m ad cA0 cF0 H) := by
  refine j_startI (own := "ScheduleAnalyzerModel") (vs := [some (.ref m)]) hls (by decide +kernel) rfl rfl rfl (Nat.le_of_ble_eq_true rfl) (fun H0 h q hq => hq ▸ h.2) ?_
  intro K H0 hP hk he hl0 hH hI hA
  refine j_P (P2 := wO K E (cWs m (fun _ => 0) (E.2.2 0) 0)) (fun H h => ?_) ?_
  · subst h
    refine ⟨fun k q hq => ?_, fun i j p q hi hj _ => ?_, fun k q hq => ?_⟩
    · cases k with
      | zero => cases hq; exact hP.1
      | succ k => exact absurd hq (by rw [show cWs m (fun _ => 0) (E.2.2 0) 0 = [(m, .inr (3, cFs (fun _ => 0) 0))] from rfl]; simp)
    · have hi := (List.getElem?_eq_some_iff.mp hi).1
      have hj := (List.getElem?_eq_some_iff.mp hj).1
      have hi : i < 1 := hi
      have hj : j < 1 := hj
      omega
    · cases k with
      | zero => cases hq; exact (hA m).mpr (Or.inl rfl)
      | succ k => exact absurd hq (by rw [show cWs m (fun _ => 0) (E.2.2 0) 0 = [(m, .inr (3, cFs (fun _ => 0) 0))] from rfl]; simp)
  refine j_ald4 hk dX4_init_0 rfl rfl ?_
  refine j_objInit hk q2613 q171 q172 ⟨by decide, by decide⟩ dX4_init_1 ?_
  refine j_ald4 hk dX4_init_4 rfl rfl ?_
  refine j_bipush (n := 88) hk rfl dX4_init_5 ?_
  refine c_arr (ty := .array .int) hE hk hI 0 (by decide) (by decide +kernel) rfl q2614 rfl rfl (by decide +kernel) (fun _ => rfl) (fun _ => rfl) dX4_init_7 dX4_init_9 ⟨by decide, by decide⟩ (fun ad0 => ?_)
  refine j_ald4 hk dX4_init_12 rfl rfl ?_
  refine j_bipush (n := 88) hk rfl dX4_init_13 ?_
  refine c_arr (ty := .array .int) hE hk hI 1 (by decide) (by decide +kernel) rfl q2615 rfl rfl (by decide +kernel) (fun _ => rfl) (fun _ => rfl) dX4_init_15 dX4_init_17 ⟨by decide, by decide⟩ (fun ad1 => ?_)
  refine j_ald4 hk dX4_init_20 rfl rfl ?_
  refine j_bipush (n := 88) hk rfl dX4_init_21 ?_
  refine c_arr (ty := .array .int) hE hk hI 2 (by decide) (by decide +kernel) rfl q2616 rfl rfl (by decide +kernel) (fun _ => rfl) (fun _ => rfl) dX4_init_23 dX4_init_25 ⟨by decide, by decide⟩ (fun ad2 => ?_)
  refine j_ald4 hk dX4_init_28 rfl rfl ?_
  refine j_sipush (n := 704) hk rfl dX4_init_29 ?_
  refine c_arr (ty := .array .int) hE hk hI 3 (by decide) (by decide +kernel) rfl q2617 rfl rfl (by decide +kernel) (fun _ => rfl) (fun _ => rfl) dX4_init_32 dX4_init_34 ⟨by decide, by decide⟩ (fun ad3 => ?_)
  refine j_ald4 hk dX4_init_37 rfl rfl ?_
  refine j_iconst (n := 0) hk dX4_init_38 ?_
  refine c_num (ty := .int) hE hk 4 (by decide) (by decide +kernel) rfl q2618 rfl rfl (by decide +kernel) rfl rfl dX4_init_39 ?_
  refine j_ald4 hk dX4_init_42 rfl rfl ?_
  refine j_iconst (n := 0) hk dX4_init_43 ?_
  refine c_num (ty := .int) hE hk 5 (by decide) (by decide +kernel) rfl q2619 rfl rfl (by decide +kernel) rfl rfl dX4_init_44 ?_
  refine j_ald4 hk dX4_init_47 rfl rfl ?_
  refine j_iconst (n := -1) hk dX4_init_48 ?_
  refine c_num (ty := .int) hE hk 6 (by decide) (by decide +kernel) rfl q2620 rfl rfl (by decide +kernel) rfl rfl dX4_init_49 ?_
  refine j_ald4 hk dX4_init_52 rfl rfl ?_
  refine j_iconst (n := 0) hk dX4_init_53 ?_
  refine c_num (ty := .boolean) hE hk 7 (by decide) (by decide +kernel) rfl q2621 rfl rfl (by decide +kernel) rfl rfl dX4_init_54 ?_
  refine j_ald4 hk dX4_init_57 rfl rfl ?_
  refine j_bipush (n := 60) hk rfl dX4_init_58 ?_
  refine c_arr (ty := .array .int) hE hk hI 8 (by decide) (by decide +kernel) rfl q2622 rfl rfl (by decide +kernel) (fun _ => rfl) (fun _ => rfl) dX4_init_60 dX4_init_62 ⟨by decide, by decide⟩ (fun ad8 => ?_)
  refine j_ald4 hk dX4_init_65 rfl rfl ?_
  refine j_iconst (n := 0) hk dX4_init_66 ?_
  refine c_num (ty := .int) hE hk 9 (by decide) (by decide +kernel) rfl q2623 rfl rfl (by decide +kernel) rfl rfl dX4_init_67 ?_
  refine j_ald4 hk dX4_init_70 rfl rfl ?_
  refine j_iconst (n := 0) hk dX4_init_71 ?_
  refine c_num (ty := .int) hE hk 10 (by decide) (by decide +kernel) rfl q2624 rfl rfl (by decide +kernel) rfl rfl dX4_init_72 ?_
  refine j_ald4 hk dX4_init_75 rfl rfl ?_
  refine j_bipush (n := 32) hk rfl dX4_init_76 ?_
  refine c_arr (ty := .array .int) hE hk hI 11 (by decide) (by decide +kernel) rfl q2625 rfl rfl (by decide +kernel) (fun _ => rfl) (fun _ => rfl) dX4_init_78 dX4_init_80 ⟨by decide, by decide⟩ (fun ad11 => ?_)
  refine j_ald4 hk dX4_init_83 rfl rfl ?_
  refine j_iconst (n := 0) hk dX4_init_84 ?_
  refine c_num (ty := .int) hE hk 12 (by decide) (by decide +kernel) rfl q2626 rfl rfl (by decide +kernel) rfl rfl dX4_init_85 ?_
  refine j_ald4 hk dX4_init_88 rfl rfl ?_
  refine j_bipush (n := 20) hk rfl dX4_init_89 ?_
  refine c_arr (ty := .array .int) hE hk hI 13 (by decide) (by decide +kernel) rfl q2627 rfl rfl (by decide +kernel) (fun _ => rfl) (fun _ => rfl) dX4_init_91 dX4_init_93 ⟨by decide, by decide⟩ (fun ad13 => ?_)
  refine j_ald4 hk dX4_init_96 rfl rfl ?_
  refine j_bipush (n := 20) hk rfl dX4_init_97 ?_
  refine c_arr (ty := .array .int) hE hk hI 14 (by decide) (by decide +kernel) rfl q2628 rfl rfl (by decide +kernel) (fun _ => rfl) (fun _ => rfl) dX4_init_99 dX4_init_101 ⟨by decide, by decide⟩ (fun ad14 => ?_)
  refine j_ald4 hk dX4_init_104 rfl rfl ?_
  refine j_bipush (n := 20) hk rfl dX4_init_105 ?_
  refine c_arr (ty := .array .int) hE hk hI 15 (by decide) (by decide +kernel) rfl q2629 rfl rfl (by decide +kernel) (fun _ => rfl) (fun _ => rfl) dX4_init_107 dX4_init_109 ⟨by decide, by decide⟩ (fun ad15 => ?_)
  refine j_ald4 hk dX4_init_112 rfl rfl ?_
  refine j_bipush (n := 6) hk rfl dX4_init_113 ?_
  refine c_arr (ty := .array .int) hE hk hI 16 (by decide) (by decide +kernel) rfl q2630 rfl rfl (by decide +kernel) (fun _ => rfl) (fun _ => rfl) dX4_init_115 dX4_init_117 ⟨by decide, by decide⟩ (fun ad16 => ?_)
  refine j_ald4 hk dX4_init_120 rfl rfl ?_
  refine j_iconst (n := 5) hk dX4_init_121 ?_
  refine c_arr (ty := .array .int) hE hk hI 17 (by decide) (by decide +kernel) rfl q2631 rfl rfl (by decide +kernel) (fun _ => rfl) (fun _ => rfl) dX4_init_122 dX4_init_124 ⟨by decide, by decide⟩ (fun ad17 => ?_)
  refine j_ald4 hk dX4_init_127 rfl rfl ?_
  refine j_bipush (n := 64) hk rfl dX4_init_128 ?_
  refine c_arr (ty := .array .int) hE hk hI 18 (by decide) (by decide +kernel) rfl q2632 rfl rfl (by decide +kernel) (fun _ => rfl) (fun _ => rfl) dX4_init_130 dX4_init_132 ⟨by decide, by decide⟩ (fun ad18 => ?_)
  refine j_ald4 hk dX4_init_135 rfl rfl ?_
  refine j_iconst (n := 0) hk dX4_init_136 ?_
  refine c_num (ty := .int) hE hk 19 (by decide) (by decide +kernel) rfl q2633 rfl rfl (by decide +kernel) rfl rfl dX4_init_137 ?_
  refine j_ald4 hk dX4_init_140 rfl rfl ?_
  refine j_iconst (n := 0) hk dX4_init_141 ?_
  refine c_num (ty := .int) hE hk 20 (by decide) (by decide +kernel) rfl q2634 rfl rfl (by decide +kernel) rfl rfl dX4_init_142 ?_
  refine j_ald4 hk dX4_init_145 rfl rfl ?_
  refine j_bipush (n := 20) hk rfl dX4_init_146 ?_
  refine c_arr (ty := .array .int) hE hk hI 21 (by decide) (by decide +kernel) rfl q2635 rfl rfl (by decide +kernel) (fun _ => rfl) (fun _ => rfl) dX4_init_148 dX4_init_150 ⟨by decide, by decide⟩ (fun ad21 => ?_)
  refine j_ald4 hk dX4_init_153 rfl rfl ?_
  refine j_iconst (n := 4) hk dX4_init_154 ?_
  refine c_arr (ty := .array .int) hE hk hI 22 (by decide) (by decide +kernel) rfl q2636 rfl rfl (by decide +kernel) (fun _ => rfl) (fun _ => rfl) dX4_init_155 dX4_init_157 ⟨by decide, by decide⟩ (fun ad22 => ?_)
  refine j_ald4 hk dX4_init_160 rfl rfl ?_
  refine j_iconst (n := 4) hk dX4_init_161 ?_
  refine c_arr (ty := .array .int) hE hk hI 23 (by decide) (by decide +kernel) rfl q2637 rfl rfl (by decide +kernel) (fun _ => rfl) (fun _ => rfl) dX4_init_162 dX4_init_164 ⟨by decide, by decide⟩ (fun ad23 => ?_)
  refine j_ald4 hk dX4_init_167 rfl rfl ?_
  refine j_bipush (n := 32) hk rfl dX4_init_168 ?_
  refine c_arr (ty := .array .int) hE hk hI 24 (by decide) (by decide +kernel) rfl q2638 rfl rfl (by decide +kernel) (fun _ => rfl) (fun _ => rfl) dX4_init_170 dX4_init_172 ⟨by decide, by decide⟩ (fun ad24 => ?_)
  refine j_ald4 hk dX4_init_175 rfl rfl ?_
  refine j_bipush (n := 6) hk rfl dX4_init_176 ?_
  refine c_arr (ty := .array .int) hE hk hI 25 (by decide) (by decide +kernel) rfl q2639 rfl rfl (by decide +kernel) (fun _ => rfl) (fun _ => rfl) dX4_init_178 dX4_init_180 ⟨by decide, by decide⟩ (fun ad25 => ?_)
  refine j_ald4 hk dX4_init_183 rfl rfl ?_
  refine j_iconst (n := 0) hk dX4_init_184 ?_
  refine c_num (ty := .int) hE hk 26 (by decide) (by decide +kernel) rfl q2640 rfl rfl (by decide +kernel) rfl rfl dX4_init_185 ?_
  refine j_ald4 hk dX4_init_188 rfl rfl ?_
  refine j_iconst (n := 0) hk dX4_init_189 ?_
  refine c_num (ty := .int) hE hk 27 (by decide) (by decide +kernel) rfl q2641 rfl rfl (by decide +kernel) rfl rfl dX4_init_190 ?_
  refine j_ald4 hk dX4_init_193 rfl rfl ?_
  refine j_iconst (n := 0) hk dX4_init_194 ?_
  refine c_num (ty := .int) hE hk 28 (by decide) (by decide +kernel) rfl q2642 rfl rfl (by decide +kernel) rfl rfl dX4_init_195 ?_
  refine j_ald4 hk dX4_init_198 rfl rfl ?_
  refine j_bipush (n := 20) hk rfl dX4_init_199 ?_
  refine c_arr (ty := .array .int) hE hk hI 29 (by decide) (by decide +kernel) rfl q2643 rfl rfl (by decide +kernel) (fun _ => rfl) (fun _ => rfl) dX4_init_201 dX4_init_203 ⟨by decide, by decide⟩ (fun ad29 => ?_)
  refine j_ald4 hk dX4_init_206 rfl rfl ?_
  refine j_bipush (n := 20) hk rfl dX4_init_207 ?_
  refine c_arr (ty := .array .int) hE hk hI 30 (by decide) (by decide +kernel) rfl q2644 rfl rfl (by decide +kernel) (fun _ => rfl) (fun _ => rfl) dX4_init_209 dX4_init_211 ⟨by decide, by decide⟩ (fun ad30 => ?_)
  refine j_ald4 hk dX4_init_214 rfl rfl ?_
  refine j_iconst (n := 5) hk dX4_init_215 ?_
  refine c_arr (ty := .array .int) hE hk hI 31 (by decide) (by decide +kernel) rfl q2645 rfl rfl (by decide +kernel) (fun _ => rfl) (fun _ => rfl) dX4_init_216 dX4_init_218 ⟨by decide, by decide⟩ (fun ad31 => ?_)
  refine j_ald4 hk dX4_init_221 rfl rfl ?_
  refine j_iconst (n := 4) hk dX4_init_222 ?_
  refine c_arr (ty := .array .int) hE hk hI 32 (by decide) (by decide +kernel) rfl q2646 rfl rfl (by decide +kernel) (fun _ => rfl) (fun _ => rfl) dX4_init_223 dX4_init_225 ⟨by decide, by decide⟩ (fun ad32 => ?_)
  refine j_ald4 hk dX4_init_228 rfl rfl ?_
  refine j_bipush (n := 6) hk rfl dX4_init_229 ?_
  refine c_arr (ty := .array .int) hE hk hI 33 (by decide) (by decide +kernel) rfl q2647 rfl rfl (by decide +kernel) (fun _ => rfl) (fun _ => rfl) dX4_init_231 dX4_init_233 ⟨by decide, by decide⟩ (fun ad33 => ?_)
  refine j_ald4 hk dX4_init_236 rfl rfl ?_
  refine j_bipush (n := 20) hk rfl dX4_init_237 ?_
  refine c_arr (ty := .array .int) hE hk hI 34 (by decide) (by decide +kernel) rfl q2648 rfl rfl (by decide +kernel) (fun _ => rfl) (fun _ => rfl) dX4_init_239 dX4_init_241 ⟨by decide, by decide⟩ (fun ad34 => ?_)
  refine j_ald4 hk dX4_init_244 rfl rfl ?_
  refine j_bipush (n := 80) hk rfl dX4_init_245 ?_
  refine c_arr (ty := .array .int) hE hk hI 35 (by decide) (by decide +kernel) rfl q2649 rfl rfl (by decide +kernel) (fun _ => rfl) (fun _ => rfl) dX4_init_247 dX4_init_249 ⟨by decide, by decide⟩ (fun ad35 => ?_)
  refine j_ald4 hk dX4_init_252 rfl rfl ?_
  refine j_iconst (n := 0) hk dX4_init_253 ?_
  refine c_num (ty := .int) hE hk 36 (by decide) (by decide +kernel) rfl q2650 rfl rfl (by decide +kernel) rfl rfl dX4_init_254 ?_
  refine j_vret hk he dX4_init_257 (by decide) (by decide) (fun H h => ⟨rfl, ad35, ?_⟩)
  rw [wO, cWs_end] at h
  refine ⟨h.1, h.2.weaken (fun i q hi hq => ?_)⟩
  obtain ⟨p, l, e, R, s, m', args, below, meth, c, A', Q⟩ := K
  exact Nat.not_lt.mp (fun z => hk.2.2.2.2.2.2.1 q.1 z hq)
