/-! J, 15: the lambdas: their sites, their classes -/
abbrev lam_S : Type := MethodName × Nat × Nat × Jvm.Lambda.Shape
def lamB (capt impl : List FieldType) (kind : Nat) (cls nm : String) : Jvm.Lambda.Shape :=
  { iface := "ScheduleAnalyzer$OperationTest", name := "holdsFor", sam := { parameters := [.object "ScheduleAnalyzer$Operation"], returnType := some .boolean }, captured := capt, kind := kind, implClass := cls, implName := nm, implDesc := { parameters := impl, returnType := some .boolean }, implItf := false, inst := { parameters := [.object "ScheduleAnalyzer$Operation"], returnType := some .boolean } }
def lamT : List lam_S := [
  (⟨"ScheduleAnalyzer$Schedule", "hasEnded", "(I)Z"⟩, 2, 49, lamB [.int] [.int, .object "ScheduleAnalyzer$Operation"] 6 "ScheduleAnalyzer$Schedule" "lambda$hasEnded$0"),
  (⟨"ScheduleAnalyzer$Schedule", "isAborted", "(I)Z"⟩, 2, 57, lamB [.int] [.int, .object "ScheduleAnalyzer$Operation"] 6 "ScheduleAnalyzer$Schedule" "lambda$isAborted$1"),
  (⟨"ScheduleAnalyzer$Schedule", "countConflicts", "()I"⟩, 39, 105, lamB [.object "ScheduleAnalyzer$Operation"] [.object "ScheduleAnalyzer$Operation", .object "ScheduleAnalyzer$Operation"] 6 "ScheduleAnalyzer$Schedule" "lambda$countConflicts$2"),
  (⟨"ScheduleAnalyzer$Schedule", "countOf", "(LScheduleAnalyzer$Schedule;CIC)I"⟩, 7, 111, lamB [.char, .int, .char] [.char, .int, .char, .object "ScheduleAnalyzer$Operation"] 6 "ScheduleAnalyzer$Schedule" "lambda$countOf$3"),
  (⟨"ScheduleAnalyzer$Schedule", "isAbortedBefore", "(II)Z"⟩, 6, 122, lamB [.int] [.int, .object "ScheduleAnalyzer$Operation"] 6 "ScheduleAnalyzer$Schedule" "lambda$isAbortedBefore$4"),
  (⟨"ScheduleAnalyzer$Schedule", "isCommittedBefore", "(II)Z"⟩, 6, 123, lamB [.int] [.int, .object "ScheduleAnalyzer$Operation"] 6 "ScheduleAnalyzer$Schedule" "lambda$isCommittedBefore$5"),
  (⟨"ScheduleAnalyzer$Schedule", "sourceOf", "(I)I"⟩, 25, 128, lamB [.object "ScheduleAnalyzer$Schedule", .char, .int] [.char, .int, .object "ScheduleAnalyzer$Operation"] 5 "ScheduleAnalyzer$Schedule" "lambda$sourceOf$6"),
  (⟨"ScheduleAnalyzer$Schedule", "commitOf", "(I)I"⟩, 9, 151, lamB [.int] [.int, .object "ScheduleAnalyzer$Operation"] 6 "ScheduleAnalyzer$Schedule" "lambda$commitOf$7"),
  (⟨"ScheduleAnalyzer$Schedule", "isEndedBefore", "(II)Z"⟩, 6, 162, lamB [.int] [.int, .object "ScheduleAnalyzer$Operation"] 6 "ScheduleAnalyzer$Schedule" "lambda$isEndedBefore$8"),
  (⟨"ScheduleAnalyzer$Schedule", "placeIn", "(LScheduleAnalyzer$Schedule;I)I"⟩, 23, 169, lamB [.int] [.int, .object "ScheduleAnalyzer$Operation"] 6 "ScheduleAnalyzer$Schedule" "lambda$placeIn$9"),
  (⟨"ScheduleAnalyzer", "isAllowed", "(LScheduleAnalyzer$Schedule;)Z"⟩, 49, 123, lamB [.int] [.int, .object "ScheduleAnalyzer$Operation"] 6 "ScheduleAnalyzer" "lambda$isAllowed$0"),
  (⟨"ScheduleAnalyzer", "stateOf", "(II)C"⟩, 31, 261, lamB [.int] [.int, .object "ScheduleAnalyzer$Operation"] 6 "ScheduleAnalyzer" "lambda$stateOf$1"),
  (⟨"ScheduleAnalyzer", "registerOf", "(II)I"⟩, 9, 331, lamB [.int] [.int, .object "ScheduleAnalyzer$Operation"] 6 "ScheduleAnalyzer" "lambda$registerOf$2"),
  (⟨"ScheduleAnalyzer", "readShare", "(I)F"⟩, 10, 352, lamB [] [.object "ScheduleAnalyzer$Operation"] 6 "ScheduleAnalyzer" "lambda$readShare$3"),
  (⟨"ScheduleAnalyzer", "readShare", "(I)F"⟩, 35, 359, lamB [] [.object "ScheduleAnalyzer$Operation"] 6 "ScheduleAnalyzer" "lambda$readShare$4"),
  (⟨"ScheduleAnalyzer$Locking", "isWaiting", "(I)Z"⟩, 5, 59, lamB [.int] [.int, .object "ScheduleAnalyzer$Operation"] 6 "ScheduleAnalyzer$Locking" "lambda$isWaiting$0"),
  (⟨"ScheduleAnalyzer$Locking", "isPreventedBy", "(LScheduleAnalyzer$Operation;I)Z"⟩, 5, 67, lamB [.int] [.int, .object "ScheduleAnalyzer$Operation"] 6 "ScheduleAnalyzer$Locking" "lambda$isPreventedBy$1"),
  (⟨"ScheduleAnalyzer$Locking", "isPreventedBy", "(LScheduleAnalyzer$Operation;I)Z"⟩, 32, 68, lamB [.int, .object "ScheduleAnalyzer$Operation"] [.int, .object "ScheduleAnalyzer$Operation", .object "ScheduleAnalyzer$Operation"] 6 "ScheduleAnalyzer$Locking" "lambda$isPreventedBy$2")]
abbrev lam_U : Type := ByteArray × Nat × Nat × List Nat
def lamU : List lam_U := [
  (⟨#[42, 180, 0, 15, 43, 184, 0, 23, 172]⟩, 23, 19, [15]),
  (⟨#[42, 180, 0, 15, 43, 184, 0, 23, 172]⟩, 23, 19, [15]),
  (⟨#[42, 180, 0, 15, 43, 184, 0, 23, 172]⟩, 23, 19, [15]),
  (⟨#[42, 180, 0, 18, 42, 180, 0, 20, 42, 180, 0, 22, 43, 184, 0, 30, 172]⟩, 30, 26, [18, 20, 22]),
  (⟨#[42, 180, 0, 15, 43, 184, 0, 23, 172]⟩, 23, 19, [15]),
  (⟨#[42, 180, 0, 15, 43, 184, 0, 23, 172]⟩, 23, 19, [15]),
  (⟨#[42, 180, 0, 19, 42, 180, 0, 21, 42, 180, 0, 23, 43, 182, 0, 31, 172]⟩, 31, 27, [19, 21, 23]),
  (⟨#[42, 180, 0, 15, 43, 184, 0, 23, 172]⟩, 23, 19, [15]),
  (⟨#[42, 180, 0, 15, 43, 184, 0, 23, 172]⟩, 23, 19, [15]),
  (⟨#[42, 180, 0, 15, 43, 184, 0, 23, 172]⟩, 23, 19, [15]),
  (⟨#[42, 180, 0, 15, 43, 184, 0, 23, 172]⟩, 23, 19, [15]),
  (⟨#[42, 180, 0, 15, 43, 184, 0, 23, 172]⟩, 23, 19, [15]),
  (⟨#[42, 180, 0, 15, 43, 184, 0, 23, 172]⟩, 23, 19, [15]),
  (⟨#[43, 184, 0, 17, 172]⟩, 17, 14, []),
  (⟨#[43, 184, 0, 17, 172]⟩, 17, 14, []),
  (⟨#[42, 180, 0, 15, 43, 184, 0, 23, 172]⟩, 23, 19, [15]),
  (⟨#[42, 180, 0, 15, 43, 184, 0, 23, 172]⟩, 23, 19, [15]),
  (⟨#[42, 180, 0, 17, 42, 180, 0, 19, 43, 184, 0, 27, 172]⟩, 27, 23, [17, 19])]
def lamS0 : lam_S := (⟨"", "", ""⟩, 0, 0, lamB [] [] 0 "" "")
def lamU0 : lam_U := (⟨#[]⟩, 0, 0, [])
def lamD (t : lam_S) : ClassFile := (t.2.2.2.file t.1.cls).getD { minorVersion := 0, majorVersion := 0, constantPool := #[], accessFlags := 0, thisClass := 0, superClass := 0, interfaces := #[], fields := #[], methods := #[], attributes := #[] }
def lamF (D : ClassFile) : Method := ((layoutMethods D).bind (fun x => x[1]?)).getD default
def lamL (D : ClassFile) : Array Field × Array FieldType × Array FieldType := (layoutFields D 0).getD (#[], #[], #[])
/-- a field's entry -/
def lamFld (D : ClassFile) (L : Array Field) (i ix : Nat) : Bool := match D.constantPool[ix]? with
  | some (.fieldref _ nt) => match D.constantPool.nameAndType? nt with
    | some (n, _) => decide (L.findIdx? (fun f => f.name == n) = some i) && decide ((L[i]?).map (fun f => (f.isStatic, f.slot)) = some (false, i))
    | none => false
  | _ => false
/-- the target's entry -/
def lamMth (D : ClassFile) (iM cM : Nat) (cls name desc : String) : Bool := match D.constantPool[iM]? with
  | some (.methodref c nt) => decide (c = cM) && decide (D.constantPool.className? cM = some cls) && decide (D.constantPool.nameAndType? nt = some (name, desc)) && (match D.constantPool[cM]? with
    | some (.class_ n) => decide (D.constantPool.string? n = some cls) && decide (cM ≠ D.thisClass)
    | _ => false)
  | _ => false
def lamDec (code : ByteArray) (n : Nat) (ixs : List Nat) (kind iM : Nat) : Bool :=
  (List.range n).all (fun j => decide (decode code (4 * j) = .ok (.aload_n 0, 1)) && decide (decode code (4 * j + 1) = .ok (.getfield (ixs.getD j 0), 3)))
  && decide (decode code (4 * n) = .ok (.aload_n 1, 1)) && decide (decode code (4 * n + 1) = .ok ((if kind = 5 then .invokevirtual iM else .invokestatic iM), 3)) && decide (decode code (4 * n + 4) = .ok (.ireturn, 1))
def lamChk (t : lam_S) (u : lam_U) : Bool :=
  (t.2.2.2.file t.1.cls).isSome && ((layoutMethods (lamD t)).bind (fun x => x[1]?)).isSome && (layoutFields (lamD t) 0).isSome
  && decide (((lamF (lamD t)).code.map fun c => (c.code.data, c.maxLocals)) = some (u.1.data, 2))
  && decide (((lamF (lamD t)).accessFlags, (lamF (lamD t)).sig.returnType) = (0x0001, some FieldType.boolean))
  && lamMth (lamD t) u.2.1 u.2.2.1 t.2.2.2.implClass t.2.2.2.implName t.2.2.2.implDesc.toString
  && (List.range u.2.2.2.length).all (fun i => lamFld (lamD t) (lamL (lamD t)).1 i (u.2.2.2.getD i 0))
  && decide ((lamL (lamD t)).2.1 = t.2.2.2.captured.toArray) && decide (u.2.2.2.length = t.2.2.2.captured.length)
  && lamDec u.1 u.2.2.2.length u.2.2.2 t.2.2.2.kind u.2.1
  && decide (t.2.2.2.implItf = false) && decide ((t.1.cls ++ "$$Lambda").toList.length ≠ 0)

theorem lamC_0 : lamChk (lamT.getD 0 lamS0) (lamU.getD 0 lamU0) = true := by decide +kernel
theorem lamC_1 : lamChk (lamT.getD 1 lamS0) (lamU.getD 1 lamU0) = true := by decide +kernel
theorem lamC_2 : lamChk (lamT.getD 2 lamS0) (lamU.getD 2 lamU0) = true := by decide +kernel
theorem lamC_3 : lamChk (lamT.getD 3 lamS0) (lamU.getD 3 lamU0) = true := by decide +kernel
theorem lamC_4 : lamChk (lamT.getD 4 lamS0) (lamU.getD 4 lamU0) = true := by decide +kernel
theorem lamC_5 : lamChk (lamT.getD 5 lamS0) (lamU.getD 5 lamU0) = true := by decide +kernel
theorem lamC_6 : lamChk (lamT.getD 6 lamS0) (lamU.getD 6 lamU0) = true := by decide +kernel
theorem lamC_7 : lamChk (lamT.getD 7 lamS0) (lamU.getD 7 lamU0) = true := by decide +kernel
theorem lamC_8 : lamChk (lamT.getD 8 lamS0) (lamU.getD 8 lamU0) = true := by decide +kernel
theorem lamC_9 : lamChk (lamT.getD 9 lamS0) (lamU.getD 9 lamU0) = true := by decide +kernel
theorem lamC_10 : lamChk (lamT.getD 10 lamS0) (lamU.getD 10 lamU0) = true := by decide +kernel
theorem lamC_11 : lamChk (lamT.getD 11 lamS0) (lamU.getD 11 lamU0) = true := by decide +kernel
theorem lamC_12 : lamChk (lamT.getD 12 lamS0) (lamU.getD 12 lamU0) = true := by decide +kernel
theorem lamC_13 : lamChk (lamT.getD 13 lamS0) (lamU.getD 13 lamU0) = true := by decide +kernel
theorem lamC_14 : lamChk (lamT.getD 14 lamS0) (lamU.getD 14 lamU0) = true := by decide +kernel
theorem lamC_15 : lamChk (lamT.getD 15 lamS0) (lamU.getD 15 lamU0) = true := by decide +kernel
theorem lamC_16 : lamChk (lamT.getD 16 lamS0) (lamU.getD 16 lamU0) = true := by decide +kernel
theorem lamC_17 : lamChk (lamT.getD 17 lamS0) (lamU.getD 17 lamU0) = true := by decide +kernel
theorem lamC : ∀ (i : Nat) (t : lam_S) (u : lam_U), lamT[i]? = some t → lamU[i]? = some u → lamChk t u = true := by
  intro i t u ht hu
  have hi : i < 18 := (List.getElem?_eq_some_iff.mp ht).1
  have e1 : lamT.getD i lamS0 = t := by rw [List.getD_eq_getElem?_getD, ht]; rfl
  have e2 : lamU.getD i lamU0 = u := by rw [List.getD_eq_getElem?_getD, hu]; rfl
  rw [← e1, ← e2]
  match i, hi with
  | 0, _ => exact lamC_0
  | 1, _ => exact lamC_1
  | 2, _ => exact lamC_2
  | 3, _ => exact lamC_3
  | 4, _ => exact lamC_4
  | 5, _ => exact lamC_5
  | 6, _ => exact lamC_6
  | 7, _ => exact lamC_7
  | 8, _ => exact lamC_8
  | 9, _ => exact lamC_9
  | 10, _ => exact lamC_10
  | 11, _ => exact lamC_11
  | 12, _ => exact lamC_12
  | 13, _ => exact lamC_13
  | 14, _ => exact lamC_14
  | 15, _ => exact lamC_15
  | 16, _ => exact lamC_16
  | 17, _ => exact lamC_17
