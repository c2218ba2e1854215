section
def lw_okq (q : MethodName × Nat) : Prop := (q.1.cls ≠ "java/lang/invoke/MethodHandle" ∧ q.1.cls ≠ "java/lang/invoke/VarHandle") ∧ Cond.instantiable q.1.cls q.2 ∈ tables_1 ∧ Cond.privateMethod q.1 ∈ tables_1 ∧ Cond.instanceMethod q.1 ∈ tables_1
theorem lw_p0 : lw_okq (⟨"PunctuatedQuery", "place", "(III)I"⟩, 14) := ⟨⟨by decide +kernel, by decide +kernel⟩, List.mem_of_getElem? (i := 4) (by decide +kernel), List.mem_of_getElem? (i := 67) (by decide +kernel), List.mem_of_getElem? (i := 68) (by decide +kernel)⟩
theorem lw_p1 : lw_okq (⟨"PunctuatedQuery", "shiftBegins", "(III)V"⟩, 14) := ⟨⟨by decide +kernel, by decide +kernel⟩, List.mem_of_getElem? (i := 4) (by decide +kernel), List.mem_of_getElem? (i := 71) (by decide +kernel), List.mem_of_getElem? (i := 72) (by decide +kernel)⟩
theorem lw_p2 : lw_okq (⟨"PunctuatedQuery", "finish", "(I)V"⟩, 14) := ⟨⟨by decide +kernel, by decide +kernel⟩, List.mem_of_getElem? (i := 4) (by decide +kernel), List.mem_of_getElem? (i := 83) (by decide +kernel), List.mem_of_getElem? (i := 84) (by decide +kernel)⟩
theorem lw_p3 : lw_okq (⟨"PunctuatedQuery", "pairsOf", "(I)I"⟩, 14) := ⟨⟨by decide +kernel, by decide +kernel⟩, List.mem_of_getElem? (i := 4) (by decide +kernel), List.mem_of_getElem? (i := 87) (by decide +kernel), List.mem_of_getElem? (i := 88) (by decide +kernel)⟩
theorem lw_p4 : lw_okq (⟨"PunctuatedQuery", "countOf", "(II)I"⟩, 14) := ⟨⟨by decide +kernel, by decide +kernel⟩, List.mem_of_getElem? (i := 4) (by decide +kernel), List.mem_of_getElem? (i := 91) (by decide +kernel), List.mem_of_getElem? (i := 92) (by decide +kernel)⟩
theorem lw_p5 : lw_okq (⟨"PunctuatedQuery", "extremes", "(I)V"⟩, 14) := ⟨⟨by decide +kernel, by decide +kernel⟩, List.mem_of_getElem? (i := 4) (by decide +kernel), List.mem_of_getElem? (i := 95) (by decide +kernel), List.mem_of_getElem? (i := 96) (by decide +kernel)⟩
theorem lw_p6 : lw_okq (⟨"PunctuatedQuery", "spread", "(I)V"⟩, 14) := ⟨⟨by decide +kernel, by decide +kernel⟩, List.mem_of_getElem? (i := 4) (by decide +kernel), List.mem_of_getElem? (i := 99) (by decide +kernel), List.mem_of_getElem? (i := 100) (by decide +kernel)⟩
theorem lw_p7 : lw_okq (⟨"PunctuatedQuery", "drop", "(II)V"⟩, 14) := ⟨⟨by decide +kernel, by decide +kernel⟩, List.mem_of_getElem? (i := 4) (by decide +kernel), List.mem_of_getElem? (i := 103) (by decide +kernel), List.mem_of_getElem? (i := 104) (by decide +kernel)⟩
theorem lw_p8 : lw_okq (⟨"PunctuatedQuery", "isResult", "(I)Z"⟩, 14) := ⟨⟨by decide +kernel, by decide +kernel⟩, List.mem_of_getElem? (i := 4) (by decide +kernel), List.mem_of_getElem? (i := 127) (by decide +kernel), List.mem_of_getElem? (i := 128) (by decide +kernel)⟩
theorem lw_p9 : lw_okq (⟨"PunctuatedQuery", "partnersFrom", "(III)I"⟩, 14) := ⟨⟨by decide +kernel, by decide +kernel⟩, List.mem_of_getElem? (i := 4) (by decide +kernel), List.mem_of_getElem? (i := 167) (by decide +kernel), List.mem_of_getElem? (i := 168) (by decide +kernel)⟩
theorem lw_p10 : lw_okq (⟨"PunctuatedQuery", "isBandFinished", "(I)Z"⟩, 14) := ⟨⟨by decide +kernel, by decide +kernel⟩, List.mem_of_getElem? (i := 4) (by decide +kernel), List.mem_of_getElem? (i := 175) (by decide +kernel), List.mem_of_getElem? (i := 176) (by decide +kernel)⟩
theorem lw_p11 : lw_okq (⟨"PunctuatedQueryModel", "badStream", "(I)Z"⟩, 14) := ⟨⟨by decide +kernel, by decide +kernel⟩, List.mem_of_getElem? (i := 185) (by decide +kernel), List.mem_of_getElem? (i := 238) (by decide +kernel), List.mem_of_getElem? (i := 239) (by decide +kernel)⟩
theorem lw_p12 : lw_okq (⟨"PunctuatedQueryModel", "badKey", "(I)Z"⟩, 14) := ⟨⟨by decide +kernel, by decide +kernel⟩, List.mem_of_getElem? (i := 185) (by decide +kernel), List.mem_of_getElem? (i := 242) (by decide +kernel), List.mem_of_getElem? (i := 243) (by decide +kernel)⟩
theorem lw_p13 : lw_okq (⟨"PunctuatedQueryModel", "takeOut", "(II)V"⟩, 14) := ⟨⟨by decide +kernel, by decide +kernel⟩, List.mem_of_getElem? (i := 185) (by decide +kernel), List.mem_of_getElem? (i := 250) (by decide +kernel), List.mem_of_getElem? (i := 251) (by decide +kernel)⟩
theorem lw_p14 : lw_okq (⟨"PunctuatedQueryModel", "finished", "(I)Z"⟩, 14) := ⟨⟨by decide +kernel, by decide +kernel⟩, List.mem_of_getElem? (i := 185) (by decide +kernel), List.mem_of_getElem? (i := 258) (by decide +kernel), List.mem_of_getElem? (i := 259) (by decide +kernel)⟩
theorem lw_p15 : lw_okq (⟨"PunctuatedQueryModel", "finish", "(I)V"⟩, 14) := ⟨⟨by decide +kernel, by decide +kernel⟩, List.mem_of_getElem? (i := 185) (by decide +kernel), List.mem_of_getElem? (i := 262) (by decide +kernel), List.mem_of_getElem? (i := 263) (by decide +kernel)⟩
def lw_privs_1 : List (MethodName × Nat) := [(⟨"PunctuatedQuery", "place", "(III)I"⟩, 14), (⟨"PunctuatedQuery", "shiftBegins", "(III)V"⟩, 14), (⟨"PunctuatedQuery", "finish", "(I)V"⟩, 14), (⟨"PunctuatedQuery", "pairsOf", "(I)I"⟩, 14), (⟨"PunctuatedQuery", "countOf", "(II)I"⟩, 14), (⟨"PunctuatedQuery", "extremes", "(I)V"⟩, 14), (⟨"PunctuatedQuery", "spread", "(I)V"⟩, 14), (⟨"PunctuatedQuery", "drop", "(II)V"⟩, 14), (⟨"PunctuatedQuery", "isResult", "(I)Z"⟩, 14), (⟨"PunctuatedQuery", "partnersFrom", "(III)I"⟩, 14), (⟨"PunctuatedQuery", "isBandFinished", "(I)Z"⟩, 14), (⟨"PunctuatedQueryModel", "badStream", "(I)Z"⟩, 14), (⟨"PunctuatedQueryModel", "badKey", "(I)Z"⟩, 14), (⟨"PunctuatedQueryModel", "takeOut", "(II)V"⟩, 14), (⟨"PunctuatedQueryModel", "finished", "(I)Z"⟩, 14), (⟨"PunctuatedQueryModel", "finish", "(I)V"⟩, 14)]
theorem lw_r1 : ∀ q ∈ lw_privs_1, lw_okq q := List.forall_mem_cons.mpr ⟨lw_p0, List.forall_mem_cons.mpr ⟨lw_p1, List.forall_mem_cons.mpr ⟨lw_p2, List.forall_mem_cons.mpr ⟨lw_p3, List.forall_mem_cons.mpr ⟨lw_p4, List.forall_mem_cons.mpr ⟨lw_p5, List.forall_mem_cons.mpr ⟨lw_p6, List.forall_mem_cons.mpr ⟨lw_p7, List.forall_mem_cons.mpr ⟨lw_p8, List.forall_mem_cons.mpr ⟨lw_p9, List.forall_mem_cons.mpr ⟨lw_p10, List.forall_mem_cons.mpr ⟨lw_p11, List.forall_mem_cons.mpr ⟨lw_p12, List.forall_mem_cons.mpr ⟨lw_p13, List.forall_mem_cons.mpr ⟨lw_p14, List.forall_mem_cons.mpr ⟨lw_p15, fun _ h => absurd h List.not_mem_nil⟩⟩⟩⟩⟩⟩⟩⟩⟩⟩⟩⟩⟩⟩⟩⟩
theorem lw_p16 : lw_okq (⟨"PunctuatedQueryModel", "look", "(I)V"⟩, 14) := ⟨⟨by decide +kernel, by decide +kernel⟩, List.mem_of_getElem? (i := 185) (by decide +kernel), List.mem_of_getElem? (i := 266) (by decide +kernel), List.mem_of_getElem? (i := 267) (by decide +kernel)⟩
theorem lw_p17 : lw_okq (⟨"PunctuatedQueryModel", "dropAll", "(II)V"⟩, 14) := ⟨⟨by decide +kernel, by decide +kernel⟩, List.mem_of_getElem? (i := 185) (by decide +kernel), List.mem_of_getElem? (i := 270) (by decide +kernel), List.mem_of_getElem? (i := 271) (by decide +kernel)⟩
theorem lw_p18 : lw_okq (⟨"PunctuatedQueryModel", "noResult", "(I)Z"⟩, 14) := ⟨⟨by decide +kernel, by decide +kernel⟩, List.mem_of_getElem? (i := 185) (by decide +kernel), List.mem_of_getElem? (i := 294) (by decide +kernel), List.mem_of_getElem? (i := 295) (by decide +kernel)⟩
theorem lw_p19 : lw_okq (⟨"PunctuatedQueryModel", "bandDone", "(I)Z"⟩, 14) := ⟨⟨by decide +kernel, by decide +kernel⟩, List.mem_of_getElem? (i := 185) (by decide +kernel), List.mem_of_getElem? (i := 338) (by decide +kernel), List.mem_of_getElem? (i := 339) (by decide +kernel)⟩
def lw_privs_2 : List (MethodName × Nat) := [(⟨"PunctuatedQueryModel", "look", "(I)V"⟩, 14), (⟨"PunctuatedQueryModel", "dropAll", "(II)V"⟩, 14), (⟨"PunctuatedQueryModel", "noResult", "(I)Z"⟩, 14), (⟨"PunctuatedQueryModel", "bandDone", "(I)Z"⟩, 14)]
theorem lw_r2 : ∀ q ∈ lw_privs_2, lw_okq q := List.forall_mem_cons.mpr ⟨lw_p16, List.forall_mem_cons.mpr ⟨lw_p17, List.forall_mem_cons.mpr ⟨lw_p18, List.forall_mem_cons.mpr ⟨lw_p19, fun _ h => absurd h List.not_mem_nil⟩⟩⟩⟩
def lw_privs : List (MethodName × Nat) := lw_privs_1 ++ (lw_privs_2)
def lw_tbl : List Cond := k2_sels lw_privs ++ tables_1
theorem lw_privs_ok : ∀ q ∈ lw_privs, lw_okq q := by
  show ∀ q ∈ lw_privs_1 ++ (lw_privs_2), lw_okq q
  exact List.forall_mem_append.mpr ⟨lw_r1, lw_r2⟩
end
section
/-- the words that every callee may be given -/
def lw_ok : List Cond := lw_tbl.filter goodWord
/-! THE CLAIM OUT OF ONE WALK OF THE LAW'S BODY. Your part is whole_start (and what it stands on); all else here is the same for every law, but numbers. -/
def R_law : String := "PunctuatedQueryLaw"
def lw_P (b : Addr) (xs : List Int32) (args : Array Value) (s : State) : Prop := args = #[.ref b] ∧ s.IntsAt b xs ∧ xs.length ≤ 2048 ∧ (Jvm.Cond.and given_1 narrow_1).before args s = true
def lw_Q (_ : Array Value) (s : State) (o : Outcome) (t : State) : Prop := o = .returned (some (.int 1)) ∧ Framed s o t [] 22 642
def lw_Z (below : List Frame) (a : Array Value) (s : State) : State → Prop := fun t => ∃ o, t.status = .running ∧ Ended t below o ∧ lw_Q a s o t
/-- the law's own end, with 1 on the stack, nothing written that was there before, its room as the claim has it -/
theorem lw_ret {p : Program} {l : Launch} {e : Env} {s : State} {m : MethodId} {below : List Frame} {meth : Method} {c : Code} {b : Nat} (hx : p.tables.exec = Jvm.exec) (hb : c.code = code) (hr : meth.sig.returnType = ret) (hlocks : meth.locks = false) {pc : Nat} {H : Heap} {ls : Array Slot} (hdg : decode code pc = .ok (.ireturn, 1)) : W p l e room_1 s m #[Value.ref b] below meth c H [] 22 642 (lw_Z below #[Value.ref b] s) (F0 m pc ls [.int 1]) := by
  intro T hT X
  obtain ⟨fs, hret, hrun, hended, hW, hframe⟩ := X.leave (v := some (.int 1)) (hlocks := hlocks) (fun h => by rw [hr] at h; cases h)
  have hmeth' : T.vm.method? m = some meth := X.method'
  refine ⟨T.setFrames fs, ?_, .returned (some (.int 1)), hrun, hended, rfl, ⟨_, rfl⟩, hW, hframe⟩
  jvm_step X.here [X.here.top, hx, hb, hdg, hmeth', hr, ret, narrow_b1]
  (try refine ⟨rfl, ?_⟩); (try refine ⟨rfl, ?_⟩)
  first | (intro acts; rw [hret _ acts rfl rfl rfl]) | rw [hret _ _ rfl rfl rfl]
  exact Steps.refl _
/-- what holds at the law's entry: the machine, the code, the tables' words (any of lw_tbl by 'hts w (by decide +kernel)'), the script of L ints xs at the cell b, what the Statement gives of the start (any of its parts by flat_of_before) -/
def lw_At (p : Program) (s : State) (m : MethodId) (meth : Method) (c : Code) (b L : Nat) (xs : Nat → Int32) : Prop :=
  p.tables.exec = Jvm.exec ∧ c.code = code ∧ meth.sig.returnType = ret ∧ c.maxLocals = 4 ∧ s.vm.findClass R_law = some m.cls ∧ (∀ w ∈ lw_tbl, w.before #[Value.ref b] s = true) ∧ va_X b L xs s s.heap ∧ b < s.heap.size ∧ meth.locks = false ∧ (Jvm.Cond.and given_1 narrow_1).before #[Value.ref b] s = true
def R_X : String := "PunctuatedQuery"
def F_X : u_T := fun k => match k with
  | 0 => ("PunctuatedQuery", "keys", "[I", true)
  | 1 => ("PunctuatedQuery", "values", "[I", true)
  | 2 => ("PunctuatedQuery", "sizes", "[I", true)
  | 3 => ("PunctuatedQuery", "begin", "[I", true)
  | 4 => ("PunctuatedQuery", "sums", "[I", true)
  | 5 => ("PunctuatedQuery", "shut", "[Z", true)
  | 6 => ("PunctuatedQuery", "outKey", "[I", true)
  | 7 => ("PunctuatedQuery", "outPairs", "[I", true)
  | 8 => ("PunctuatedQuery", "outSum", "[I", true)
  | 9 => ("PunctuatedQuery", "outLeast", "[I", true)
  | 10 => ("PunctuatedQuery", "outGreatest", "[I", true)
  | 11 => ("PunctuatedQuery", "outputs", "I", false)
  | 12 => ("PunctuatedQuery", "low", "I", false)
  | _ => ("PunctuatedQuery", "high", "I", false)
def t_X : Nat → FieldType := fun k => match k with
  | 0 => .array .int
  | 1 => .array .int
  | 2 => .array .int
  | 3 => .array .int
  | 4 => .array .int
  | 5 => .array .boolean
  | 6 => .array .int
  | 7 => .array .int
  | 8 => .array .int
  | 9 => .array .int
  | 10 => .array .int
  | 11 => .int
  | 12 => .int
  | _ => .int
abbrev w_X : List Cond := u_ws R_X F_X 14
def R_M : String := "PunctuatedQueryModel"
def F_M : u_T := fun k => match k with
  | 0 => ("PunctuatedQueryModel", "count", "[I", false)
  | 1 => ("PunctuatedQueryModel", "key", "[I", false)
  | 2 => ("PunctuatedQueryModel", "value", "[I", false)
  | 3 => ("PunctuatedQueryModel", "shut", "[Z", false)
  | 4 => ("PunctuatedQueryModel", "results", "I", false)
  | 5 => ("PunctuatedQueryModel", "resultKey", "[I", false)
  | 6 => ("PunctuatedQueryModel", "resultPairs", "[I", false)
  | 7 => ("PunctuatedQueryModel", "resultSum", "[I", false)
  | 8 => ("PunctuatedQueryModel", "resultLeast", "[I", false)
  | 9 => ("PunctuatedQueryModel", "resultGreatest", "[I", false)
  | 10 => ("PunctuatedQueryModel", "pairs", "I", false)
  | 11 => ("PunctuatedQueryModel", "sum", "I", false)
  | 12 => ("PunctuatedQueryModel", "least", "I", false)
  | _ => ("PunctuatedQueryModel", "greatest", "I", false)
def t_M : Nat → FieldType := fun k => match k with
  | 0 => .array .int
  | 1 => .array .int
  | 2 => .array .int
  | 3 => .array .boolean
  | 4 => .int
  | 5 => .array .int
  | 6 => .array .int
  | 7 => .array .int
  | 8 => .array .int
  | 9 => .array .int
  | 10 => .int
  | 11 => .int
  | 12 => .int
  | _ => .int
abbrev w_M : List Cond := u_ws R_M F_M 14
abbrev bX_init : ByteArray := prog_1_method_1_code
def yX_init : MethodName := ⟨R_X, "<init>", "()V"⟩
def wX_init : List Cond := .code yX_init bX_init 1 none :: lw_ok
abbrev bX_feed : ByteArray := prog_1_method_2_code
def yX_feed : MethodName := ⟨R_X, "feed", "(III)I"⟩
def wX_feed : List Cond := .code yX_feed bX_feed 7 (some .int) :: lw_ok
abbrev bX_isStream : ByteArray := prog_1_method_21_code
def yX_isStream : MethodName := ⟨R_X, "isStream", "(I)Z"⟩
def wX_isStream : List Cond := .code yX_isStream bX_isStream 1 (some .boolean) :: lw_ok
abbrev bX_isKey : ByteArray := prog_1_method_22_code
def yX_isKey : MethodName := ⟨R_X, "isKey", "(I)Z"⟩
def wX_isKey : List Cond := .code yX_isKey bX_isKey 1 (some .boolean) :: lw_ok
abbrev bX_place : ByteArray := prog_1_method_27_code
def yX_place : MethodName := ⟨R_X, "place", "(III)I"⟩
def wX_place : List Cond := .code yX_place bX_place 8 (some .int) :: lw_ok
abbrev bX_shiftBegins : ByteArray := prog_1_method_26_code
def yX_shiftBegins : MethodName := ⟨R_X, "shiftBegins", "(III)V"⟩
def wX_shiftBegins : List Cond := .code yX_shiftBegins bX_shiftBegins 5 none :: lw_ok
abbrev bX_retract : ByteArray := prog_1_method_3_code
def yX_retract : MethodName := ⟨R_X, "retract", "(III)I"⟩
def wX_retract : List Cond := .code yX_retract bX_retract 7 (some .int) :: lw_ok
abbrev bX_close : ByteArray := prog_1_method_4_code
def yX_close : MethodName := ⟨R_X, "close", "(III)I"⟩
def wX_close : List Cond := .code yX_close bX_close 6 (some .int) :: lw_ok
abbrev bX_finish : ByteArray := prog_1_method_32_code
def yX_finish : MethodName := ⟨R_X, "finish", "(I)V"⟩
def wX_finish : List Cond := .code yX_finish bX_finish 3 none :: lw_ok
abbrev bX_pairsOf : ByteArray := prog_1_method_25_code
def yX_pairsOf : MethodName := ⟨R_X, "pairsOf", "(I)I"⟩
def wX_pairsOf : List Cond := .code yX_pairsOf bX_pairsOf 2 (some .int) :: lw_ok
abbrev bX_countOf : ByteArray := prog_1_method_24_code
def yX_countOf : MethodName := ⟨R_X, "countOf", "(II)I"⟩
def wX_countOf : List Cond := .code yX_countOf bX_countOf 3 (some .int) :: lw_ok
abbrev bX_extremes : ByteArray := prog_1_method_28_code
def yX_extremes : MethodName := ⟨R_X, "extremes", "(I)V"⟩
def wX_extremes : List Cond := .code yX_extremes bX_extremes 6 none :: lw_ok
abbrev bX_spread : ByteArray := prog_1_method_29_code
def yX_spread : MethodName := ⟨R_X, "spread", "(I)V"⟩
def wX_spread : List Cond := .code yX_spread bX_spread 2 none :: lw_ok
abbrev bX_drop : ByteArray := prog_1_method_33_code
def yX_drop : MethodName := ⟨R_X, "drop", "(II)V"⟩
def wX_drop : List Cond := .code yX_drop bX_drop 7 none :: lw_ok
abbrev bX_held : ByteArray := prog_1_method_5_code
def yX_held : MethodName := ⟨R_X, "held", "(I)I"⟩
def wX_held : List Cond := .code yX_held bX_held 2 (some .int) :: lw_ok
abbrev bX_heldWith : ByteArray := prog_1_method_6_code
def yX_heldWith : MethodName := ⟨R_X, "heldWith", "(II)I"⟩
def wX_heldWith : List Cond := .code yX_heldWith bX_heldWith 3 (some .int) :: lw_ok
abbrev bX_closed : ByteArray := prog_1_method_7_code
def yX_closed : MethodName := ⟨R_X, "closed", "(II)I"⟩
def wX_closed : List Cond := .code yX_closed bX_closed 3 (some .int) :: lw_ok
abbrev bX_results : ByteArray := prog_1_method_8_code
def yX_results : MethodName := ⟨R_X, "results", "()I"⟩
def wX_results : List Cond := .code yX_results bX_results 1 (some .int) :: lw_ok
abbrev bX_resultKey : ByteArray := prog_1_method_9_code
def yX_resultKey : MethodName := ⟨R_X, "resultKey", "(I)I"⟩
def wX_resultKey : List Cond := .code yX_resultKey bX_resultKey 2 (some .int) :: lw_ok
abbrev bX_isResult : ByteArray := prog_1_method_23_code
def yX_isResult : MethodName := ⟨R_X, "isResult", "(I)Z"⟩
def wX_isResult : List Cond := .code yX_isResult bX_isResult 2 (some .boolean) :: lw_ok
abbrev bX_resultPairs : ByteArray := prog_1_method_10_code
def yX_resultPairs : MethodName := ⟨R_X, "resultPairs", "(I)I"⟩
def wX_resultPairs : List Cond := .code yX_resultPairs bX_resultPairs 2 (some .int) :: lw_ok
abbrev bX_resultSum : ByteArray := prog_1_method_11_code
def yX_resultSum : MethodName := ⟨R_X, "resultSum", "(I)I"⟩
def wX_resultSum : List Cond := .code yX_resultSum bX_resultSum 2 (some .int) :: lw_ok
abbrev bX_resultLeast : ByteArray := prog_1_method_12_code
def yX_resultLeast : MethodName := ⟨R_X, "resultLeast", "(I)I"⟩
def wX_resultLeast : List Cond := .code yX_resultLeast bX_resultLeast 2 (some .int) :: lw_ok
abbrev bX_resultGreatest : ByteArray := prog_1_method_13_code
def yX_resultGreatest : MethodName := ⟨R_X, "resultGreatest", "(I)I"⟩
def wX_resultGreatest : List Cond := .code yX_resultGreatest bX_resultGreatest 2 (some .int) :: lw_ok
abbrev bX_pairs : ByteArray := prog_1_method_14_code
def yX_pairs : MethodName := ⟨R_X, "pairs", "(I)I"⟩
def wX_pairs : List Cond := .code yX_pairs bX_pairs 2 (some .int) :: lw_ok
abbrev bX_sum : ByteArray := prog_1_method_15_code
def yX_sum : MethodName := ⟨R_X, "sum", "(I)I"⟩
def wX_sum : List Cond := .code yX_sum bX_sum 2 (some .int) :: lw_ok
abbrev bX_least : ByteArray := prog_1_method_16_code
def yX_least : MethodName := ⟨R_X, "least", "(I)I"⟩
def wX_least : List Cond := .code yX_least bX_least 2 (some .int) :: lw_ok
abbrev bX_greatest : ByteArray := prog_1_method_17_code
def yX_greatest : MethodName := ⟨R_X, "greatest", "(I)I"⟩
def wX_greatest : List Cond := .code yX_greatest bX_greatest 2 (some .int) :: lw_ok
abbrev bX_pairsFrom : ByteArray := prog_1_method_18_code
def yX_pairsFrom : MethodName := ⟨R_X, "pairsFrom", "(I)I"⟩
def wX_pairsFrom : List Cond := .code yX_pairsFrom bX_pairsFrom 4 (some .int) :: lw_ok
abbrev bX_partnersFrom : ByteArray := prog_1_method_30_code
def yX_partnersFrom : MethodName := ⟨R_X, "partnersFrom", "(III)I"⟩
def wX_partnersFrom : List Cond := .code yX_partnersFrom bX_partnersFrom 10 (some .int) :: lw_ok
abbrev bX_bandsFinished : ByteArray := prog_1_method_19_code
def yX_bandsFinished : MethodName := ⟨R_X, "bandsFinished", "()I"⟩
def wX_bandsFinished : List Cond := .code yX_bandsFinished bX_bandsFinished 3 (some .int) :: lw_ok
abbrev bX_isBandFinished : ByteArray := prog_1_method_31_code
def yX_isBandFinished : MethodName := ⟨R_X, "isBandFinished", "(I)Z"⟩
def wX_isBandFinished : List Cond := .code yX_isBandFinished bX_isBandFinished 3 (some .boolean) :: lw_ok
abbrev bX_bandSum : ByteArray := prog_1_method_20_code
def yX_bandSum : MethodName := ⟨R_X, "bandSum", "(I)I"⟩
def wX_bandSum : List Cond := .code yX_bandSum bX_bandSum 4 (some .int) :: lw_ok
abbrev bM_init : ByteArray := prog_3_method_1_code
def yM_init : MethodName := ⟨R_M, "<init>", "()V"⟩
def wM_init : List Cond := .code yM_init bM_init 1 none :: lw_ok
abbrev bM_feed : ByteArray := prog_3_method_4_code
def yM_feed : MethodName := ⟨R_M, "feed", "(III)I"⟩
def wM_feed : List Cond := .code yM_feed bM_feed 5 (some .int) :: lw_ok
abbrev bM_badStream : ByteArray := prog_3_method_2_code
def yM_badStream : MethodName := ⟨R_M, "badStream", "(I)Z"⟩
def wM_badStream : List Cond := .code yM_badStream bM_badStream 2 (some .boolean) :: lw_ok
abbrev bM_badKey : ByteArray := prog_3_method_3_code
def yM_badKey : MethodName := ⟨R_M, "badKey", "(I)Z"⟩
def wM_badKey : List Cond := .code yM_badKey bM_badKey 2 (some .boolean) :: lw_ok
abbrev bM_retract : ByteArray := prog_3_method_6_code
def yM_retract : MethodName := ⟨R_M, "retract", "(III)I"⟩
def wM_retract : List Cond := .code yM_retract bM_retract 5 (some .int) :: lw_ok
abbrev bM_takeOut : ByteArray := prog_3_method_5_code
def yM_takeOut : MethodName := ⟨R_M, "takeOut", "(II)V"⟩
def wM_takeOut : List Cond := .code yM_takeOut bM_takeOut 4 none :: lw_ok
abbrev bM_close : ByteArray := prog_3_method_11_code
def yM_close : MethodName := ⟨R_M, "close", "(III)I"⟩
def wM_close : List Cond := .code yM_close bM_close 7 (some .int) :: lw_ok
abbrev bM_finished : ByteArray := prog_3_method_10_code
def yM_finished : MethodName := ⟨R_M, "finished", "(I)Z"⟩
def wM_finished : List Cond := .code yM_finished bM_finished 2 (some .boolean) :: lw_ok
abbrev bM_finish : ByteArray := prog_3_method_9_code
def yM_finish : MethodName := ⟨R_M, "finish", "(I)V"⟩
def wM_finish : List Cond := .code yM_finish bM_finish 2 none :: lw_ok
abbrev bM_look : ByteArray := prog_3_method_7_code
def yM_look : MethodName := ⟨R_M, "look", "(I)V"⟩
def wM_look : List Cond := .code yM_look bM_look 5 none :: lw_ok
abbrev bM_dropAll : ByteArray := prog_3_method_8_code
def yM_dropAll : MethodName := ⟨R_M, "dropAll", "(II)V"⟩
def wM_dropAll : List Cond := .code yM_dropAll bM_dropAll 4 none :: lw_ok
abbrev bM_held : ByteArray := prog_3_method_12_code
def yM_held : MethodName := ⟨R_M, "held", "(I)I"⟩
def wM_held : List Cond := .code yM_held bM_held 2 (some .int) :: lw_ok
abbrev bM_heldWith : ByteArray := prog_3_method_13_code
def yM_heldWith : MethodName := ⟨R_M, "heldWith", "(II)I"⟩
def wM_heldWith : List Cond := .code yM_heldWith bM_heldWith 5 (some .int) :: lw_ok
abbrev bM_closed : ByteArray := prog_3_method_14_code
def yM_closed : MethodName := ⟨R_M, "closed", "(II)I"⟩
def wM_closed : List Cond := .code yM_closed bM_closed 3 (some .int) :: lw_ok
abbrev bM_results : ByteArray := prog_3_method_16_code
def yM_results : MethodName := ⟨R_M, "results", "()I"⟩
def wM_results : List Cond := .code yM_results bM_results 1 (some .int) :: lw_ok
abbrev bM_resultKey : ByteArray := prog_3_method_17_code
def yM_resultKey : MethodName := ⟨R_M, "resultKey", "(I)I"⟩
def wM_resultKey : List Cond := .code yM_resultKey bM_resultKey 2 (some .int) :: lw_ok
abbrev bM_noResult : ByteArray := prog_3_method_15_code
def yM_noResult : MethodName := ⟨R_M, "noResult", "(I)Z"⟩
def wM_noResult : List Cond := .code yM_noResult bM_noResult 2 (some .boolean) :: lw_ok
abbrev bM_resultPairs : ByteArray := prog_3_method_18_code
def yM_resultPairs : MethodName := ⟨R_M, "resultPairs", "(I)I"⟩
def wM_resultPairs : List Cond := .code yM_resultPairs bM_resultPairs 2 (some .int) :: lw_ok
abbrev bM_resultSum : ByteArray := prog_3_method_19_code
def yM_resultSum : MethodName := ⟨R_M, "resultSum", "(I)I"⟩
def wM_resultSum : List Cond := .code yM_resultSum bM_resultSum 2 (some .int) :: lw_ok
abbrev bM_resultLeast : ByteArray := prog_3_method_20_code
def yM_resultLeast : MethodName := ⟨R_M, "resultLeast", "(I)I"⟩
def wM_resultLeast : List Cond := .code yM_resultLeast bM_resultLeast 2 (some .int) :: lw_ok
abbrev bM_resultGreatest : ByteArray := prog_3_method_21_code
def yM_resultGreatest : MethodName := ⟨R_M, "resultGreatest", "(I)I"⟩
def wM_resultGreatest : List Cond := .code yM_resultGreatest bM_resultGreatest 2 (some .int) :: lw_ok
abbrev bM_pairs : ByteArray := prog_3_method_22_code
def yM_pairs : MethodName := ⟨R_M, "pairs", "(I)I"⟩
def wM_pairs : List Cond := .code yM_pairs bM_pairs 2 (some .int) :: lw_ok
abbrev bM_sum : ByteArray := prog_3_method_23_code
def yM_sum : MethodName := ⟨R_M, "sum", "(I)I"⟩
def wM_sum : List Cond := .code yM_sum bM_sum 2 (some .int) :: lw_ok
abbrev bM_least : ByteArray := prog_3_method_24_code
def yM_least : MethodName := ⟨R_M, "least", "(I)I"⟩
def wM_least : List Cond := .code yM_least bM_least 2 (some .int) :: lw_ok
abbrev bM_greatest : ByteArray := prog_3_method_25_code
def yM_greatest : MethodName := ⟨R_M, "greatest", "(I)I"⟩
def wM_greatest : List Cond := .code yM_greatest bM_greatest 2 (some .int) :: lw_ok
abbrev bM_pairsFrom : ByteArray := prog_3_method_26_code
def yM_pairsFrom : MethodName := ⟨R_M, "pairsFrom", "(I)I"⟩
def wM_pairsFrom : List Cond := .code yM_pairsFrom bM_pairsFrom 5 (some .int) :: lw_ok
abbrev bM_bandsFinished : ByteArray := prog_3_method_28_code
def yM_bandsFinished : MethodName := ⟨R_M, "bandsFinished", "()I"⟩
def wM_bandsFinished : List Cond := .code yM_bandsFinished bM_bandsFinished 3 (some .int) :: lw_ok
abbrev bM_bandDone : ByteArray := prog_3_method_27_code
def yM_bandDone : MethodName := ⟨R_M, "bandDone", "(I)Z"⟩
def wM_bandDone : List Cond := .code yM_bandDone bM_bandDone 3 (some .boolean) :: lw_ok
abbrev bM_bandSum : ByteArray := prog_3_method_29_code
def yM_bandSum : MethodName := ⟨R_M, "bandSum", "(I)I"⟩
def wM_bandSum : List Cond := .code yM_bandSum bM_bandSum 4 (some .int) :: lw_ok
abbrev classes : List vw_C := [(R_X, F_X, 14), (R_M, F_M, 14)]
theorem n_X : ∀ a, a < 14 → ∀ b, b < 14 → a ≠ b → (F_X a).2.1 ≠ (F_X b).2.1 := by decide +kernel
theorem t_X_ok : ∀ k, k < 14 → parseFieldDescriptor (F_X k).2.2.1 = some (t_X k) := by decide +kernel
theorem i_X : ∀ w ∈ w_X, w ∈ lw_ok := by decide +kernel
theorem n_M : ∀ a, a < 14 → ∀ b, b < 14 → a ≠ b → (F_M a).2.1 ≠ (F_M b).2.1 := by decide +kernel
theorem t_M_ok : ∀ k, k < 14 → parseFieldDescriptor (F_M k).2.2.1 = some (t_M k) := by decide +kernel
theorem i_M : ∀ w ∈ w_M, w ∈ lw_ok := by decide +kernel
theorem k_in_L : Cond.initialized R_law ∈ lw_ok := List.mem_filter.mpr ⟨List.mem_of_getElem? (i := 20) rfl, rfl⟩
theorem k_in_X : Cond.initialized R_X ∈ lw_ok := List.mem_filter.mpr ⟨List.mem_of_getElem? (i := 21) rfl, rfl⟩
theorem k_in_M : Cond.initialized R_M ∈ lw_ok := List.mem_filter.mpr ⟨List.mem_of_getElem? (i := 22) rfl, rfl⟩
theorem k_cl_L_7 : Cond.classLink R_law 7 R_X ∈ lw_ok := List.mem_filter.mpr ⟨List.mem_of_getElem? (i := 23) rfl, rfl⟩
theorem k_ib_X : Cond.instantiable R_X 14 ∈ lw_ok := List.mem_filter.mpr ⟨List.mem_of_getElem? (i := 24) rfl, rfl⟩
theorem k_ml_L_9 : Cond.methodLink R_law 9 yX_init ∈ lw_ok := List.mem_filter.mpr ⟨List.mem_of_getElem? (i := 25) rfl, rfl⟩
theorem k_im_yX_init : Cond.instanceMethod yX_init ∈ lw_ok := List.mem_filter.mpr ⟨List.mem_of_getElem? (i := 26) rfl, rfl⟩
theorem k_co_yX_init : Cond.code yX_init bX_init 1 none ∈ lw_ok := List.mem_filter.mpr ⟨List.mem_of_getElem? (i := 27) rfl, rfl⟩
theorem k_ml_X_1 : Cond.methodLink R_X 1 objectInit ∈ lw_ok := List.mem_filter.mpr ⟨List.mem_of_getElem? (i := 28) rfl, rfl⟩
theorem k_im_objectInit : Cond.instanceMethod objectInit ∈ lw_ok := List.mem_filter.mpr ⟨List.mem_of_getElem? (i := 29) rfl, rfl⟩
theorem k_co_objectInit : Cond.code objectInit object_method_1_code 1 none ∈ lw_ok := List.mem_filter.mpr ⟨List.mem_of_getElem? (i := 30) rfl, rfl⟩
theorem k_fl_X_7 : Cond.fieldLink R_X 7 R_X "keys" "[I" ∈ lw_ok := List.mem_filter.mpr ⟨List.mem_of_getElem? (i := 31) rfl, rfl⟩
theorem k_fl_X_13 : Cond.fieldLink R_X 13 R_X "values" "[I" ∈ lw_ok := List.mem_filter.mpr ⟨List.mem_of_getElem? (i := 32) rfl, rfl⟩
theorem k_fl_X_16 : Cond.fieldLink R_X 16 R_X "sizes" "[I" ∈ lw_ok := List.mem_filter.mpr ⟨List.mem_of_getElem? (i := 33) rfl, rfl⟩
theorem k_fl_X_19 : Cond.fieldLink R_X 19 R_X "begin" "[I" ∈ lw_ok := List.mem_filter.mpr ⟨List.mem_of_getElem? (i := 34) rfl, rfl⟩
theorem k_fl_X_22 : Cond.fieldLink R_X 22 R_X "sums" "[I" ∈ lw_ok := List.mem_filter.mpr ⟨List.mem_of_getElem? (i := 35) rfl, rfl⟩
theorem k_fl_X_25 : Cond.fieldLink R_X 25 R_X "shut" "[Z" ∈ lw_ok := List.mem_filter.mpr ⟨List.mem_of_getElem? (i := 36) rfl, rfl⟩
theorem k_fl_X_29 : Cond.fieldLink R_X 29 R_X "outKey" "[I" ∈ lw_ok := List.mem_filter.mpr ⟨List.mem_of_getElem? (i := 37) rfl, rfl⟩
theorem k_fl_X_32 : Cond.fieldLink R_X 32 R_X "outPairs" "[I" ∈ lw_ok := List.mem_filter.mpr ⟨List.mem_of_getElem? (i := 38) rfl, rfl⟩
theorem k_fl_X_35 : Cond.fieldLink R_X 35 R_X "outSum" "[I" ∈ lw_ok := List.mem_filter.mpr ⟨List.mem_of_getElem? (i := 39) rfl, rfl⟩
theorem k_fl_X_38 : Cond.fieldLink R_X 38 R_X "outLeast" "[I" ∈ lw_ok := List.mem_filter.mpr ⟨List.mem_of_getElem? (i := 40) rfl, rfl⟩
theorem k_fl_X_41 : Cond.fieldLink R_X 41 R_X "outGreatest" "[I" ∈ lw_ok := List.mem_filter.mpr ⟨List.mem_of_getElem? (i := 41) rfl, rfl⟩
theorem k_fl_X_44 : Cond.fieldLink R_X 44 R_X "outputs" "I" ∈ lw_ok := List.mem_filter.mpr ⟨List.mem_of_getElem? (i := 42) rfl, rfl⟩
theorem k_fl_X_81 : Cond.fieldLink R_X 81 R_X "low" "I" ∈ lw_ok := List.mem_filter.mpr ⟨List.mem_of_getElem? (i := 43) rfl, rfl⟩
theorem k_fl_X_84 : Cond.fieldLink R_X 84 R_X "high" "I" ∈ lw_ok := List.mem_filter.mpr ⟨List.mem_of_getElem? (i := 44) rfl, rfl⟩
theorem k_ar_int : Cond.arrayClass .int ∈ lw_ok := List.mem_filter.mpr ⟨List.mem_of_getElem? (i := 74) rfl, rfl⟩
theorem k_ar_boolean : Cond.arrayClass .boolean ∈ lw_ok := List.mem_filter.mpr ⟨List.mem_of_getElem? (i := 75) rfl, rfl⟩
theorem k_ml_L_13 : Cond.methodLink R_law 13 yX_feed ∈ lw_ok := List.mem_filter.mpr ⟨List.mem_of_getElem? (i := 76) rfl, rfl⟩
theorem k_im_yX_feed : Cond.instanceMethod yX_feed ∈ lw_ok := List.mem_filter.mpr ⟨List.mem_of_getElem? (i := 77) rfl, rfl⟩
theorem k_se_yX_feed : Cond.selects R_X yX_feed yX_feed ∈ lw_ok := List.mem_filter.mpr ⟨List.mem_of_getElem? (i := 78) rfl, rfl⟩
theorem k_co_yX_feed : Cond.code yX_feed bX_feed 7 (some .int) ∈ lw_ok := List.mem_filter.mpr ⟨List.mem_of_getElem? (i := 79) rfl, rfl⟩
theorem k_ml_X_48 : Cond.methodLink R_X 48 yX_isStream ∈ lw_ok := List.mem_filter.mpr ⟨List.mem_of_getElem? (i := 80) rfl, rfl⟩
theorem k_st_yX_isStream : Cond.static yX_isStream ∈ lw_ok := List.mem_filter.mpr ⟨List.mem_of_getElem? (i := 81) rfl, rfl⟩
theorem k_co_yX_isStream : Cond.code yX_isStream bX_isStream 1 (some .boolean) ∈ lw_ok := List.mem_filter.mpr ⟨List.mem_of_getElem? (i := 82) rfl, rfl⟩
theorem k_ml_X_52 : Cond.methodLink R_X 52 yX_isKey ∈ lw_ok := List.mem_filter.mpr ⟨List.mem_of_getElem? (i := 83) rfl, rfl⟩
theorem k_st_yX_isKey : Cond.static yX_isKey ∈ lw_ok := List.mem_filter.mpr ⟨List.mem_of_getElem? (i := 84) rfl, rfl⟩
theorem k_co_yX_isKey : Cond.code yX_isKey bX_isKey 1 (some .boolean) ∈ lw_ok := List.mem_filter.mpr ⟨List.mem_of_getElem? (i := 85) rfl, rfl⟩
theorem k_ml_X_55 : Cond.methodLink R_X 55 yX_place ∈ lw_ok := List.mem_filter.mpr ⟨List.mem_of_getElem? (i := 86) rfl, rfl⟩
theorem k_im_yX_place : Cond.instanceMethod yX_place ∈ lw_ok := List.mem_filter.mpr ⟨List.mem_of_getElem? (i := 88) rfl, rfl⟩
theorem k_co_yX_place : Cond.code yX_place bX_place 8 (some .int) ∈ lw_ok := List.mem_filter.mpr ⟨List.mem_of_getElem? (i := 89) rfl, rfl⟩
theorem k_ml_X_59 : Cond.methodLink R_X 59 yX_shiftBegins ∈ lw_ok := List.mem_filter.mpr ⟨List.mem_of_getElem? (i := 90) rfl, rfl⟩
theorem k_im_yX_shiftBegins : Cond.instanceMethod yX_shiftBegins ∈ lw_ok := List.mem_filter.mpr ⟨List.mem_of_getElem? (i := 92) rfl, rfl⟩
theorem k_co_yX_shiftBegins : Cond.code yX_shiftBegins bX_shiftBegins 5 none ∈ lw_ok := List.mem_filter.mpr ⟨List.mem_of_getElem? (i := 93) rfl, rfl⟩
theorem k_ml_L_18 : Cond.methodLink R_law 18 yX_retract ∈ lw_ok := List.mem_filter.mpr ⟨List.mem_of_getElem? (i := 94) rfl, rfl⟩
theorem k_im_yX_retract : Cond.instanceMethod yX_retract ∈ lw_ok := List.mem_filter.mpr ⟨List.mem_of_getElem? (i := 95) rfl, rfl⟩
theorem k_se_yX_retract : Cond.selects R_X yX_retract yX_retract ∈ lw_ok := List.mem_filter.mpr ⟨List.mem_of_getElem? (i := 96) rfl, rfl⟩
theorem k_co_yX_retract : Cond.code yX_retract bX_retract 7 (some .int) ∈ lw_ok := List.mem_filter.mpr ⟨List.mem_of_getElem? (i := 97) rfl, rfl⟩
theorem k_ml_L_22 : Cond.methodLink R_law 22 yX_close ∈ lw_ok := List.mem_filter.mpr ⟨List.mem_of_getElem? (i := 98) rfl, rfl⟩
theorem k_im_yX_close : Cond.instanceMethod yX_close ∈ lw_ok := List.mem_filter.mpr ⟨List.mem_of_getElem? (i := 99) rfl, rfl⟩
theorem k_se_yX_close : Cond.selects R_X yX_close yX_close ∈ lw_ok := List.mem_filter.mpr ⟨List.mem_of_getElem? (i := 100) rfl, rfl⟩
theorem k_co_yX_close : Cond.code yX_close bX_close 6 (some .int) ∈ lw_ok := List.mem_filter.mpr ⟨List.mem_of_getElem? (i := 101) rfl, rfl⟩
theorem k_ml_X_63 : Cond.methodLink R_X 63 yX_finish ∈ lw_ok := List.mem_filter.mpr ⟨List.mem_of_getElem? (i := 102) rfl, rfl⟩
theorem k_im_yX_finish : Cond.instanceMethod yX_finish ∈ lw_ok := List.mem_filter.mpr ⟨List.mem_of_getElem? (i := 104) rfl, rfl⟩
theorem k_co_yX_finish : Cond.code yX_finish bX_finish 3 none ∈ lw_ok := List.mem_filter.mpr ⟨List.mem_of_getElem? (i := 105) rfl, rfl⟩
theorem k_ml_X_74 : Cond.methodLink R_X 74 yX_pairsOf ∈ lw_ok := List.mem_filter.mpr ⟨List.mem_of_getElem? (i := 106) rfl, rfl⟩
theorem k_im_yX_pairsOf : Cond.instanceMethod yX_pairsOf ∈ lw_ok := List.mem_filter.mpr ⟨List.mem_of_getElem? (i := 108) rfl, rfl⟩
theorem k_co_yX_pairsOf : Cond.code yX_pairsOf bX_pairsOf 2 (some .int) ∈ lw_ok := List.mem_filter.mpr ⟨List.mem_of_getElem? (i := 109) rfl, rfl⟩
theorem k_ml_X_67 : Cond.methodLink R_X 67 yX_countOf ∈ lw_ok := List.mem_filter.mpr ⟨List.mem_of_getElem? (i := 110) rfl, rfl⟩
theorem k_im_yX_countOf : Cond.instanceMethod yX_countOf ∈ lw_ok := List.mem_filter.mpr ⟨List.mem_of_getElem? (i := 112) rfl, rfl⟩
theorem k_co_yX_countOf : Cond.code yX_countOf bX_countOf 3 (some .int) ∈ lw_ok := List.mem_filter.mpr ⟨List.mem_of_getElem? (i := 113) rfl, rfl⟩
theorem k_ml_X_78 : Cond.methodLink R_X 78 yX_extremes ∈ lw_ok := List.mem_filter.mpr ⟨List.mem_of_getElem? (i := 114) rfl, rfl⟩
theorem k_im_yX_extremes : Cond.instanceMethod yX_extremes ∈ lw_ok := List.mem_filter.mpr ⟨List.mem_of_getElem? (i := 116) rfl, rfl⟩
theorem k_co_yX_extremes : Cond.code yX_extremes bX_extremes 6 none ∈ lw_ok := List.mem_filter.mpr ⟨List.mem_of_getElem? (i := 117) rfl, rfl⟩
theorem k_ml_X_95 : Cond.methodLink R_X 95 yX_spread ∈ lw_ok := List.mem_filter.mpr ⟨List.mem_of_getElem? (i := 118) rfl, rfl⟩
theorem k_im_yX_spread : Cond.instanceMethod yX_spread ∈ lw_ok := List.mem_filter.mpr ⟨List.mem_of_getElem? (i := 120) rfl, rfl⟩
theorem k_co_yX_spread : Cond.code yX_spread bX_spread 2 none ∈ lw_ok := List.mem_filter.mpr ⟨List.mem_of_getElem? (i := 121) rfl, rfl⟩
theorem k_ml_X_98 : Cond.methodLink R_X 98 yX_drop ∈ lw_ok := List.mem_filter.mpr ⟨List.mem_of_getElem? (i := 122) rfl, rfl⟩
theorem k_im_yX_drop : Cond.instanceMethod yX_drop ∈ lw_ok := List.mem_filter.mpr ⟨List.mem_of_getElem? (i := 124) rfl, rfl⟩
theorem k_co_yX_drop : Cond.code yX_drop bX_drop 7 none ∈ lw_ok := List.mem_filter.mpr ⟨List.mem_of_getElem? (i := 125) rfl, rfl⟩
theorem k_ml_L_26 : Cond.methodLink R_law 26 yX_held ∈ lw_ok := List.mem_filter.mpr ⟨List.mem_of_getElem? (i := 126) rfl, rfl⟩
theorem k_im_yX_held : Cond.instanceMethod yX_held ∈ lw_ok := List.mem_filter.mpr ⟨List.mem_of_getElem? (i := 127) rfl, rfl⟩
theorem k_se_yX_held : Cond.selects R_X yX_held yX_held ∈ lw_ok := List.mem_filter.mpr ⟨List.mem_of_getElem? (i := 128) rfl, rfl⟩
theorem k_co_yX_held : Cond.code yX_held bX_held 2 (some .int) ∈ lw_ok := List.mem_filter.mpr ⟨List.mem_of_getElem? (i := 129) rfl, rfl⟩
theorem k_ml_L_31 : Cond.methodLink R_law 31 yX_heldWith ∈ lw_ok := List.mem_filter.mpr ⟨List.mem_of_getElem? (i := 130) rfl, rfl⟩
theorem k_im_yX_heldWith : Cond.instanceMethod yX_heldWith ∈ lw_ok := List.mem_filter.mpr ⟨List.mem_of_getElem? (i := 131) rfl, rfl⟩
theorem k_se_yX_heldWith : Cond.selects R_X yX_heldWith yX_heldWith ∈ lw_ok := List.mem_filter.mpr ⟨List.mem_of_getElem? (i := 132) rfl, rfl⟩
theorem k_co_yX_heldWith : Cond.code yX_heldWith bX_heldWith 3 (some .int) ∈ lw_ok := List.mem_filter.mpr ⟨List.mem_of_getElem? (i := 133) rfl, rfl⟩
theorem k_ml_L_36 : Cond.methodLink R_law 36 yX_closed ∈ lw_ok := List.mem_filter.mpr ⟨List.mem_of_getElem? (i := 134) rfl, rfl⟩
theorem k_im_yX_closed : Cond.instanceMethod yX_closed ∈ lw_ok := List.mem_filter.mpr ⟨List.mem_of_getElem? (i := 135) rfl, rfl⟩
theorem k_se_yX_closed : Cond.selects R_X yX_closed yX_closed ∈ lw_ok := List.mem_filter.mpr ⟨List.mem_of_getElem? (i := 136) rfl, rfl⟩
theorem k_co_yX_closed : Cond.code yX_closed bX_closed 3 (some .int) ∈ lw_ok := List.mem_filter.mpr ⟨List.mem_of_getElem? (i := 137) rfl, rfl⟩
theorem k_ml_L_40 : Cond.methodLink R_law 40 yX_results ∈ lw_ok := List.mem_filter.mpr ⟨List.mem_of_getElem? (i := 138) rfl, rfl⟩
theorem k_im_yX_results : Cond.instanceMethod yX_results ∈ lw_ok := List.mem_filter.mpr ⟨List.mem_of_getElem? (i := 139) rfl, rfl⟩
theorem k_se_yX_results : Cond.selects R_X yX_results yX_results ∈ lw_ok := List.mem_filter.mpr ⟨List.mem_of_getElem? (i := 140) rfl, rfl⟩
theorem k_co_yX_results : Cond.code yX_results bX_results 1 (some .int) ∈ lw_ok := List.mem_filter.mpr ⟨List.mem_of_getElem? (i := 141) rfl, rfl⟩
theorem k_ml_L_45 : Cond.methodLink R_law 45 yX_resultKey ∈ lw_ok := List.mem_filter.mpr ⟨List.mem_of_getElem? (i := 142) rfl, rfl⟩
theorem k_im_yX_resultKey : Cond.instanceMethod yX_resultKey ∈ lw_ok := List.mem_filter.mpr ⟨List.mem_of_getElem? (i := 143) rfl, rfl⟩
theorem k_se_yX_resultKey : Cond.selects R_X yX_resultKey yX_resultKey ∈ lw_ok := List.mem_filter.mpr ⟨List.mem_of_getElem? (i := 144) rfl, rfl⟩
theorem k_co_yX_resultKey : Cond.code yX_resultKey bX_resultKey 2 (some .int) ∈ lw_ok := List.mem_filter.mpr ⟨List.mem_of_getElem? (i := 145) rfl, rfl⟩
theorem k_ml_X_71 : Cond.methodLink R_X 71 yX_isResult ∈ lw_ok := List.mem_filter.mpr ⟨List.mem_of_getElem? (i := 146) rfl, rfl⟩
theorem k_im_yX_isResult : Cond.instanceMethod yX_isResult ∈ lw_ok := List.mem_filter.mpr ⟨List.mem_of_getElem? (i := 148) rfl, rfl⟩
theorem k_co_yX_isResult : Cond.code yX_isResult bX_isResult 2 (some .boolean) ∈ lw_ok := List.mem_filter.mpr ⟨List.mem_of_getElem? (i := 149) rfl, rfl⟩
theorem k_ml_L_49 : Cond.methodLink R_law 49 yX_resultPairs ∈ lw_ok := List.mem_filter.mpr ⟨List.mem_of_getElem? (i := 150) rfl, rfl⟩
theorem k_im_yX_resultPairs : Cond.instanceMethod yX_resultPairs ∈ lw_ok := List.mem_filter.mpr ⟨List.mem_of_getElem? (i := 151) rfl, rfl⟩
theorem k_se_yX_resultPairs : Cond.selects R_X yX_resultPairs yX_resultPairs ∈ lw_ok := List.mem_filter.mpr ⟨List.mem_of_getElem? (i := 152) rfl, rfl⟩
theorem k_co_yX_resultPairs : Cond.code yX_resultPairs bX_resultPairs 2 (some .int) ∈ lw_ok := List.mem_filter.mpr ⟨List.mem_of_getElem? (i := 153) rfl, rfl⟩
theorem k_ml_L_53 : Cond.methodLink R_law 53 yX_resultSum ∈ lw_ok := List.mem_filter.mpr ⟨List.mem_of_getElem? (i := 154) rfl, rfl⟩
theorem k_im_yX_resultSum : Cond.instanceMethod yX_resultSum ∈ lw_ok := List.mem_filter.mpr ⟨List.mem_of_getElem? (i := 155) rfl, rfl⟩
theorem k_se_yX_resultSum : Cond.selects R_X yX_resultSum yX_resultSum ∈ lw_ok := List.mem_filter.mpr ⟨List.mem_of_getElem? (i := 156) rfl, rfl⟩
theorem k_co_yX_resultSum : Cond.code yX_resultSum bX_resultSum 2 (some .int) ∈ lw_ok := List.mem_filter.mpr ⟨List.mem_of_getElem? (i := 157) rfl, rfl⟩
theorem k_ml_L_57 : Cond.methodLink R_law 57 yX_resultLeast ∈ lw_ok := List.mem_filter.mpr ⟨List.mem_of_getElem? (i := 158) rfl, rfl⟩
theorem k_im_yX_resultLeast : Cond.instanceMethod yX_resultLeast ∈ lw_ok := List.mem_filter.mpr ⟨List.mem_of_getElem? (i := 159) rfl, rfl⟩
theorem k_se_yX_resultLeast : Cond.selects R_X yX_resultLeast yX_resultLeast ∈ lw_ok := List.mem_filter.mpr ⟨List.mem_of_getElem? (i := 160) rfl, rfl⟩
theorem k_co_yX_resultLeast : Cond.code yX_resultLeast bX_resultLeast 2 (some .int) ∈ lw_ok := List.mem_filter.mpr ⟨List.mem_of_getElem? (i := 161) rfl, rfl⟩
theorem k_ml_L_61 : Cond.methodLink R_law 61 yX_resultGreatest ∈ lw_ok := List.mem_filter.mpr ⟨List.mem_of_getElem? (i := 162) rfl, rfl⟩
theorem k_im_yX_resultGreatest : Cond.instanceMethod yX_resultGreatest ∈ lw_ok := List.mem_filter.mpr ⟨List.mem_of_getElem? (i := 163) rfl, rfl⟩
theorem k_se_yX_resultGreatest : Cond.selects R_X yX_resultGreatest yX_resultGreatest ∈ lw_ok := List.mem_filter.mpr ⟨List.mem_of_getElem? (i := 164) rfl, rfl⟩
theorem k_co_yX_resultGreatest : Cond.code yX_resultGreatest bX_resultGreatest 2 (some .int) ∈ lw_ok := List.mem_filter.mpr ⟨List.mem_of_getElem? (i := 165) rfl, rfl⟩
theorem k_ml_L_65 : Cond.methodLink R_law 65 yX_pairs ∈ lw_ok := List.mem_filter.mpr ⟨List.mem_of_getElem? (i := 166) rfl, rfl⟩
theorem k_im_yX_pairs : Cond.instanceMethod yX_pairs ∈ lw_ok := List.mem_filter.mpr ⟨List.mem_of_getElem? (i := 167) rfl, rfl⟩
theorem k_se_yX_pairs : Cond.selects R_X yX_pairs yX_pairs ∈ lw_ok := List.mem_filter.mpr ⟨List.mem_of_getElem? (i := 168) rfl, rfl⟩
theorem k_co_yX_pairs : Cond.code yX_pairs bX_pairs 2 (some .int) ∈ lw_ok := List.mem_filter.mpr ⟨List.mem_of_getElem? (i := 169) rfl, rfl⟩
theorem k_ml_L_69 : Cond.methodLink R_law 69 yX_sum ∈ lw_ok := List.mem_filter.mpr ⟨List.mem_of_getElem? (i := 170) rfl, rfl⟩
theorem k_im_yX_sum : Cond.instanceMethod yX_sum ∈ lw_ok := List.mem_filter.mpr ⟨List.mem_of_getElem? (i := 171) rfl, rfl⟩
theorem k_se_yX_sum : Cond.selects R_X yX_sum yX_sum ∈ lw_ok := List.mem_filter.mpr ⟨List.mem_of_getElem? (i := 172) rfl, rfl⟩
theorem k_co_yX_sum : Cond.code yX_sum bX_sum 2 (some .int) ∈ lw_ok := List.mem_filter.mpr ⟨List.mem_of_getElem? (i := 173) rfl, rfl⟩
theorem k_ml_L_73 : Cond.methodLink R_law 73 yX_least ∈ lw_ok := List.mem_filter.mpr ⟨List.mem_of_getElem? (i := 174) rfl, rfl⟩
theorem k_im_yX_least : Cond.instanceMethod yX_least ∈ lw_ok := List.mem_filter.mpr ⟨List.mem_of_getElem? (i := 175) rfl, rfl⟩
theorem k_se_yX_least : Cond.selects R_X yX_least yX_least ∈ lw_ok := List.mem_filter.mpr ⟨List.mem_of_getElem? (i := 176) rfl, rfl⟩
theorem k_co_yX_least : Cond.code yX_least bX_least 2 (some .int) ∈ lw_ok := List.mem_filter.mpr ⟨List.mem_of_getElem? (i := 177) rfl, rfl⟩
theorem k_ml_L_77 : Cond.methodLink R_law 77 yX_greatest ∈ lw_ok := List.mem_filter.mpr ⟨List.mem_of_getElem? (i := 178) rfl, rfl⟩
theorem k_im_yX_greatest : Cond.instanceMethod yX_greatest ∈ lw_ok := List.mem_filter.mpr ⟨List.mem_of_getElem? (i := 179) rfl, rfl⟩
theorem k_se_yX_greatest : Cond.selects R_X yX_greatest yX_greatest ∈ lw_ok := List.mem_filter.mpr ⟨List.mem_of_getElem? (i := 180) rfl, rfl⟩
theorem k_co_yX_greatest : Cond.code yX_greatest bX_greatest 2 (some .int) ∈ lw_ok := List.mem_filter.mpr ⟨List.mem_of_getElem? (i := 181) rfl, rfl⟩
theorem k_ml_L_81 : Cond.methodLink R_law 81 yX_pairsFrom ∈ lw_ok := List.mem_filter.mpr ⟨List.mem_of_getElem? (i := 182) rfl, rfl⟩
theorem k_im_yX_pairsFrom : Cond.instanceMethod yX_pairsFrom ∈ lw_ok := List.mem_filter.mpr ⟨List.mem_of_getElem? (i := 183) rfl, rfl⟩
theorem k_se_yX_pairsFrom : Cond.selects R_X yX_pairsFrom yX_pairsFrom ∈ lw_ok := List.mem_filter.mpr ⟨List.mem_of_getElem? (i := 184) rfl, rfl⟩
theorem k_co_yX_pairsFrom : Cond.code yX_pairsFrom bX_pairsFrom 4 (some .int) ∈ lw_ok := List.mem_filter.mpr ⟨List.mem_of_getElem? (i := 185) rfl, rfl⟩
theorem k_ml_X_87 : Cond.methodLink R_X 87 yX_partnersFrom ∈ lw_ok := List.mem_filter.mpr ⟨List.mem_of_getElem? (i := 186) rfl, rfl⟩
theorem k_im_yX_partnersFrom : Cond.instanceMethod yX_partnersFrom ∈ lw_ok := List.mem_filter.mpr ⟨List.mem_of_getElem? (i := 188) rfl, rfl⟩
theorem k_co_yX_partnersFrom : Cond.code yX_partnersFrom bX_partnersFrom 10 (some .int) ∈ lw_ok := List.mem_filter.mpr ⟨List.mem_of_getElem? (i := 189) rfl, rfl⟩
theorem k_ml_L_85 : Cond.methodLink R_law 85 yX_bandsFinished ∈ lw_ok := List.mem_filter.mpr ⟨List.mem_of_getElem? (i := 190) rfl, rfl⟩
theorem k_im_yX_bandsFinished : Cond.instanceMethod yX_bandsFinished ∈ lw_ok := List.mem_filter.mpr ⟨List.mem_of_getElem? (i := 191) rfl, rfl⟩
theorem k_se_yX_bandsFinished : Cond.selects R_X yX_bandsFinished yX_bandsFinished ∈ lw_ok := List.mem_filter.mpr ⟨List.mem_of_getElem? (i := 192) rfl, rfl⟩
theorem k_co_yX_bandsFinished : Cond.code yX_bandsFinished bX_bandsFinished 3 (some .int) ∈ lw_ok := List.mem_filter.mpr ⟨List.mem_of_getElem? (i := 193) rfl, rfl⟩
theorem k_ml_X_90 : Cond.methodLink R_X 90 yX_isBandFinished ∈ lw_ok := List.mem_filter.mpr ⟨List.mem_of_getElem? (i := 194) rfl, rfl⟩
theorem k_im_yX_isBandFinished : Cond.instanceMethod yX_isBandFinished ∈ lw_ok := List.mem_filter.mpr ⟨List.mem_of_getElem? (i := 196) rfl, rfl⟩
theorem k_co_yX_isBandFinished : Cond.code yX_isBandFinished bX_isBandFinished 3 (some .boolean) ∈ lw_ok := List.mem_filter.mpr ⟨List.mem_of_getElem? (i := 197) rfl, rfl⟩
theorem k_ml_L_89 : Cond.methodLink R_law 89 yX_bandSum ∈ lw_ok := List.mem_filter.mpr ⟨List.mem_of_getElem? (i := 198) rfl, rfl⟩
theorem k_im_yX_bandSum : Cond.instanceMethod yX_bandSum ∈ lw_ok := List.mem_filter.mpr ⟨List.mem_of_getElem? (i := 199) rfl, rfl⟩
theorem k_se_yX_bandSum : Cond.selects R_X yX_bandSum yX_bandSum ∈ lw_ok := List.mem_filter.mpr ⟨List.mem_of_getElem? (i := 200) rfl, rfl⟩
theorem k_co_yX_bandSum : Cond.code yX_bandSum bX_bandSum 4 (some .int) ∈ lw_ok := List.mem_filter.mpr ⟨List.mem_of_getElem? (i := 201) rfl, rfl⟩
theorem k_cn_X_93 : Cond.constant R_X 93 (-1000000) ∈ lw_ok := List.mem_filter.mpr ⟨List.mem_of_getElem? (i := 202) rfl, rfl⟩
theorem k_cn_X_94 : Cond.constant R_X 94 (-2000000) ∈ lw_ok := List.mem_filter.mpr ⟨List.mem_of_getElem? (i := 203) rfl, rfl⟩
theorem k_cl_L_10 : Cond.classLink R_law 10 R_M ∈ lw_ok := List.mem_filter.mpr ⟨List.mem_of_getElem? (i := 204) rfl, rfl⟩
theorem k_ib_M : Cond.instantiable R_M 14 ∈ lw_ok := List.mem_filter.mpr ⟨List.mem_of_getElem? (i := 205) rfl, rfl⟩
theorem k_ml_L_12 : Cond.methodLink R_law 12 yM_init ∈ lw_ok := List.mem_filter.mpr ⟨List.mem_of_getElem? (i := 206) rfl, rfl⟩
theorem k_im_yM_init : Cond.instanceMethod yM_init ∈ lw_ok := List.mem_filter.mpr ⟨List.mem_of_getElem? (i := 207) rfl, rfl⟩
theorem k_co_yM_init : Cond.code yM_init bM_init 1 none ∈ lw_ok := List.mem_filter.mpr ⟨List.mem_of_getElem? (i := 208) rfl, rfl⟩
theorem k_ml_M_1 : Cond.methodLink R_M 1 objectInit ∈ lw_ok := List.mem_filter.mpr ⟨List.mem_of_getElem? (i := 209) rfl, rfl⟩
theorem k_fl_M_7 : Cond.fieldLink R_M 7 R_M "count" "[I" ∈ lw_ok := List.mem_filter.mpr ⟨List.mem_of_getElem? (i := 210) rfl, rfl⟩
theorem k_fl_M_13 : Cond.fieldLink R_M 13 R_M "key" "[I" ∈ lw_ok := List.mem_filter.mpr ⟨List.mem_of_getElem? (i := 211) rfl, rfl⟩
theorem k_fl_M_16 : Cond.fieldLink R_M 16 R_M "value" "[I" ∈ lw_ok := List.mem_filter.mpr ⟨List.mem_of_getElem? (i := 212) rfl, rfl⟩
theorem k_fl_M_19 : Cond.fieldLink R_M 19 R_M "shut" "[Z" ∈ lw_ok := List.mem_filter.mpr ⟨List.mem_of_getElem? (i := 213) rfl, rfl⟩
theorem k_fl_M_66 : Cond.fieldLink R_M 66 R_M "results" "I" ∈ lw_ok := List.mem_filter.mpr ⟨List.mem_of_getElem? (i := 214) rfl, rfl⟩
theorem k_fl_M_23 : Cond.fieldLink R_M 23 R_M "resultKey" "[I" ∈ lw_ok := List.mem_filter.mpr ⟨List.mem_of_getElem? (i := 215) rfl, rfl⟩
theorem k_fl_M_26 : Cond.fieldLink R_M 26 R_M "resultPairs" "[I" ∈ lw_ok := List.mem_filter.mpr ⟨List.mem_of_getElem? (i := 216) rfl, rfl⟩
theorem k_fl_M_29 : Cond.fieldLink R_M 29 R_M "resultSum" "[I" ∈ lw_ok := List.mem_filter.mpr ⟨List.mem_of_getElem? (i := 217) rfl, rfl⟩
theorem k_fl_M_32 : Cond.fieldLink R_M 32 R_M "resultLeast" "[I" ∈ lw_ok := List.mem_filter.mpr ⟨List.mem_of_getElem? (i := 218) rfl, rfl⟩
theorem k_fl_M_35 : Cond.fieldLink R_M 35 R_M "resultGreatest" "[I" ∈ lw_ok := List.mem_filter.mpr ⟨List.mem_of_getElem? (i := 219) rfl, rfl⟩
theorem k_fl_M_49 : Cond.fieldLink R_M 49 R_M "pairs" "I" ∈ lw_ok := List.mem_filter.mpr ⟨List.mem_of_getElem? (i := 220) rfl, rfl⟩
theorem k_fl_M_53 : Cond.fieldLink R_M 53 R_M "sum" "I" ∈ lw_ok := List.mem_filter.mpr ⟨List.mem_of_getElem? (i := 221) rfl, rfl⟩
theorem k_fl_M_56 : Cond.fieldLink R_M 56 R_M "least" "I" ∈ lw_ok := List.mem_filter.mpr ⟨List.mem_of_getElem? (i := 222) rfl, rfl⟩
theorem k_fl_M_59 : Cond.fieldLink R_M 59 R_M "greatest" "I" ∈ lw_ok := List.mem_filter.mpr ⟨List.mem_of_getElem? (i := 223) rfl, rfl⟩
theorem k_ml_L_17 : Cond.methodLink R_law 17 yM_feed ∈ lw_ok := List.mem_filter.mpr ⟨List.mem_of_getElem? (i := 253) rfl, rfl⟩
theorem k_im_yM_feed : Cond.instanceMethod yM_feed ∈ lw_ok := List.mem_filter.mpr ⟨List.mem_of_getElem? (i := 254) rfl, rfl⟩
theorem k_se_yM_feed : Cond.selects R_M yM_feed yM_feed ∈ lw_ok := List.mem_filter.mpr ⟨List.mem_of_getElem? (i := 255) rfl, rfl⟩
theorem k_co_yM_feed : Cond.code yM_feed bM_feed 5 (some .int) ∈ lw_ok := List.mem_filter.mpr ⟨List.mem_of_getElem? (i := 256) rfl, rfl⟩
theorem k_ml_M_38 : Cond.methodLink R_M 38 yM_badStream ∈ lw_ok := List.mem_filter.mpr ⟨List.mem_of_getElem? (i := 257) rfl, rfl⟩
theorem k_im_yM_badStream : Cond.instanceMethod yM_badStream ∈ lw_ok := List.mem_filter.mpr ⟨List.mem_of_getElem? (i := 259) rfl, rfl⟩
theorem k_co_yM_badStream : Cond.code yM_badStream bM_badStream 2 (some .boolean) ∈ lw_ok := List.mem_filter.mpr ⟨List.mem_of_getElem? (i := 260) rfl, rfl⟩
theorem k_ml_M_42 : Cond.methodLink R_M 42 yM_badKey ∈ lw_ok := List.mem_filter.mpr ⟨List.mem_of_getElem? (i := 261) rfl, rfl⟩
theorem k_im_yM_badKey : Cond.instanceMethod yM_badKey ∈ lw_ok := List.mem_filter.mpr ⟨List.mem_of_getElem? (i := 263) rfl, rfl⟩
theorem k_co_yM_badKey : Cond.code yM_badKey bM_badKey 2 (some .boolean) ∈ lw_ok := List.mem_filter.mpr ⟨List.mem_of_getElem? (i := 264) rfl, rfl⟩
theorem k_ml_L_21 : Cond.methodLink R_law 21 yM_retract ∈ lw_ok := List.mem_filter.mpr ⟨List.mem_of_getElem? (i := 265) rfl, rfl⟩
theorem k_im_yM_retract : Cond.instanceMethod yM_retract ∈ lw_ok := List.mem_filter.mpr ⟨List.mem_of_getElem? (i := 266) rfl, rfl⟩
theorem k_se_yM_retract : Cond.selects R_M yM_retract yM_retract ∈ lw_ok := List.mem_filter.mpr ⟨List.mem_of_getElem? (i := 267) rfl, rfl⟩
theorem k_co_yM_retract : Cond.code yM_retract bM_retract 5 (some .int) ∈ lw_ok := List.mem_filter.mpr ⟨List.mem_of_getElem? (i := 268) rfl, rfl⟩
theorem k_ml_M_45 : Cond.methodLink R_M 45 yM_takeOut ∈ lw_ok := List.mem_filter.mpr ⟨List.mem_of_getElem? (i := 269) rfl, rfl⟩
theorem k_im_yM_takeOut : Cond.instanceMethod yM_takeOut ∈ lw_ok := List.mem_filter.mpr ⟨List.mem_of_getElem? (i := 271) rfl, rfl⟩
theorem k_co_yM_takeOut : Cond.code yM_takeOut bM_takeOut 4 none ∈ lw_ok := List.mem_filter.mpr ⟨List.mem_of_getElem? (i := 272) rfl, rfl⟩
theorem k_ml_L_25 : Cond.methodLink R_law 25 yM_close ∈ lw_ok := List.mem_filter.mpr ⟨List.mem_of_getElem? (i := 273) rfl, rfl⟩
theorem k_im_yM_close : Cond.instanceMethod yM_close ∈ lw_ok := List.mem_filter.mpr ⟨List.mem_of_getElem? (i := 274) rfl, rfl⟩
theorem k_se_yM_close : Cond.selects R_M yM_close yM_close ∈ lw_ok := List.mem_filter.mpr ⟨List.mem_of_getElem? (i := 275) rfl, rfl⟩
theorem k_co_yM_close : Cond.code yM_close bM_close 7 (some .int) ∈ lw_ok := List.mem_filter.mpr ⟨List.mem_of_getElem? (i := 276) rfl, rfl⟩
theorem k_ml_M_72 : Cond.methodLink R_M 72 yM_finished ∈ lw_ok := List.mem_filter.mpr ⟨List.mem_of_getElem? (i := 277) rfl, rfl⟩
theorem k_im_yM_finished : Cond.instanceMethod yM_finished ∈ lw_ok := List.mem_filter.mpr ⟨List.mem_of_getElem? (i := 279) rfl, rfl⟩
theorem k_co_yM_finished : Cond.code yM_finished bM_finished 2 (some .boolean) ∈ lw_ok := List.mem_filter.mpr ⟨List.mem_of_getElem? (i := 280) rfl, rfl⟩
theorem k_ml_M_75 : Cond.methodLink R_M 75 yM_finish ∈ lw_ok := List.mem_filter.mpr ⟨List.mem_of_getElem? (i := 281) rfl, rfl⟩
theorem k_im_yM_finish : Cond.instanceMethod yM_finish ∈ lw_ok := List.mem_filter.mpr ⟨List.mem_of_getElem? (i := 283) rfl, rfl⟩
theorem k_co_yM_finish : Cond.code yM_finish bM_finish 2 none ∈ lw_ok := List.mem_filter.mpr ⟨List.mem_of_getElem? (i := 284) rfl, rfl⟩
theorem k_ml_M_62 : Cond.methodLink R_M 62 yM_look ∈ lw_ok := List.mem_filter.mpr ⟨List.mem_of_getElem? (i := 285) rfl, rfl⟩
theorem k_im_yM_look : Cond.instanceMethod yM_look ∈ lw_ok := List.mem_filter.mpr ⟨List.mem_of_getElem? (i := 287) rfl, rfl⟩
theorem k_co_yM_look : Cond.code yM_look bM_look 5 none ∈ lw_ok := List.mem_filter.mpr ⟨List.mem_of_getElem? (i := 288) rfl, rfl⟩
theorem k_ml_M_69 : Cond.methodLink R_M 69 yM_dropAll ∈ lw_ok := List.mem_filter.mpr ⟨List.mem_of_getElem? (i := 289) rfl, rfl⟩
theorem k_im_yM_dropAll : Cond.instanceMethod yM_dropAll ∈ lw_ok := List.mem_filter.mpr ⟨List.mem_of_getElem? (i := 291) rfl, rfl⟩
theorem k_co_yM_dropAll : Cond.code yM_dropAll bM_dropAll 4 none ∈ lw_ok := List.mem_filter.mpr ⟨List.mem_of_getElem? (i := 292) rfl, rfl⟩
theorem k_ml_L_30 : Cond.methodLink R_law 30 yM_held ∈ lw_ok := List.mem_filter.mpr ⟨List.mem_of_getElem? (i := 293) rfl, rfl⟩
theorem k_im_yM_held : Cond.instanceMethod yM_held ∈ lw_ok := List.mem_filter.mpr ⟨List.mem_of_getElem? (i := 294) rfl, rfl⟩
theorem k_se_yM_held : Cond.selects R_M yM_held yM_held ∈ lw_ok := List.mem_filter.mpr ⟨List.mem_of_getElem? (i := 295) rfl, rfl⟩
theorem k_co_yM_held : Cond.code yM_held bM_held 2 (some .int) ∈ lw_ok := List.mem_filter.mpr ⟨List.mem_of_getElem? (i := 296) rfl, rfl⟩
theorem k_ml_L_35 : Cond.methodLink R_law 35 yM_heldWith ∈ lw_ok := List.mem_filter.mpr ⟨List.mem_of_getElem? (i := 297) rfl, rfl⟩
theorem k_im_yM_heldWith : Cond.instanceMethod yM_heldWith ∈ lw_ok := List.mem_filter.mpr ⟨List.mem_of_getElem? (i := 298) rfl, rfl⟩
theorem k_se_yM_heldWith : Cond.selects R_M yM_heldWith yM_heldWith ∈ lw_ok := List.mem_filter.mpr ⟨List.mem_of_getElem? (i := 299) rfl, rfl⟩
theorem k_co_yM_heldWith : Cond.code yM_heldWith bM_heldWith 5 (some .int) ∈ lw_ok := List.mem_filter.mpr ⟨List.mem_of_getElem? (i := 300) rfl, rfl⟩
theorem k_ml_L_39 : Cond.methodLink R_law 39 yM_closed ∈ lw_ok := List.mem_filter.mpr ⟨List.mem_of_getElem? (i := 301) rfl, rfl⟩
theorem k_im_yM_closed : Cond.instanceMethod yM_closed ∈ lw_ok := List.mem_filter.mpr ⟨List.mem_of_getElem? (i := 302) rfl, rfl⟩
theorem k_se_yM_closed : Cond.selects R_M yM_closed yM_closed ∈ lw_ok := List.mem_filter.mpr ⟨List.mem_of_getElem? (i := 303) rfl, rfl⟩
theorem k_co_yM_closed : Cond.code yM_closed bM_closed 3 (some .int) ∈ lw_ok := List.mem_filter.mpr ⟨List.mem_of_getElem? (i := 304) rfl, rfl⟩
theorem k_ml_L_44 : Cond.methodLink R_law 44 yM_results ∈ lw_ok := List.mem_filter.mpr ⟨List.mem_of_getElem? (i := 305) rfl, rfl⟩
theorem k_im_yM_results : Cond.instanceMethod yM_results ∈ lw_ok := List.mem_filter.mpr ⟨List.mem_of_getElem? (i := 306) rfl, rfl⟩
theorem k_se_yM_results : Cond.selects R_M yM_results yM_results ∈ lw_ok := List.mem_filter.mpr ⟨List.mem_of_getElem? (i := 307) rfl, rfl⟩
theorem k_co_yM_results : Cond.code yM_results bM_results 1 (some .int) ∈ lw_ok := List.mem_filter.mpr ⟨List.mem_of_getElem? (i := 308) rfl, rfl⟩
theorem k_ml_L_48 : Cond.methodLink R_law 48 yM_resultKey ∈ lw_ok := List.mem_filter.mpr ⟨List.mem_of_getElem? (i := 309) rfl, rfl⟩
theorem k_im_yM_resultKey : Cond.instanceMethod yM_resultKey ∈ lw_ok := List.mem_filter.mpr ⟨List.mem_of_getElem? (i := 310) rfl, rfl⟩
theorem k_se_yM_resultKey : Cond.selects R_M yM_resultKey yM_resultKey ∈ lw_ok := List.mem_filter.mpr ⟨List.mem_of_getElem? (i := 311) rfl, rfl⟩
theorem k_co_yM_resultKey : Cond.code yM_resultKey bM_resultKey 2 (some .int) ∈ lw_ok := List.mem_filter.mpr ⟨List.mem_of_getElem? (i := 312) rfl, rfl⟩
theorem k_ml_M_78 : Cond.methodLink R_M 78 yM_noResult ∈ lw_ok := List.mem_filter.mpr ⟨List.mem_of_getElem? (i := 313) rfl, rfl⟩
theorem k_im_yM_noResult : Cond.instanceMethod yM_noResult ∈ lw_ok := List.mem_filter.mpr ⟨List.mem_of_getElem? (i := 315) rfl, rfl⟩
theorem k_co_yM_noResult : Cond.code yM_noResult bM_noResult 2 (some .boolean) ∈ lw_ok := List.mem_filter.mpr ⟨List.mem_of_getElem? (i := 316) rfl, rfl⟩
theorem k_ml_L_52 : Cond.methodLink R_law 52 yM_resultPairs ∈ lw_ok := List.mem_filter.mpr ⟨List.mem_of_getElem? (i := 317) rfl, rfl⟩
theorem k_im_yM_resultPairs : Cond.instanceMethod yM_resultPairs ∈ lw_ok := List.mem_filter.mpr ⟨List.mem_of_getElem? (i := 318) rfl, rfl⟩
theorem k_se_yM_resultPairs : Cond.selects R_M yM_resultPairs yM_resultPairs ∈ lw_ok := List.mem_filter.mpr ⟨List.mem_of_getElem? (i := 319) rfl, rfl⟩
theorem k_co_yM_resultPairs : Cond.code yM_resultPairs bM_resultPairs 2 (some .int) ∈ lw_ok := List.mem_filter.mpr ⟨List.mem_of_getElem? (i := 320) rfl, rfl⟩
theorem k_ml_L_56 : Cond.methodLink R_law 56 yM_resultSum ∈ lw_ok := List.mem_filter.mpr ⟨List.mem_of_getElem? (i := 321) rfl, rfl⟩
theorem k_im_yM_resultSum : Cond.instanceMethod yM_resultSum ∈ lw_ok := List.mem_filter.mpr ⟨List.mem_of_getElem? (i := 322) rfl, rfl⟩
theorem k_se_yM_resultSum : Cond.selects R_M yM_resultSum yM_resultSum ∈ lw_ok := List.mem_filter.mpr ⟨List.mem_of_getElem? (i := 323) rfl, rfl⟩
theorem k_co_yM_resultSum : Cond.code yM_resultSum bM_resultSum 2 (some .int) ∈ lw_ok := List.mem_filter.mpr ⟨List.mem_of_getElem? (i := 324) rfl, rfl⟩
theorem k_ml_L_60 : Cond.methodLink R_law 60 yM_resultLeast ∈ lw_ok := List.mem_filter.mpr ⟨List.mem_of_getElem? (i := 325) rfl, rfl⟩
theorem k_im_yM_resultLeast : Cond.instanceMethod yM_resultLeast ∈ lw_ok := List.mem_filter.mpr ⟨List.mem_of_getElem? (i := 326) rfl, rfl⟩
theorem k_se_yM_resultLeast : Cond.selects R_M yM_resultLeast yM_resultLeast ∈ lw_ok := List.mem_filter.mpr ⟨List.mem_of_getElem? (i := 327) rfl, rfl⟩
theorem k_co_yM_resultLeast : Cond.code yM_resultLeast bM_resultLeast 2 (some .int) ∈ lw_ok := List.mem_filter.mpr ⟨List.mem_of_getElem? (i := 328) rfl, rfl⟩
theorem k_ml_L_64 : Cond.methodLink R_law 64 yM_resultGreatest ∈ lw_ok := List.mem_filter.mpr ⟨List.mem_of_getElem? (i := 329) rfl, rfl⟩
theorem k_im_yM_resultGreatest : Cond.instanceMethod yM_resultGreatest ∈ lw_ok := List.mem_filter.mpr ⟨List.mem_of_getElem? (i := 330) rfl, rfl⟩
theorem k_se_yM_resultGreatest : Cond.selects R_M yM_resultGreatest yM_resultGreatest ∈ lw_ok := List.mem_filter.mpr ⟨List.mem_of_getElem? (i := 331) rfl, rfl⟩
theorem k_co_yM_resultGreatest : Cond.code yM_resultGreatest bM_resultGreatest 2 (some .int) ∈ lw_ok := List.mem_filter.mpr ⟨List.mem_of_getElem? (i := 332) rfl, rfl⟩
theorem k_ml_L_68 : Cond.methodLink R_law 68 yM_pairs ∈ lw_ok := List.mem_filter.mpr ⟨List.mem_of_getElem? (i := 333) rfl, rfl⟩
theorem k_im_yM_pairs : Cond.instanceMethod yM_pairs ∈ lw_ok := List.mem_filter.mpr ⟨List.mem_of_getElem? (i := 334) rfl, rfl⟩
theorem k_se_yM_pairs : Cond.selects R_M yM_pairs yM_pairs ∈ lw_ok := List.mem_filter.mpr ⟨List.mem_of_getElem? (i := 335) rfl, rfl⟩
theorem k_co_yM_pairs : Cond.code yM_pairs bM_pairs 2 (some .int) ∈ lw_ok := List.mem_filter.mpr ⟨List.mem_of_getElem? (i := 336) rfl, rfl⟩
theorem k_ml_L_72 : Cond.methodLink R_law 72 yM_sum ∈ lw_ok := List.mem_filter.mpr ⟨List.mem_of_getElem? (i := 337) rfl, rfl⟩
theorem k_im_yM_sum : Cond.instanceMethod yM_sum ∈ lw_ok := List.mem_filter.mpr ⟨List.mem_of_getElem? (i := 338) rfl, rfl⟩
theorem k_se_yM_sum : Cond.selects R_M yM_sum yM_sum ∈ lw_ok := List.mem_filter.mpr ⟨List.mem_of_getElem? (i := 339) rfl, rfl⟩
theorem k_co_yM_sum : Cond.code yM_sum bM_sum 2 (some .int) ∈ lw_ok := List.mem_filter.mpr ⟨List.mem_of_getElem? (i := 340) rfl, rfl⟩
theorem k_ml_L_76 : Cond.methodLink R_law 76 yM_least ∈ lw_ok := List.mem_filter.mpr ⟨List.mem_of_getElem? (i := 341) rfl, rfl⟩
theorem k_im_yM_least : Cond.instanceMethod yM_least ∈ lw_ok := List.mem_filter.mpr ⟨List.mem_of_getElem? (i := 342) rfl, rfl⟩
theorem k_se_yM_least : Cond.selects R_M yM_least yM_least ∈ lw_ok := List.mem_filter.mpr ⟨List.mem_of_getElem? (i := 343) rfl, rfl⟩
theorem k_co_yM_least : Cond.code yM_least bM_least 2 (some .int) ∈ lw_ok := List.mem_filter.mpr ⟨List.mem_of_getElem? (i := 344) rfl, rfl⟩
theorem k_ml_L_80 : Cond.methodLink R_law 80 yM_greatest ∈ lw_ok := List.mem_filter.mpr ⟨List.mem_of_getElem? (i := 345) rfl, rfl⟩
theorem k_im_yM_greatest : Cond.instanceMethod yM_greatest ∈ lw_ok := List.mem_filter.mpr ⟨List.mem_of_getElem? (i := 346) rfl, rfl⟩
theorem k_se_yM_greatest : Cond.selects R_M yM_greatest yM_greatest ∈ lw_ok := List.mem_filter.mpr ⟨List.mem_of_getElem? (i := 347) rfl, rfl⟩
theorem k_co_yM_greatest : Cond.code yM_greatest bM_greatest 2 (some .int) ∈ lw_ok := List.mem_filter.mpr ⟨List.mem_of_getElem? (i := 348) rfl, rfl⟩
theorem k_ml_L_84 : Cond.methodLink R_law 84 yM_pairsFrom ∈ lw_ok := List.mem_filter.mpr ⟨List.mem_of_getElem? (i := 349) rfl, rfl⟩
theorem k_im_yM_pairsFrom : Cond.instanceMethod yM_pairsFrom ∈ lw_ok := List.mem_filter.mpr ⟨List.mem_of_getElem? (i := 350) rfl, rfl⟩
theorem k_se_yM_pairsFrom : Cond.selects R_M yM_pairsFrom yM_pairsFrom ∈ lw_ok := List.mem_filter.mpr ⟨List.mem_of_getElem? (i := 351) rfl, rfl⟩
theorem k_co_yM_pairsFrom : Cond.code yM_pairsFrom bM_pairsFrom 5 (some .int) ∈ lw_ok := List.mem_filter.mpr ⟨List.mem_of_getElem? (i := 352) rfl, rfl⟩
theorem k_ml_L_88 : Cond.methodLink R_law 88 yM_bandsFinished ∈ lw_ok := List.mem_filter.mpr ⟨List.mem_of_getElem? (i := 353) rfl, rfl⟩
theorem k_im_yM_bandsFinished : Cond.instanceMethod yM_bandsFinished ∈ lw_ok := List.mem_filter.mpr ⟨List.mem_of_getElem? (i := 354) rfl, rfl⟩
theorem k_se_yM_bandsFinished : Cond.selects R_M yM_bandsFinished yM_bandsFinished ∈ lw_ok := List.mem_filter.mpr ⟨List.mem_of_getElem? (i := 355) rfl, rfl⟩
theorem k_co_yM_bandsFinished : Cond.code yM_bandsFinished bM_bandsFinished 3 (some .int) ∈ lw_ok := List.mem_filter.mpr ⟨List.mem_of_getElem? (i := 356) rfl, rfl⟩
theorem k_ml_M_81 : Cond.methodLink R_M 81 yM_bandDone ∈ lw_ok := List.mem_filter.mpr ⟨List.mem_of_getElem? (i := 357) rfl, rfl⟩
theorem k_im_yM_bandDone : Cond.instanceMethod yM_bandDone ∈ lw_ok := List.mem_filter.mpr ⟨List.mem_of_getElem? (i := 359) rfl, rfl⟩
theorem k_co_yM_bandDone : Cond.code yM_bandDone bM_bandDone 3 (some .boolean) ∈ lw_ok := List.mem_filter.mpr ⟨List.mem_of_getElem? (i := 360) rfl, rfl⟩
theorem k_ml_L_92 : Cond.methodLink R_law 92 yM_bandSum ∈ lw_ok := List.mem_filter.mpr ⟨List.mem_of_getElem? (i := 361) rfl, rfl⟩
theorem k_im_yM_bandSum : Cond.instanceMethod yM_bandSum ∈ lw_ok := List.mem_filter.mpr ⟨List.mem_of_getElem? (i := 362) rfl, rfl⟩
theorem k_se_yM_bandSum : Cond.selects R_M yM_bandSum yM_bandSum ∈ lw_ok := List.mem_filter.mpr ⟨List.mem_of_getElem? (i := 363) rfl, rfl⟩
theorem k_co_yM_bandSum : Cond.code yM_bandSum bM_bandSum 4 (some .int) ∈ lw_ok := List.mem_filter.mpr ⟨List.mem_of_getElem? (i := 364) rfl, rfl⟩
theorem k_cn_M_84 : Cond.constant R_M 84 (-1000000) ∈ lw_ok := List.mem_filter.mpr ⟨List.mem_of_getElem? (i := 365) rfl, rfl⟩
theorem k_cn_M_85 : Cond.constant R_M 85 (-2000000) ∈ lw_ok := List.mem_filter.mpr ⟨List.mem_of_getElem? (i := 366) rfl, rfl⟩
theorem k_se_yX_place : Cond.selects R_X yX_place yX_place ∈ lw_ok := List.mem_filter.mpr ⟨List.mem_of_getElem? (i := 0) rfl, rfl⟩
theorem k_se_yX_shiftBegins : Cond.selects R_X yX_shiftBegins yX_shiftBegins ∈ lw_ok := List.mem_filter.mpr ⟨List.mem_of_getElem? (i := 1) rfl, rfl⟩
theorem k_se_yX_finish : Cond.selects R_X yX_finish yX_finish ∈ lw_ok := List.mem_filter.mpr ⟨List.mem_of_getElem? (i := 2) rfl, rfl⟩
theorem k_se_yX_pairsOf : Cond.selects R_X yX_pairsOf yX_pairsOf ∈ lw_ok := List.mem_filter.mpr ⟨List.mem_of_getElem? (i := 3) rfl, rfl⟩
theorem k_se_yX_countOf : Cond.selects R_X yX_countOf yX_countOf ∈ lw_ok := List.mem_filter.mpr ⟨List.mem_of_getElem? (i := 4) rfl, rfl⟩
theorem k_se_yX_extremes : Cond.selects R_X yX_extremes yX_extremes ∈ lw_ok := List.mem_filter.mpr ⟨List.mem_of_getElem? (i := 5) rfl, rfl⟩
theorem k_se_yX_spread : Cond.selects R_X yX_spread yX_spread ∈ lw_ok := List.mem_filter.mpr ⟨List.mem_of_getElem? (i := 6) rfl, rfl⟩
theorem k_se_yX_drop : Cond.selects R_X yX_drop yX_drop ∈ lw_ok := List.mem_filter.mpr ⟨List.mem_of_getElem? (i := 7) rfl, rfl⟩
theorem k_se_yX_isResult : Cond.selects R_X yX_isResult yX_isResult ∈ lw_ok := List.mem_filter.mpr ⟨List.mem_of_getElem? (i := 8) rfl, rfl⟩
theorem k_se_yX_partnersFrom : Cond.selects R_X yX_partnersFrom yX_partnersFrom ∈ lw_ok := List.mem_filter.mpr ⟨List.mem_of_getElem? (i := 9) rfl, rfl⟩
theorem k_se_yX_isBandFinished : Cond.selects R_X yX_isBandFinished yX_isBandFinished ∈ lw_ok := List.mem_filter.mpr ⟨List.mem_of_getElem? (i := 10) rfl, rfl⟩
theorem k_se_yM_badStream : Cond.selects R_M yM_badStream yM_badStream ∈ lw_ok := List.mem_filter.mpr ⟨List.mem_of_getElem? (i := 11) rfl, rfl⟩
theorem k_se_yM_badKey : Cond.selects R_M yM_badKey yM_badKey ∈ lw_ok := List.mem_filter.mpr ⟨List.mem_of_getElem? (i := 12) rfl, rfl⟩
theorem k_se_yM_takeOut : Cond.selects R_M yM_takeOut yM_takeOut ∈ lw_ok := List.mem_filter.mpr ⟨List.mem_of_getElem? (i := 13) rfl, rfl⟩
theorem k_se_yM_finished : Cond.selects R_M yM_finished yM_finished ∈ lw_ok := List.mem_filter.mpr ⟨List.mem_of_getElem? (i := 14) rfl, rfl⟩
theorem k_se_yM_finish : Cond.selects R_M yM_finish yM_finish ∈ lw_ok := List.mem_filter.mpr ⟨List.mem_of_getElem? (i := 15) rfl, rfl⟩
theorem k_se_yM_look : Cond.selects R_M yM_look yM_look ∈ lw_ok := List.mem_filter.mpr ⟨List.mem_of_getElem? (i := 16) rfl, rfl⟩
theorem k_se_yM_dropAll : Cond.selects R_M yM_dropAll yM_dropAll ∈ lw_ok := List.mem_filter.mpr ⟨List.mem_of_getElem? (i := 17) rfl, rfl⟩
theorem k_se_yM_noResult : Cond.selects R_M yM_noResult yM_noResult ∈ lw_ok := List.mem_filter.mpr ⟨List.mem_of_getElem? (i := 18) rfl, rfl⟩
theorem k_se_yM_bandDone : Cond.selects R_M yM_bandDone yM_bandDone ∈ lw_ok := List.mem_filter.mpr ⟨List.mem_of_getElem? (i := 19) rfl, rfl⟩
end
section
theorem dX_init_0 : decode bX_init 0 = .ok (.aload_n 0, 1) := by decide +kernel
theorem dX_init_1 : decode bX_init 1 = .ok (.invokespecial 1, 3) := by decide +kernel
theorem dX_init_4 : decode bX_init 4 = .ok (.aload_n 0, 1) := by decide +kernel
theorem dX_init_5 : decode bX_init 5 = .ok (.bipush 80, 2) := by decide +kernel
theorem dX_init_7 : decode bX_init 7 = .ok (.newarray .int, 2) := by decide +kernel
theorem dX_init_9 : decode bX_init 9 = .ok (.putfield 7, 3) := by decide +kernel
theorem dX_init_12 : decode bX_init 12 = .ok (.aload_n 0, 1) := by decide +kernel
theorem dX_init_13 : decode bX_init 13 = .ok (.bipush 80, 2) := by decide +kernel
theorem dX_init_15 : decode bX_init 15 = .ok (.newarray .int, 2) := by decide +kernel
theorem dX_init_17 : decode bX_init 17 = .ok (.putfield 13, 3) := by decide +kernel
theorem dX_init_20 : decode bX_init 20 = .ok (.aload_n 0, 1) := by decide +kernel
theorem dX_init_21 : decode bX_init 21 = .ok (.iconst 2, 1) := by decide +kernel
theorem dX_init_22 : decode bX_init 22 = .ok (.newarray .int, 2) := by decide +kernel
theorem dX_init_24 : decode bX_init 24 = .ok (.putfield 16, 3) := by decide +kernel
theorem dX_init_27 : decode bX_init 27 = .ok (.aload_n 0, 1) := by decide +kernel
theorem dX_init_28 : decode bX_init 28 = .ok (.bipush 34, 2) := by decide +kernel
theorem dX_init_30 : decode bX_init 30 = .ok (.newarray .int, 2) := by decide +kernel
theorem dX_init_32 : decode bX_init 32 = .ok (.putfield 19, 3) := by decide +kernel
theorem dX_init_35 : decode bX_init 35 = .ok (.aload_n 0, 1) := by decide +kernel
theorem dX_init_36 : decode bX_init 36 = .ok (.bipush 32, 2) := by decide +kernel
theorem dX_init_38 : decode bX_init 38 = .ok (.newarray .int, 2) := by decide +kernel
theorem dX_init_40 : decode bX_init 40 = .ok (.putfield 22, 3) := by decide +kernel
theorem dX_init_43 : decode bX_init 43 = .ok (.aload_n 0, 1) := by decide +kernel
theorem dX_init_44 : decode bX_init 44 = .ok (.bipush 32, 2) := by decide +kernel
theorem dX_init_46 : decode bX_init 46 = .ok (.newarray .boolean, 2) := by decide +kernel
theorem dX_init_48 : decode bX_init 48 = .ok (.putfield 25, 3) := by decide +kernel
theorem dX_init_51 : decode bX_init 51 = .ok (.aload_n 0, 1) := by decide +kernel
theorem dX_init_52 : decode bX_init 52 = .ok (.bipush 16, 2) := by decide +kernel
theorem dX_init_54 : decode bX_init 54 = .ok (.newarray .int, 2) := by decide +kernel
theorem dX_init_56 : decode bX_init 56 = .ok (.putfield 29, 3) := by decide +kernel
theorem dX_init_59 : decode bX_init 59 = .ok (.aload_n 0, 1) := by decide +kernel
theorem dX_init_60 : decode bX_init 60 = .ok (.bipush 16, 2) := by decide +kernel
theorem dX_init_62 : decode bX_init 62 = .ok (.newarray .int, 2) := by decide +kernel
theorem dX_init_64 : decode bX_init 64 = .ok (.putfield 32, 3) := by decide +kernel
theorem dX_init_67 : decode bX_init 67 = .ok (.aload_n 0, 1) := by decide +kernel
theorem dX_init_68 : decode bX_init 68 = .ok (.bipush 16, 2) := by decide +kernel
theorem dX_init_70 : decode bX_init 70 = .ok (.newarray .int, 2) := by decide +kernel
theorem dX_init_72 : decode bX_init 72 = .ok (.putfield 35, 3) := by decide +kernel
theorem dX_init_75 : decode bX_init 75 = .ok (.aload_n 0, 1) := by decide +kernel
theorem dX_init_76 : decode bX_init 76 = .ok (.bipush 16, 2) := by decide +kernel
theorem dX_init_78 : decode bX_init 78 = .ok (.newarray .int, 2) := by decide +kernel
theorem dX_init_80 : decode bX_init 80 = .ok (.putfield 38, 3) := by decide +kernel
theorem dX_init_83 : decode bX_init 83 = .ok (.aload_n 0, 1) := by decide +kernel
theorem dX_init_84 : decode bX_init 84 = .ok (.bipush 16, 2) := by decide +kernel
theorem dX_init_86 : decode bX_init 86 = .ok (.newarray .int, 2) := by decide +kernel
theorem dX_init_88 : decode bX_init 88 = .ok (.putfield 41, 3) := by decide +kernel
theorem dX_init_91 : decode bX_init 91 = .ok (.aload_n 0, 1) := by decide +kernel
theorem dX_init_92 : decode bX_init 92 = .ok (.iconst 0, 1) := by decide +kernel
theorem dX_init_93 : decode bX_init 93 = .ok (.putfield 44, 3) := by decide +kernel
theorem dX_init_96 : decode bX_init 96 = .ok (.return_, 1) := by decide +kernel
theorem dX_feed_0 : decode bX_feed 0 = .ok (.iload_n 1, 1) := by decide +kernel
theorem dX_feed_1 : decode bX_feed 1 = .ok (.invokestatic 48, 3) := by decide +kernel
theorem dX_feed_4 : decode bX_feed 4 = .ok (.ifCond .ne 5, 3) := by decide +kernel
theorem dX_feed_7 : decode bX_feed 7 = .ok (.iconst (-1), 1) := by decide +kernel
theorem dX_feed_8 : decode bX_feed 8 = .ok (.ireturn, 1) := by decide +kernel
theorem dX_feed_9 : decode bX_feed 9 = .ok (.iload_n 2, 1) := by decide +kernel
theorem dX_feed_10 : decode bX_feed 10 = .ok (.invokestatic 52, 3) := by decide +kernel
theorem dX_feed_13 : decode bX_feed 13 = .ok (.ifCond .ne 6, 3) := by decide +kernel
theorem dX_feed_16 : decode bX_feed 16 = .ok (.bipush (-2), 2) := by decide +kernel
theorem dX_feed_18 : decode bX_feed 18 = .ok (.ireturn, 1) := by decide +kernel
theorem dX_feed_19 : decode bX_feed 19 = .ok (.iload_n 3, 1) := by decide +kernel
theorem dX_feed_20 : decode bX_feed 20 = .ok (.bipush (-50), 2) := by decide +kernel
theorem dX_feed_22 : decode bX_feed 22 = .ok (.if_icmp .lt 9, 3) := by decide +kernel
theorem dX_feed_25 : decode bX_feed 25 = .ok (.iload_n 3, 1) := by decide +kernel
theorem dX_feed_26 : decode bX_feed 26 = .ok (.bipush 50, 2) := by decide +kernel
theorem dX_feed_28 : decode bX_feed 28 = .ok (.if_icmp .le 6, 3) := by decide +kernel
theorem dX_feed_31 : decode bX_feed 31 = .ok (.bipush (-3), 2) := by decide +kernel
theorem dX_feed_33 : decode bX_feed 33 = .ok (.ireturn, 1) := by decide +kernel
theorem dX_feed_34 : decode bX_feed 34 = .ok (.aload_n 0, 1) := by decide +kernel
theorem dX_feed_35 : decode bX_feed 35 = .ok (.getfield 25, 3) := by decide +kernel
theorem dX_feed_38 : decode bX_feed 38 = .ok (.bipush 16, 2) := by decide +kernel
theorem dX_feed_40 : decode bX_feed 40 = .ok (.iload_n 1, 1) := by decide +kernel
theorem dX_feed_41 : decode bX_feed 41 = .ok (.imul, 1) := by decide +kernel
theorem dX_feed_42 : decode bX_feed 42 = .ok (.iload_n 2, 1) := by decide +kernel
theorem dX_feed_43 : decode bX_feed 43 = .ok (.iadd, 1) := by decide +kernel
theorem dX_feed_44 : decode bX_feed 44 = .ok (.baload, 1) := by decide +kernel
theorem dX_feed_45 : decode bX_feed 45 = .ok (.ifCond .eq 6, 3) := by decide +kernel
theorem dX_feed_48 : decode bX_feed 48 = .ok (.bipush (-4), 2) := by decide +kernel
theorem dX_feed_50 : decode bX_feed 50 = .ok (.ireturn, 1) := by decide +kernel
theorem dX_feed_51 : decode bX_feed 51 = .ok (.aload_n 0, 1) := by decide +kernel
theorem dX_feed_52 : decode bX_feed 52 = .ok (.getfield 16, 3) := by decide +kernel
theorem dX_feed_55 : decode bX_feed 55 = .ok (.iload_n 1, 1) := by decide +kernel
theorem dX_feed_56 : decode bX_feed 56 = .ok (.iaload, 1) := by decide +kernel
theorem dX_feed_57 : decode bX_feed 57 = .ok (.bipush 40, 2) := by decide +kernel
theorem dX_feed_59 : decode bX_feed 59 = .ok (.if_icmp .ne 6, 3) := by decide +kernel
theorem dX_feed_62 : decode bX_feed 62 = .ok (.bipush (-5), 2) := by decide +kernel
theorem dX_feed_64 : decode bX_feed 64 = .ok (.ireturn, 1) := by decide +kernel
theorem dX_feed_65 : decode bX_feed 65 = .ok (.bipush 40, 2) := by decide +kernel
theorem dX_feed_67 : decode bX_feed 67 = .ok (.iload_n 1, 1) := by decide +kernel
theorem dX_feed_68 : decode bX_feed 68 = .ok (.imul, 1) := by decide +kernel
theorem dX_feed_69 : decode bX_feed 69 = .ok (.istore 4, 2) := by decide +kernel
theorem dX_feed_71 : decode bX_feed 71 = .ok (.aload_n 0, 1) := by decide +kernel
theorem dX_feed_72 : decode bX_feed 72 = .ok (.iload_n 1, 1) := by decide +kernel
theorem dX_feed_73 : decode bX_feed 73 = .ok (.iload_n 2, 1) := by decide +kernel
theorem dX_feed_74 : decode bX_feed 74 = .ok (.iload_n 3, 1) := by decide +kernel
theorem dX_feed_75 : decode bX_feed 75 = .ok (.invokevirtual 55, 3) := by decide +kernel
theorem dX_feed_78 : decode bX_feed 78 = .ok (.istore 5, 2) := by decide +kernel
theorem dX_feed_80 : decode bX_feed 80 = .ok (.iload 4, 2) := by decide +kernel
theorem dX_feed_82 : decode bX_feed 82 = .ok (.aload_n 0, 1) := by decide +kernel
theorem dX_feed_83 : decode bX_feed 83 = .ok (.getfield 16, 3) := by decide +kernel
theorem dX_feed_86 : decode bX_feed 86 = .ok (.iload_n 1, 1) := by decide +kernel
theorem dX_feed_87 : decode bX_feed 87 = .ok (.iaload, 1) := by decide +kernel
theorem dX_feed_88 : decode bX_feed 88 = .ok (.iadd, 1) := by decide +kernel
theorem dX_feed_89 : decode bX_feed 89 = .ok (.istore 6, 2) := by decide +kernel
theorem dX_feed_91 : decode bX_feed 91 = .ok (.iload 6, 2) := by decide +kernel
theorem dX_feed_93 : decode bX_feed 93 = .ok (.iload 5, 2) := by decide +kernel
theorem dX_feed_95 : decode bX_feed 95 = .ok (.if_icmp .le 41, 3) := by decide +kernel
theorem dX_feed_98 : decode bX_feed 98 = .ok (.aload_n 0, 1) := by decide +kernel
theorem dX_feed_99 : decode bX_feed 99 = .ok (.getfield 7, 3) := by decide +kernel
theorem dX_feed_102 : decode bX_feed 102 = .ok (.iload 6, 2) := by decide +kernel
theorem dX_feed_104 : decode bX_feed 104 = .ok (.aload_n 0, 1) := by decide +kernel
theorem dX_feed_105 : decode bX_feed 105 = .ok (.getfield 7, 3) := by decide +kernel
theorem dX_feed_108 : decode bX_feed 108 = .ok (.iload 6, 2) := by decide +kernel
theorem dX_feed_110 : decode bX_feed 110 = .ok (.iconst 1, 1) := by decide +kernel
theorem dX_feed_111 : decode bX_feed 111 = .ok (.isub, 1) := by decide +kernel
theorem dX_feed_112 : decode bX_feed 112 = .ok (.iaload, 1) := by decide +kernel
theorem dX_feed_113 : decode bX_feed 113 = .ok (.iastore, 1) := by decide +kernel
theorem dX_feed_114 : decode bX_feed 114 = .ok (.aload_n 0, 1) := by decide +kernel
theorem dX_feed_115 : decode bX_feed 115 = .ok (.getfield 13, 3) := by decide +kernel
theorem dX_feed_118 : decode bX_feed 118 = .ok (.iload 6, 2) := by decide +kernel
theorem dX_feed_120 : decode bX_feed 120 = .ok (.aload_n 0, 1) := by decide +kernel
theorem dX_feed_121 : decode bX_feed 121 = .ok (.getfield 13, 3) := by decide +kernel
theorem dX_feed_124 : decode bX_feed 124 = .ok (.iload 6, 2) := by decide +kernel
theorem dX_feed_126 : decode bX_feed 126 = .ok (.iconst 1, 1) := by decide +kernel
theorem dX_feed_127 : decode bX_feed 127 = .ok (.isub, 1) := by decide +kernel
theorem dX_feed_128 : decode bX_feed 128 = .ok (.iaload, 1) := by decide +kernel
theorem dX_feed_129 : decode bX_feed 129 = .ok (.iastore, 1) := by decide +kernel
theorem dX_feed_130 : decode bX_feed 130 = .ok (.iinc 6 (-1), 3) := by decide +kernel
theorem dX_feed_133 : decode bX_feed 133 = .ok (.goto (-42), 3) := by decide +kernel
theorem dX_feed_136 : decode bX_feed 136 = .ok (.aload_n 0, 1) := by decide +kernel
theorem dX_feed_137 : decode bX_feed 137 = .ok (.getfield 7, 3) := by decide +kernel
theorem dX_feed_140 : decode bX_feed 140 = .ok (.iload 5, 2) := by decide +kernel
theorem dX_feed_142 : decode bX_feed 142 = .ok (.iload_n 2, 1) := by decide +kernel
theorem dX_feed_143 : decode bX_feed 143 = .ok (.iastore, 1) := by decide +kernel
theorem dX_feed_144 : decode bX_feed 144 = .ok (.aload_n 0, 1) := by decide +kernel
theorem dX_feed_145 : decode bX_feed 145 = .ok (.getfield 13, 3) := by decide +kernel
theorem dX_feed_148 : decode bX_feed 148 = .ok (.iload 5, 2) := by decide +kernel
theorem dX_feed_150 : decode bX_feed 150 = .ok (.iload_n 3, 1) := by decide +kernel
theorem dX_feed_151 : decode bX_feed 151 = .ok (.iastore, 1) := by decide +kernel
theorem dX_feed_152 : decode bX_feed 152 = .ok (.aload_n 0, 1) := by decide +kernel
theorem dX_feed_153 : decode bX_feed 153 = .ok (.getfield 16, 3) := by decide +kernel
theorem dX_feed_156 : decode bX_feed 156 = .ok (.iload_n 1, 1) := by decide +kernel
theorem dX_feed_157 : decode bX_feed 157 = .ok (.dup2, 1) := by decide +kernel
theorem dX_feed_158 : decode bX_feed 158 = .ok (.iaload, 1) := by decide +kernel
theorem dX_feed_159 : decode bX_feed 159 = .ok (.iconst 1, 1) := by decide +kernel
theorem dX_feed_160 : decode bX_feed 160 = .ok (.iadd, 1) := by decide +kernel
theorem dX_feed_161 : decode bX_feed 161 = .ok (.iastore, 1) := by decide +kernel
theorem dX_feed_162 : decode bX_feed 162 = .ok (.aload_n 0, 1) := by decide +kernel
theorem dX_feed_163 : decode bX_feed 163 = .ok (.getfield 22, 3) := by decide +kernel
theorem dX_feed_166 : decode bX_feed 166 = .ok (.bipush 16, 2) := by decide +kernel
theorem dX_feed_168 : decode bX_feed 168 = .ok (.iload_n 1, 1) := by decide +kernel
theorem dX_feed_169 : decode bX_feed 169 = .ok (.imul, 1) := by decide +kernel
theorem dX_feed_170 : decode bX_feed 170 = .ok (.iload_n 2, 1) := by decide +kernel
theorem dX_feed_171 : decode bX_feed 171 = .ok (.iadd, 1) := by decide +kernel
theorem dX_feed_172 : decode bX_feed 172 = .ok (.dup2, 1) := by decide +kernel
theorem dX_feed_173 : decode bX_feed 173 = .ok (.iaload, 1) := by decide +kernel
theorem dX_feed_174 : decode bX_feed 174 = .ok (.iload_n 3, 1) := by decide +kernel
theorem dX_feed_175 : decode bX_feed 175 = .ok (.iadd, 1) := by decide +kernel
theorem dX_feed_176 : decode bX_feed 176 = .ok (.iastore, 1) := by decide +kernel
theorem dX_feed_177 : decode bX_feed 177 = .ok (.aload_n 0, 1) := by decide +kernel
theorem dX_feed_178 : decode bX_feed 178 = .ok (.iload_n 1, 1) := by decide +kernel
theorem dX_feed_179 : decode bX_feed 179 = .ok (.iload_n 2, 1) := by decide +kernel
theorem dX_feed_180 : decode bX_feed 180 = .ok (.iconst 1, 1) := by decide +kernel
theorem dX_feed_181 : decode bX_feed 181 = .ok (.invokevirtual 59, 3) := by decide +kernel
theorem dX_feed_184 : decode bX_feed 184 = .ok (.aload_n 0, 1) := by decide +kernel
theorem dX_feed_185 : decode bX_feed 185 = .ok (.getfield 16, 3) := by decide +kernel
theorem dX_feed_188 : decode bX_feed 188 = .ok (.iload_n 1, 1) := by decide +kernel
theorem dX_feed_189 : decode bX_feed 189 = .ok (.iaload, 1) := by decide +kernel
theorem dX_feed_190 : decode bX_feed 190 = .ok (.ireturn, 1) := by decide +kernel
theorem dX_retract_0 : decode bX_retract 0 = .ok (.iload_n 1, 1) := by decide +kernel
theorem dX_retract_1 : decode bX_retract 1 = .ok (.invokestatic 48, 3) := by decide +kernel
theorem dX_retract_4 : decode bX_retract 4 = .ok (.ifCond .ne 5, 3) := by decide +kernel
theorem dX_retract_7 : decode bX_retract 7 = .ok (.iconst (-1), 1) := by decide +kernel
theorem dX_retract_8 : decode bX_retract 8 = .ok (.ireturn, 1) := by decide +kernel
theorem dX_retract_9 : decode bX_retract 9 = .ok (.iload_n 2, 1) := by decide +kernel
theorem dX_retract_10 : decode bX_retract 10 = .ok (.invokestatic 52, 3) := by decide +kernel
theorem dX_retract_13 : decode bX_retract 13 = .ok (.ifCond .ne 6, 3) := by decide +kernel
theorem dX_retract_16 : decode bX_retract 16 = .ok (.bipush (-2), 2) := by decide +kernel
theorem dX_retract_18 : decode bX_retract 18 = .ok (.ireturn, 1) := by decide +kernel
theorem dX_retract_19 : decode bX_retract 19 = .ok (.aload_n 0, 1) := by decide +kernel
theorem dX_retract_20 : decode bX_retract 20 = .ok (.iload_n 1, 1) := by decide +kernel
theorem dX_retract_21 : decode bX_retract 21 = .ok (.iload_n 2, 1) := by decide +kernel
theorem dX_retract_22 : decode bX_retract 22 = .ok (.iload_n 3, 1) := by decide +kernel
theorem dX_retract_23 : decode bX_retract 23 = .ok (.invokevirtual 55, 3) := by decide +kernel
theorem dX_retract_26 : decode bX_retract 26 = .ok (.istore 4, 2) := by decide +kernel
theorem dX_retract_28 : decode bX_retract 28 = .ok (.bipush 40, 2) := by decide +kernel
theorem dX_retract_30 : decode bX_retract 30 = .ok (.iload_n 1, 1) := by decide +kernel
theorem dX_retract_31 : decode bX_retract 31 = .ok (.imul, 1) := by decide +kernel
theorem dX_retract_32 : decode bX_retract 32 = .ok (.aload_n 0, 1) := by decide +kernel
theorem dX_retract_33 : decode bX_retract 33 = .ok (.getfield 16, 3) := by decide +kernel
theorem dX_retract_36 : decode bX_retract 36 = .ok (.iload_n 1, 1) := by decide +kernel
theorem dX_retract_37 : decode bX_retract 37 = .ok (.iaload, 1) := by decide +kernel
theorem dX_retract_38 : decode bX_retract 38 = .ok (.iadd, 1) := by decide +kernel
theorem dX_retract_39 : decode bX_retract 39 = .ok (.istore 5, 2) := by decide +kernel
theorem dX_retract_41 : decode bX_retract 41 = .ok (.iload 4, 2) := by decide +kernel
theorem dX_retract_43 : decode bX_retract 43 = .ok (.iload 5, 2) := by decide +kernel
theorem dX_retract_45 : decode bX_retract 45 = .ok (.if_icmp .ge 25, 3) := by decide +kernel
theorem dX_retract_48 : decode bX_retract 48 = .ok (.aload_n 0, 1) := by decide +kernel
theorem dX_retract_49 : decode bX_retract 49 = .ok (.getfield 7, 3) := by decide +kernel
theorem dX_retract_52 : decode bX_retract 52 = .ok (.iload 4, 2) := by decide +kernel
theorem dX_retract_54 : decode bX_retract 54 = .ok (.iaload, 1) := by decide +kernel
theorem dX_retract_55 : decode bX_retract 55 = .ok (.iload_n 2, 1) := by decide +kernel
theorem dX_retract_56 : decode bX_retract 56 = .ok (.if_icmp .ne 14, 3) := by decide +kernel
theorem dX_retract_59 : decode bX_retract 59 = .ok (.aload_n 0, 1) := by decide +kernel
theorem dX_retract_60 : decode bX_retract 60 = .ok (.getfield 13, 3) := by decide +kernel
theorem dX_retract_63 : decode bX_retract 63 = .ok (.iload 4, 2) := by decide +kernel
theorem dX_retract_65 : decode bX_retract 65 = .ok (.iaload, 1) := by decide +kernel
theorem dX_retract_66 : decode bX_retract 66 = .ok (.iload_n 3, 1) := by decide +kernel
theorem dX_retract_67 : decode bX_retract 67 = .ok (.if_icmp .eq 6, 3) := by decide +kernel
theorem dX_retract_70 : decode bX_retract 70 = .ok (.bipush (-3), 2) := by decide +kernel
theorem dX_retract_72 : decode bX_retract 72 = .ok (.ireturn, 1) := by decide +kernel
theorem dX_retract_73 : decode bX_retract 73 = .ok (.iload 4, 2) := by decide +kernel
theorem dX_retract_75 : decode bX_retract 75 = .ok (.iconst 1, 1) := by decide +kernel
theorem dX_retract_76 : decode bX_retract 76 = .ok (.iadd, 1) := by decide +kernel
theorem dX_retract_77 : decode bX_retract 77 = .ok (.istore 6, 2) := by decide +kernel
theorem dX_retract_79 : decode bX_retract 79 = .ok (.iload 6, 2) := by decide +kernel
theorem dX_retract_81 : decode bX_retract 81 = .ok (.iload 5, 2) := by decide +kernel
theorem dX_retract_83 : decode bX_retract 83 = .ok (.if_icmp .ge 41, 3) := by decide +kernel
theorem dX_retract_86 : decode bX_retract 86 = .ok (.aload_n 0, 1) := by decide +kernel
theorem dX_retract_87 : decode bX_retract 87 = .ok (.getfield 7, 3) := by decide +kernel
theorem dX_retract_90 : decode bX_retract 90 = .ok (.iload 6, 2) := by decide +kernel
theorem dX_retract_92 : decode bX_retract 92 = .ok (.iconst 1, 1) := by decide +kernel
theorem dX_retract_93 : decode bX_retract 93 = .ok (.isub, 1) := by decide +kernel
theorem dX_retract_94 : decode bX_retract 94 = .ok (.aload_n 0, 1) := by decide +kernel
theorem dX_retract_95 : decode bX_retract 95 = .ok (.getfield 7, 3) := by decide +kernel
theorem dX_retract_98 : decode bX_retract 98 = .ok (.iload 6, 2) := by decide +kernel
theorem dX_retract_100 : decode bX_retract 100 = .ok (.iaload, 1) := by decide +kernel
theorem dX_retract_101 : decode bX_retract 101 = .ok (.iastore, 1) := by decide +kernel
theorem dX_retract_102 : decode bX_retract 102 = .ok (.aload_n 0, 1) := by decide +kernel
theorem dX_retract_103 : decode bX_retract 103 = .ok (.getfield 13, 3) := by decide +kernel
theorem dX_retract_106 : decode bX_retract 106 = .ok (.iload 6, 2) := by decide +kernel
theorem dX_retract_108 : decode bX_retract 108 = .ok (.iconst 1, 1) := by decide +kernel
theorem dX_retract_109 : decode bX_retract 109 = .ok (.isub, 1) := by decide +kernel
theorem dX_retract_110 : decode bX_retract 110 = .ok (.aload_n 0, 1) := by decide +kernel
theorem dX_retract_111 : decode bX_retract 111 = .ok (.getfield 13, 3) := by decide +kernel
theorem dX_retract_114 : decode bX_retract 114 = .ok (.iload 6, 2) := by decide +kernel
theorem dX_retract_116 : decode bX_retract 116 = .ok (.iaload, 1) := by decide +kernel
theorem dX_retract_117 : decode bX_retract 117 = .ok (.iastore, 1) := by decide +kernel
theorem dX_retract_118 : decode bX_retract 118 = .ok (.iinc 6 1, 3) := by decide +kernel
theorem dX_retract_121 : decode bX_retract 121 = .ok (.goto (-42), 3) := by decide +kernel
theorem dX_retract_124 : decode bX_retract 124 = .ok (.aload_n 0, 1) := by decide +kernel
theorem dX_retract_125 : decode bX_retract 125 = .ok (.getfield 16, 3) := by decide +kernel
theorem dX_retract_128 : decode bX_retract 128 = .ok (.iload_n 1, 1) := by decide +kernel
theorem dX_retract_129 : decode bX_retract 129 = .ok (.dup2, 1) := by decide +kernel
theorem dX_retract_130 : decode bX_retract 130 = .ok (.iaload, 1) := by decide +kernel
theorem dX_retract_131 : decode bX_retract 131 = .ok (.iconst 1, 1) := by decide +kernel
theorem dX_retract_132 : decode bX_retract 132 = .ok (.isub, 1) := by decide +kernel
theorem dX_retract_133 : decode bX_retract 133 = .ok (.iastore, 1) := by decide +kernel
theorem dX_retract_134 : decode bX_retract 134 = .ok (.aload_n 0, 1) := by decide +kernel
theorem dX_retract_135 : decode bX_retract 135 = .ok (.getfield 22, 3) := by decide +kernel
theorem dX_retract_138 : decode bX_retract 138 = .ok (.bipush 16, 2) := by decide +kernel
theorem dX_retract_140 : decode bX_retract 140 = .ok (.iload_n 1, 1) := by decide +kernel
theorem dX_retract_141 : decode bX_retract 141 = .ok (.imul, 1) := by decide +kernel
theorem dX_retract_142 : decode bX_retract 142 = .ok (.iload_n 2, 1) := by decide +kernel
theorem dX_retract_143 : decode bX_retract 143 = .ok (.iadd, 1) := by decide +kernel
theorem dX_retract_144 : decode bX_retract 144 = .ok (.dup2, 1) := by decide +kernel
theorem dX_retract_145 : decode bX_retract 145 = .ok (.iaload, 1) := by decide +kernel
theorem dX_retract_146 : decode bX_retract 146 = .ok (.iload_n 3, 1) := by decide +kernel
theorem dX_retract_147 : decode bX_retract 147 = .ok (.isub, 1) := by decide +kernel
theorem dX_retract_148 : decode bX_retract 148 = .ok (.iastore, 1) := by decide +kernel
theorem dX_retract_149 : decode bX_retract 149 = .ok (.aload_n 0, 1) := by decide +kernel
theorem dX_retract_150 : decode bX_retract 150 = .ok (.iload_n 1, 1) := by decide +kernel
theorem dX_retract_151 : decode bX_retract 151 = .ok (.iload_n 2, 1) := by decide +kernel
theorem dX_retract_152 : decode bX_retract 152 = .ok (.iconst (-1), 1) := by decide +kernel
theorem dX_retract_153 : decode bX_retract 153 = .ok (.invokevirtual 59, 3) := by decide +kernel
theorem dX_retract_156 : decode bX_retract 156 = .ok (.aload_n 0, 1) := by decide +kernel
theorem dX_retract_157 : decode bX_retract 157 = .ok (.getfield 16, 3) := by decide +kernel
theorem dX_retract_160 : decode bX_retract 160 = .ok (.iload_n 1, 1) := by decide +kernel
theorem dX_retract_161 : decode bX_retract 161 = .ok (.iaload, 1) := by decide +kernel
theorem dX_retract_162 : decode bX_retract 162 = .ok (.ireturn, 1) := by decide +kernel
theorem dX_close_0 : decode bX_close 0 = .ok (.iload_n 1, 1) := by decide +kernel
theorem dX_close_1 : decode bX_close 1 = .ok (.invokestatic 48, 3) := by decide +kernel
theorem dX_close_4 : decode bX_close 4 = .ok (.ifCond .ne 5, 3) := by decide +kernel
theorem dX_close_7 : decode bX_close 7 = .ok (.iconst (-1), 1) := by decide +kernel
theorem dX_close_8 : decode bX_close 8 = .ok (.ireturn, 1) := by decide +kernel
theorem dX_close_9 : decode bX_close 9 = .ok (.iload_n 2, 1) := by decide +kernel
theorem dX_close_10 : decode bX_close 10 = .ok (.ifCond .lt 14, 3) := by decide +kernel
theorem dX_close_13 : decode bX_close 13 = .ok (.iload_n 2, 1) := by decide +kernel
theorem dX_close_14 : decode bX_close 14 = .ok (.iload_n 3, 1) := by decide +kernel
theorem dX_close_15 : decode bX_close 15 = .ok (.if_icmp .gt 9, 3) := by decide +kernel
theorem dX_close_18 : decode bX_close 18 = .ok (.iload_n 3, 1) := by decide +kernel
theorem dX_close_19 : decode bX_close 19 = .ok (.bipush 16, 2) := by decide +kernel
theorem dX_close_21 : decode bX_close 21 = .ok (.if_icmp .lt 6, 3) := by decide +kernel
theorem dX_close_24 : decode bX_close 24 = .ok (.bipush (-2), 2) := by decide +kernel
theorem dX_close_26 : decode bX_close 26 = .ok (.ireturn, 1) := by decide +kernel
theorem dX_close_27 : decode bX_close 27 = .ok (.iconst 0, 1) := by decide +kernel
theorem dX_close_28 : decode bX_close 28 = .ok (.istore 4, 2) := by decide +kernel
theorem dX_close_30 : decode bX_close 30 = .ok (.iload_n 2, 1) := by decide +kernel
theorem dX_close_31 : decode bX_close 31 = .ok (.istore 5, 2) := by decide +kernel
theorem dX_close_33 : decode bX_close 33 = .ok (.iload 5, 2) := by decide +kernel
theorem dX_close_35 : decode bX_close 35 = .ok (.iload_n 3, 1) := by decide +kernel
theorem dX_close_36 : decode bX_close 36 = .ok (.if_icmp .gt 63, 3) := by decide +kernel
theorem dX_close_39 : decode bX_close 39 = .ok (.aload_n 0, 1) := by decide +kernel
theorem dX_close_40 : decode bX_close 40 = .ok (.getfield 25, 3) := by decide +kernel
theorem dX_close_43 : decode bX_close 43 = .ok (.bipush 16, 2) := by decide +kernel
theorem dX_close_45 : decode bX_close 45 = .ok (.iload_n 1, 1) := by decide +kernel
theorem dX_close_46 : decode bX_close 46 = .ok (.imul, 1) := by decide +kernel
theorem dX_close_47 : decode bX_close 47 = .ok (.iload 5, 2) := by decide +kernel
theorem dX_close_49 : decode bX_close 49 = .ok (.iadd, 1) := by decide +kernel
theorem dX_close_50 : decode bX_close 50 = .ok (.baload, 1) := by decide +kernel
theorem dX_close_51 : decode bX_close 51 = .ok (.ifCond .ne 42, 3) := by decide +kernel
theorem dX_close_54 : decode bX_close 54 = .ok (.aload_n 0, 1) := by decide +kernel
theorem dX_close_55 : decode bX_close 55 = .ok (.getfield 25, 3) := by decide +kernel
theorem dX_close_58 : decode bX_close 58 = .ok (.bipush 16, 2) := by decide +kernel
theorem dX_close_60 : decode bX_close 60 = .ok (.iload_n 1, 1) := by decide +kernel
theorem dX_close_61 : decode bX_close 61 = .ok (.imul, 1) := by decide +kernel
theorem dX_close_62 : decode bX_close 62 = .ok (.iload 5, 2) := by decide +kernel
theorem dX_close_64 : decode bX_close 64 = .ok (.iadd, 1) := by decide +kernel
theorem dX_close_65 : decode bX_close 65 = .ok (.iconst 1, 1) := by decide +kernel
theorem dX_close_66 : decode bX_close 66 = .ok (.bastore, 1) := by decide +kernel
theorem dX_close_67 : decode bX_close 67 = .ok (.aload_n 0, 1) := by decide +kernel
theorem dX_close_68 : decode bX_close 68 = .ok (.getfield 25, 3) := by decide +kernel
theorem dX_close_71 : decode bX_close 71 = .ok (.bipush 16, 2) := by decide +kernel
theorem dX_close_73 : decode bX_close 73 = .ok (.iconst 1, 1) := by decide +kernel
theorem dX_close_74 : decode bX_close 74 = .ok (.iload_n 1, 1) := by decide +kernel
theorem dX_close_75 : decode bX_close 75 = .ok (.isub, 1) := by decide +kernel
theorem dX_close_76 : decode bX_close 76 = .ok (.imul, 1) := by decide +kernel
theorem dX_close_77 : decode bX_close 77 = .ok (.iload 5, 2) := by decide +kernel
theorem dX_close_79 : decode bX_close 79 = .ok (.iadd, 1) := by decide +kernel
theorem dX_close_80 : decode bX_close 80 = .ok (.baload, 1) := by decide +kernel
theorem dX_close_81 : decode bX_close 81 = .ok (.ifCond .eq 12, 3) := by decide +kernel
theorem dX_close_84 : decode bX_close 84 = .ok (.aload_n 0, 1) := by decide +kernel
theorem dX_close_85 : decode bX_close 85 = .ok (.iload 5, 2) := by decide +kernel
theorem dX_close_87 : decode bX_close 87 = .ok (.invokevirtual 63, 3) := by decide +kernel
theorem dX_close_90 : decode bX_close 90 = .ok (.iinc 4 1, 3) := by decide +kernel
theorem dX_close_93 : decode bX_close 93 = .ok (.iinc 5 1, 3) := by decide +kernel
theorem dX_close_96 : decode bX_close 96 = .ok (.goto (-63), 3) := by decide +kernel
theorem dX_close_99 : decode bX_close 99 = .ok (.iload 4, 2) := by decide +kernel
theorem dX_close_101 : decode bX_close 101 = .ok (.ireturn, 1) := by decide +kernel
theorem dX_held_0 : decode bX_held 0 = .ok (.iload_n 1, 1) := by decide +kernel
theorem dX_held_1 : decode bX_held 1 = .ok (.invokestatic 48, 3) := by decide +kernel
theorem dX_held_4 : decode bX_held 4 = .ok (.ifCond .eq 12, 3) := by decide +kernel
theorem dX_held_7 : decode bX_held 7 = .ok (.aload_n 0, 1) := by decide +kernel
theorem dX_held_8 : decode bX_held 8 = .ok (.getfield 16, 3) := by decide +kernel
theorem dX_held_11 : decode bX_held 11 = .ok (.iload_n 1, 1) := by decide +kernel
theorem dX_held_12 : decode bX_held 12 = .ok (.iaload, 1) := by decide +kernel
theorem dX_held_13 : decode bX_held 13 = .ok (.goto 4, 3) := by decide +kernel
theorem dX_held_16 : decode bX_held 16 = .ok (.iconst (-1), 1) := by decide +kernel
theorem dX_held_17 : decode bX_held 17 = .ok (.ireturn, 1) := by decide +kernel
theorem dX_heldWith_0 : decode bX_heldWith 0 = .ok (.iload_n 1, 1) := by decide +kernel
theorem dX_heldWith_1 : decode bX_heldWith 1 = .ok (.invokestatic 48, 3) := by decide +kernel
theorem dX_heldWith_4 : decode bX_heldWith 4 = .ok (.ifCond .ne 5, 3) := by decide +kernel
theorem dX_heldWith_7 : decode bX_heldWith 7 = .ok (.iconst (-1), 1) := by decide +kernel
theorem dX_heldWith_8 : decode bX_heldWith 8 = .ok (.ireturn, 1) := by decide +kernel
theorem dX_heldWith_9 : decode bX_heldWith 9 = .ok (.iload_n 2, 1) := by decide +kernel
theorem dX_heldWith_10 : decode bX_heldWith 10 = .ok (.invokestatic 52, 3) := by decide +kernel
theorem dX_heldWith_13 : decode bX_heldWith 13 = .ok (.ifCond .eq 12, 3) := by decide +kernel
theorem dX_heldWith_16 : decode bX_heldWith 16 = .ok (.aload_n 0, 1) := by decide +kernel
theorem dX_heldWith_17 : decode bX_heldWith 17 = .ok (.iload_n 1, 1) := by decide +kernel
theorem dX_heldWith_18 : decode bX_heldWith 18 = .ok (.iload_n 2, 1) := by decide +kernel
theorem dX_heldWith_19 : decode bX_heldWith 19 = .ok (.invokevirtual 67, 3) := by decide +kernel
theorem dX_heldWith_22 : decode bX_heldWith 22 = .ok (.goto 5, 3) := by decide +kernel
theorem dX_heldWith_25 : decode bX_heldWith 25 = .ok (.bipush (-2), 2) := by decide +kernel
theorem dX_heldWith_27 : decode bX_heldWith 27 = .ok (.ireturn, 1) := by decide +kernel
theorem dX_closed_0 : decode bX_closed 0 = .ok (.iload_n 1, 1) := by decide +kernel
theorem dX_closed_1 : decode bX_closed 1 = .ok (.invokestatic 48, 3) := by decide +kernel
theorem dX_closed_4 : decode bX_closed 4 = .ok (.ifCond .ne 5, 3) := by decide +kernel
theorem dX_closed_7 : decode bX_closed 7 = .ok (.iconst (-1), 1) := by decide +kernel
theorem dX_closed_8 : decode bX_closed 8 = .ok (.ireturn, 1) := by decide +kernel
theorem dX_closed_9 : decode bX_closed 9 = .ok (.iload_n 2, 1) := by decide +kernel
theorem dX_closed_10 : decode bX_closed 10 = .ok (.invokestatic 52, 3) := by decide +kernel
theorem dX_closed_13 : decode bX_closed 13 = .ok (.ifCond .ne 6, 3) := by decide +kernel
theorem dX_closed_16 : decode bX_closed 16 = .ok (.bipush (-2), 2) := by decide +kernel
theorem dX_closed_18 : decode bX_closed 18 = .ok (.ireturn, 1) := by decide +kernel
theorem dX_closed_19 : decode bX_closed 19 = .ok (.aload_n 0, 1) := by decide +kernel
theorem dX_closed_20 : decode bX_closed 20 = .ok (.getfield 25, 3) := by decide +kernel
theorem dX_closed_23 : decode bX_closed 23 = .ok (.bipush 16, 2) := by decide +kernel
theorem dX_closed_25 : decode bX_closed 25 = .ok (.iload_n 1, 1) := by decide +kernel
theorem dX_closed_26 : decode bX_closed 26 = .ok (.imul, 1) := by decide +kernel
theorem dX_closed_27 : decode bX_closed 27 = .ok (.iload_n 2, 1) := by decide +kernel
theorem dX_closed_28 : decode bX_closed 28 = .ok (.iadd, 1) := by decide +kernel
theorem dX_closed_29 : decode bX_closed 29 = .ok (.baload, 1) := by decide +kernel
theorem dX_closed_30 : decode bX_closed 30 = .ok (.ifCond .eq 7, 3) := by decide +kernel
theorem dX_closed_33 : decode bX_closed 33 = .ok (.iconst 1, 1) := by decide +kernel
theorem dX_closed_34 : decode bX_closed 34 = .ok (.goto 4, 3) := by decide +kernel
theorem dX_closed_37 : decode bX_closed 37 = .ok (.iconst 0, 1) := by decide +kernel
theorem dX_closed_38 : decode bX_closed 38 = .ok (.ireturn, 1) := by decide +kernel
theorem dX_results_0 : decode bX_results 0 = .ok (.aload_n 0, 1) := by decide +kernel
theorem dX_results_1 : decode bX_results 1 = .ok (.getfield 44, 3) := by decide +kernel
theorem dX_results_4 : decode bX_results 4 = .ok (.ireturn, 1) := by decide +kernel
theorem dX_resultKey_0 : decode bX_resultKey 0 = .ok (.aload_n 0, 1) := by decide +kernel
theorem dX_resultKey_1 : decode bX_resultKey 1 = .ok (.iload_n 1, 1) := by decide +kernel
theorem dX_resultKey_2 : decode bX_resultKey 2 = .ok (.invokevirtual 71, 3) := by decide +kernel
theorem dX_resultKey_5 : decode bX_resultKey 5 = .ok (.ifCond .eq 12, 3) := by decide +kernel
theorem dX_resultKey_8 : decode bX_resultKey 8 = .ok (.aload_n 0, 1) := by decide +kernel
theorem dX_resultKey_9 : decode bX_resultKey 9 = .ok (.getfield 29, 3) := by decide +kernel
theorem dX_resultKey_12 : decode bX_resultKey 12 = .ok (.iload_n 1, 1) := by decide +kernel
theorem dX_resultKey_13 : decode bX_resultKey 13 = .ok (.iaload, 1) := by decide +kernel
theorem dX_resultKey_14 : decode bX_resultKey 14 = .ok (.goto 4, 3) := by decide +kernel
theorem dX_resultKey_17 : decode bX_resultKey 17 = .ok (.iconst (-1), 1) := by decide +kernel
theorem dX_resultKey_18 : decode bX_resultKey 18 = .ok (.ireturn, 1) := by decide +kernel
theorem dX_resultPairs_0 : decode bX_resultPairs 0 = .ok (.aload_n 0, 1) := by decide +kernel
theorem dX_resultPairs_1 : decode bX_resultPairs 1 = .ok (.iload_n 1, 1) := by decide +kernel
theorem dX_resultPairs_2 : decode bX_resultPairs 2 = .ok (.invokevirtual 71, 3) := by decide +kernel
theorem dX_resultPairs_5 : decode bX_resultPairs 5 = .ok (.ifCond .eq 12, 3) := by decide +kernel
theorem dX_resultPairs_8 : decode bX_resultPairs 8 = .ok (.aload_n 0, 1) := by decide +kernel
theorem dX_resultPairs_9 : decode bX_resultPairs 9 = .ok (.getfield 32, 3) := by decide +kernel
theorem dX_resultPairs_12 : decode bX_resultPairs 12 = .ok (.iload_n 1, 1) := by decide +kernel
theorem dX_resultPairs_13 : decode bX_resultPairs 13 = .ok (.iaload, 1) := by decide +kernel
theorem dX_resultPairs_14 : decode bX_resultPairs 14 = .ok (.goto 4, 3) := by decide +kernel
theorem dX_resultPairs_17 : decode bX_resultPairs 17 = .ok (.iconst (-1), 1) := by decide +kernel
theorem dX_resultPairs_18 : decode bX_resultPairs 18 = .ok (.ireturn, 1) := by decide +kernel
theorem dX_resultSum_0 : decode bX_resultSum 0 = .ok (.aload_n 0, 1) := by decide +kernel
theorem dX_resultSum_1 : decode bX_resultSum 1 = .ok (.iload_n 1, 1) := by decide +kernel
theorem dX_resultSum_2 : decode bX_resultSum 2 = .ok (.invokevirtual 71, 3) := by decide +kernel
theorem dX_resultSum_5 : decode bX_resultSum 5 = .ok (.ifCond .eq 12, 3) := by decide +kernel
theorem dX_resultSum_8 : decode bX_resultSum 8 = .ok (.aload_n 0, 1) := by decide +kernel
theorem dX_resultSum_9 : decode bX_resultSum 9 = .ok (.getfield 35, 3) := by decide +kernel
theorem dX_resultSum_12 : decode bX_resultSum 12 = .ok (.iload_n 1, 1) := by decide +kernel
theorem dX_resultSum_13 : decode bX_resultSum 13 = .ok (.iaload, 1) := by decide +kernel
theorem dX_resultSum_14 : decode bX_resultSum 14 = .ok (.goto 4, 3) := by decide +kernel
theorem dX_resultSum_17 : decode bX_resultSum 17 = .ok (.iconst 0, 1) := by decide +kernel
theorem dX_resultSum_18 : decode bX_resultSum 18 = .ok (.ireturn, 1) := by decide +kernel
theorem dX_resultLeast_0 : decode bX_resultLeast 0 = .ok (.aload_n 0, 1) := by decide +kernel
theorem dX_resultLeast_1 : decode bX_resultLeast 1 = .ok (.iload_n 1, 1) := by decide +kernel
theorem dX_resultLeast_2 : decode bX_resultLeast 2 = .ok (.invokevirtual 71, 3) := by decide +kernel
theorem dX_resultLeast_5 : decode bX_resultLeast 5 = .ok (.ifCond .eq 12, 3) := by decide +kernel
theorem dX_resultLeast_8 : decode bX_resultLeast 8 = .ok (.aload_n 0, 1) := by decide +kernel
theorem dX_resultLeast_9 : decode bX_resultLeast 9 = .ok (.getfield 38, 3) := by decide +kernel
theorem dX_resultLeast_12 : decode bX_resultLeast 12 = .ok (.iload_n 1, 1) := by decide +kernel
theorem dX_resultLeast_13 : decode bX_resultLeast 13 = .ok (.iaload, 1) := by decide +kernel
theorem dX_resultLeast_14 : decode bX_resultLeast 14 = .ok (.goto 4, 3) := by decide +kernel
theorem dX_resultLeast_17 : decode bX_resultLeast 17 = .ok (.iconst 0, 1) := by decide +kernel
theorem dX_resultLeast_18 : decode bX_resultLeast 18 = .ok (.ireturn, 1) := by decide +kernel
theorem dX_resultGreatest_0 : decode bX_resultGreatest 0 = .ok (.aload_n 0, 1) := by decide +kernel
theorem dX_resultGreatest_1 : decode bX_resultGreatest 1 = .ok (.iload_n 1, 1) := by decide +kernel
theorem dX_resultGreatest_2 : decode bX_resultGreatest 2 = .ok (.invokevirtual 71, 3) := by decide +kernel
theorem dX_resultGreatest_5 : decode bX_resultGreatest 5 = .ok (.ifCond .eq 12, 3) := by decide +kernel
theorem dX_resultGreatest_8 : decode bX_resultGreatest 8 = .ok (.aload_n 0, 1) := by decide +kernel
theorem dX_resultGreatest_9 : decode bX_resultGreatest 9 = .ok (.getfield 41, 3) := by decide +kernel
theorem dX_resultGreatest_12 : decode bX_resultGreatest 12 = .ok (.iload_n 1, 1) := by decide +kernel
theorem dX_resultGreatest_13 : decode bX_resultGreatest 13 = .ok (.iaload, 1) := by decide +kernel
theorem dX_resultGreatest_14 : decode bX_resultGreatest 14 = .ok (.goto 4, 3) := by decide +kernel
theorem dX_resultGreatest_17 : decode bX_resultGreatest 17 = .ok (.iconst 0, 1) := by decide +kernel
theorem dX_resultGreatest_18 : decode bX_resultGreatest 18 = .ok (.ireturn, 1) := by decide +kernel
theorem dX_pairs_0 : decode bX_pairs 0 = .ok (.iload_n 1, 1) := by decide +kernel
theorem dX_pairs_1 : decode bX_pairs 1 = .ok (.invokestatic 52, 3) := by decide +kernel
theorem dX_pairs_4 : decode bX_pairs 4 = .ok (.ifCond .eq 11, 3) := by decide +kernel
theorem dX_pairs_7 : decode bX_pairs 7 = .ok (.aload_n 0, 1) := by decide +kernel
theorem dX_pairs_8 : decode bX_pairs 8 = .ok (.iload_n 1, 1) := by decide +kernel
theorem dX_pairs_9 : decode bX_pairs 9 = .ok (.invokevirtual 74, 3) := by decide +kernel
theorem dX_pairs_12 : decode bX_pairs 12 = .ok (.goto 4, 3) := by decide +kernel
theorem dX_pairs_15 : decode bX_pairs 15 = .ok (.iconst (-1), 1) := by decide +kernel
theorem dX_pairs_16 : decode bX_pairs 16 = .ok (.ireturn, 1) := by decide +kernel
theorem dX_sum_0 : decode bX_sum 0 = .ok (.iload_n 1, 1) := by decide +kernel
theorem dX_sum_1 : decode bX_sum 1 = .ok (.invokestatic 52, 3) := by decide +kernel
theorem dX_sum_4 : decode bX_sum 4 = .ok (.ifCond .eq 22, 3) := by decide +kernel
theorem dX_sum_7 : decode bX_sum 7 = .ok (.aload_n 0, 1) := by decide +kernel
theorem dX_sum_8 : decode bX_sum 8 = .ok (.getfield 22, 3) := by decide +kernel
theorem dX_sum_11 : decode bX_sum 11 = .ok (.iload_n 1, 1) := by decide +kernel
theorem dX_sum_12 : decode bX_sum 12 = .ok (.iaload, 1) := by decide +kernel
theorem dX_sum_13 : decode bX_sum 13 = .ok (.aload_n 0, 1) := by decide +kernel
theorem dX_sum_14 : decode bX_sum 14 = .ok (.getfield 22, 3) := by decide +kernel
theorem dX_sum_17 : decode bX_sum 17 = .ok (.bipush 16, 2) := by decide +kernel
theorem dX_sum_19 : decode bX_sum 19 = .ok (.iload_n 1, 1) := by decide +kernel
theorem dX_sum_20 : decode bX_sum 20 = .ok (.iadd, 1) := by decide +kernel
theorem dX_sum_21 : decode bX_sum 21 = .ok (.iaload, 1) := by decide +kernel
theorem dX_sum_22 : decode bX_sum 22 = .ok (.imul, 1) := by decide +kernel
theorem dX_sum_23 : decode bX_sum 23 = .ok (.goto 4, 3) := by decide +kernel
theorem dX_sum_26 : decode bX_sum 26 = .ok (.iconst 0, 1) := by decide +kernel
theorem dX_sum_27 : decode bX_sum 27 = .ok (.ireturn, 1) := by decide +kernel
theorem dX_least_0 : decode bX_least 0 = .ok (.iload_n 1, 1) := by decide +kernel
theorem dX_least_1 : decode bX_least 1 = .ok (.invokestatic 52, 3) := by decide +kernel
theorem dX_least_4 : decode bX_least 4 = .ok (.ifCond .eq 11, 3) := by decide +kernel
theorem dX_least_7 : decode bX_least 7 = .ok (.aload_n 0, 1) := by decide +kernel
theorem dX_least_8 : decode bX_least 8 = .ok (.iload_n 1, 1) := by decide +kernel
theorem dX_least_9 : decode bX_least 9 = .ok (.invokevirtual 74, 3) := by decide +kernel
theorem dX_least_12 : decode bX_least 12 = .ok (.ifCond .ne 7, 3) := by decide +kernel
theorem dX_least_15 : decode bX_least 15 = .ok (.sipush 10000, 3) := by decide +kernel
theorem dX_least_18 : decode bX_least 18 = .ok (.ireturn, 1) := by decide +kernel
theorem dX_least_19 : decode bX_least 19 = .ok (.aload_n 0, 1) := by decide +kernel
theorem dX_least_20 : decode bX_least 20 = .ok (.iload_n 1, 1) := by decide +kernel
theorem dX_least_21 : decode bX_least 21 = .ok (.invokevirtual 78, 3) := by decide +kernel
theorem dX_least_24 : decode bX_least 24 = .ok (.aload_n 0, 1) := by decide +kernel
theorem dX_least_25 : decode bX_least 25 = .ok (.getfield 81, 3) := by decide +kernel
theorem dX_least_28 : decode bX_least 28 = .ok (.ireturn, 1) := by decide +kernel
theorem dX_greatest_0 : decode bX_greatest 0 = .ok (.iload_n 1, 1) := by decide +kernel
theorem dX_greatest_1 : decode bX_greatest 1 = .ok (.invokestatic 52, 3) := by decide +kernel
theorem dX_greatest_4 : decode bX_greatest 4 = .ok (.ifCond .eq 11, 3) := by decide +kernel
theorem dX_greatest_7 : decode bX_greatest 7 = .ok (.aload_n 0, 1) := by decide +kernel
theorem dX_greatest_8 : decode bX_greatest 8 = .ok (.iload_n 1, 1) := by decide +kernel
theorem dX_greatest_9 : decode bX_greatest 9 = .ok (.invokevirtual 74, 3) := by decide +kernel
theorem dX_greatest_12 : decode bX_greatest 12 = .ok (.ifCond .ne 7, 3) := by decide +kernel
theorem dX_greatest_15 : decode bX_greatest 15 = .ok (.sipush (-10000), 3) := by decide +kernel
theorem dX_greatest_18 : decode bX_greatest 18 = .ok (.ireturn, 1) := by decide +kernel
theorem dX_greatest_19 : decode bX_greatest 19 = .ok (.aload_n 0, 1) := by decide +kernel
theorem dX_greatest_20 : decode bX_greatest 20 = .ok (.iload_n 1, 1) := by decide +kernel
theorem dX_greatest_21 : decode bX_greatest 21 = .ok (.invokevirtual 78, 3) := by decide +kernel
theorem dX_greatest_24 : decode bX_greatest 24 = .ok (.aload_n 0, 1) := by decide +kernel
theorem dX_greatest_25 : decode bX_greatest 25 = .ok (.getfield 84, 3) := by decide +kernel
theorem dX_greatest_28 : decode bX_greatest 28 = .ok (.ireturn, 1) := by decide +kernel
theorem dX_pairsFrom_0 : decode bX_pairsFrom 0 = .ok (.iconst 0, 1) := by decide +kernel
theorem dX_pairsFrom_1 : decode bX_pairsFrom 1 = .ok (.istore_n 2, 1) := by decide +kernel
theorem dX_pairsFrom_2 : decode bX_pairsFrom 2 = .ok (.iconst 0, 1) := by decide +kernel
theorem dX_pairsFrom_3 : decode bX_pairsFrom 3 = .ok (.istore_n 3, 1) := by decide +kernel
theorem dX_pairsFrom_4 : decode bX_pairsFrom 4 = .ok (.iload_n 3, 1) := by decide +kernel
theorem dX_pairsFrom_5 : decode bX_pairsFrom 5 = .ok (.aload_n 0, 1) := by decide +kernel
theorem dX_pairsFrom_6 : decode bX_pairsFrom 6 = .ok (.getfield 16, 3) := by decide +kernel
theorem dX_pairsFrom_9 : decode bX_pairsFrom 9 = .ok (.iconst 0, 1) := by decide +kernel
theorem dX_pairsFrom_10 : decode bX_pairsFrom 10 = .ok (.iaload, 1) := by decide +kernel
theorem dX_pairsFrom_11 : decode bX_pairsFrom 11 = .ok (.if_icmp .ge 29, 3) := by decide +kernel
theorem dX_pairsFrom_14 : decode bX_pairsFrom 14 = .ok (.iload_n 2, 1) := by decide +kernel
theorem dX_pairsFrom_15 : decode bX_pairsFrom 15 = .ok (.aload_n 0, 1) := by decide +kernel
theorem dX_pairsFrom_16 : decode bX_pairsFrom 16 = .ok (.aload_n 0, 1) := by decide +kernel
theorem dX_pairsFrom_17 : decode bX_pairsFrom 17 = .ok (.getfield 7, 3) := by decide +kernel
theorem dX_pairsFrom_20 : decode bX_pairsFrom 20 = .ok (.iload_n 3, 1) := by decide +kernel
theorem dX_pairsFrom_21 : decode bX_pairsFrom 21 = .ok (.iaload, 1) := by decide +kernel
theorem dX_pairsFrom_22 : decode bX_pairsFrom 22 = .ok (.aload_n 0, 1) := by decide +kernel
theorem dX_pairsFrom_23 : decode bX_pairsFrom 23 = .ok (.getfield 13, 3) := by decide +kernel
theorem dX_pairsFrom_26 : decode bX_pairsFrom 26 = .ok (.iload_n 3, 1) := by decide +kernel
theorem dX_pairsFrom_27 : decode bX_pairsFrom 27 = .ok (.iaload, 1) := by decide +kernel
theorem dX_pairsFrom_28 : decode bX_pairsFrom 28 = .ok (.iload_n 1, 1) := by decide +kernel
theorem dX_pairsFrom_29 : decode bX_pairsFrom 29 = .ok (.invokevirtual 87, 3) := by decide +kernel
theorem dX_pairsFrom_32 : decode bX_pairsFrom 32 = .ok (.iadd, 1) := by decide +kernel
theorem dX_pairsFrom_33 : decode bX_pairsFrom 33 = .ok (.istore_n 2, 1) := by decide +kernel
theorem dX_pairsFrom_34 : decode bX_pairsFrom 34 = .ok (.iinc 3 1, 3) := by decide +kernel
theorem dX_pairsFrom_37 : decode bX_pairsFrom 37 = .ok (.goto (-33), 3) := by decide +kernel
theorem dX_pairsFrom_40 : decode bX_pairsFrom 40 = .ok (.iload_n 2, 1) := by decide +kernel
theorem dX_pairsFrom_41 : decode bX_pairsFrom 41 = .ok (.ireturn, 1) := by decide +kernel
theorem dX_bandsFinished_0 : decode bX_bandsFinished 0 = .ok (.iconst 0, 1) := by decide +kernel
theorem dX_bandsFinished_1 : decode bX_bandsFinished 1 = .ok (.istore_n 1, 1) := by decide +kernel
theorem dX_bandsFinished_2 : decode bX_bandsFinished 2 = .ok (.iconst 0, 1) := by decide +kernel
theorem dX_bandsFinished_3 : decode bX_bandsFinished 3 = .ok (.istore_n 2, 1) := by decide +kernel
theorem dX_bandsFinished_4 : decode bX_bandsFinished 4 = .ok (.iload_n 2, 1) := by decide +kernel
theorem dX_bandsFinished_5 : decode bX_bandsFinished 5 = .ok (.iconst 4, 1) := by decide +kernel
theorem dX_bandsFinished_6 : decode bX_bandsFinished 6 = .ok (.if_icmp .ge 20, 3) := by decide +kernel
theorem dX_bandsFinished_9 : decode bX_bandsFinished 9 = .ok (.aload_n 0, 1) := by decide +kernel
theorem dX_bandsFinished_10 : decode bX_bandsFinished 10 = .ok (.iload_n 2, 1) := by decide +kernel
theorem dX_bandsFinished_11 : decode bX_bandsFinished 11 = .ok (.invokevirtual 90, 3) := by decide +kernel
theorem dX_bandsFinished_14 : decode bX_bandsFinished 14 = .ok (.ifCond .eq 6, 3) := by decide +kernel
theorem dX_bandsFinished_17 : decode bX_bandsFinished 17 = .ok (.iinc 1 1, 3) := by decide +kernel
theorem dX_bandsFinished_20 : decode bX_bandsFinished 20 = .ok (.iinc 2 1, 3) := by decide +kernel
theorem dX_bandsFinished_23 : decode bX_bandsFinished 23 = .ok (.goto (-19), 3) := by decide +kernel
theorem dX_bandsFinished_26 : decode bX_bandsFinished 26 = .ok (.iload_n 1, 1) := by decide +kernel
theorem dX_bandsFinished_27 : decode bX_bandsFinished 27 = .ok (.ireturn, 1) := by decide +kernel
theorem dX_bandSum_0 : decode bX_bandSum 0 = .ok (.iload_n 1, 1) := by decide +kernel
theorem dX_bandSum_1 : decode bX_bandSum 1 = .ok (.ifCond .lt 8, 3) := by decide +kernel
theorem dX_bandSum_4 : decode bX_bandSum 4 = .ok (.iload_n 1, 1) := by decide +kernel
theorem dX_bandSum_5 : decode bX_bandSum 5 = .ok (.iconst 3, 1) := by decide +kernel
theorem dX_bandSum_6 : decode bX_bandSum 6 = .ok (.if_icmp .le 6, 3) := by decide +kernel
theorem dX_bandSum_9 : decode bX_bandSum 9 = .ok (.ldc 93, 2) := by decide +kernel
theorem dX_bandSum_11 : decode bX_bandSum 11 = .ok (.ireturn, 1) := by decide +kernel
theorem dX_bandSum_12 : decode bX_bandSum 12 = .ok (.aload_n 0, 1) := by decide +kernel
theorem dX_bandSum_13 : decode bX_bandSum 13 = .ok (.iload_n 1, 1) := by decide +kernel
theorem dX_bandSum_14 : decode bX_bandSum 14 = .ok (.invokevirtual 90, 3) := by decide +kernel
theorem dX_bandSum_17 : decode bX_bandSum 17 = .ok (.ifCond .ne 6, 3) := by decide +kernel
theorem dX_bandSum_20 : decode bX_bandSum 20 = .ok (.ldc 94, 2) := by decide +kernel
theorem dX_bandSum_22 : decode bX_bandSum 22 = .ok (.ireturn, 1) := by decide +kernel
theorem dX_bandSum_23 : decode bX_bandSum 23 = .ok (.iconst 0, 1) := by decide +kernel
theorem dX_bandSum_24 : decode bX_bandSum 24 = .ok (.istore_n 2, 1) := by decide +kernel
theorem dX_bandSum_25 : decode bX_bandSum 25 = .ok (.iconst 0, 1) := by decide +kernel
theorem dX_bandSum_26 : decode bX_bandSum 26 = .ok (.istore_n 3, 1) := by decide +kernel
theorem dX_bandSum_27 : decode bX_bandSum 27 = .ok (.iload_n 3, 1) := by decide +kernel
theorem dX_bandSum_28 : decode bX_bandSum 28 = .ok (.aload_n 0, 1) := by decide +kernel
theorem dX_bandSum_29 : decode bX_bandSum 29 = .ok (.getfield 44, 3) := by decide +kernel
theorem dX_bandSum_32 : decode bX_bandSum 32 = .ok (.if_icmp .ge 30, 3) := by decide +kernel
theorem dX_bandSum_35 : decode bX_bandSum 35 = .ok (.aload_n 0, 1) := by decide +kernel
theorem dX_bandSum_36 : decode bX_bandSum 36 = .ok (.getfield 29, 3) := by decide +kernel
theorem dX_bandSum_39 : decode bX_bandSum 39 = .ok (.iload_n 3, 1) := by decide +kernel
theorem dX_bandSum_40 : decode bX_bandSum 40 = .ok (.iaload, 1) := by decide +kernel
theorem dX_bandSum_41 : decode bX_bandSum 41 = .ok (.iconst 2, 1) := by decide +kernel
theorem dX_bandSum_42 : decode bX_bandSum 42 = .ok (.ishr, 1) := by decide +kernel
theorem dX_bandSum_43 : decode bX_bandSum 43 = .ok (.iload_n 1, 1) := by decide +kernel
theorem dX_bandSum_44 : decode bX_bandSum 44 = .ok (.if_icmp .ne 12, 3) := by decide +kernel
theorem dX_bandSum_47 : decode bX_bandSum 47 = .ok (.iload_n 2, 1) := by decide +kernel
theorem dX_bandSum_48 : decode bX_bandSum 48 = .ok (.aload_n 0, 1) := by decide +kernel
theorem dX_bandSum_49 : decode bX_bandSum 49 = .ok (.getfield 35, 3) := by decide +kernel
theorem dX_bandSum_52 : decode bX_bandSum 52 = .ok (.iload_n 3, 1) := by decide +kernel
theorem dX_bandSum_53 : decode bX_bandSum 53 = .ok (.iaload, 1) := by decide +kernel
theorem dX_bandSum_54 : decode bX_bandSum 54 = .ok (.iadd, 1) := by decide +kernel
theorem dX_bandSum_55 : decode bX_bandSum 55 = .ok (.istore_n 2, 1) := by decide +kernel
theorem dX_bandSum_56 : decode bX_bandSum 56 = .ok (.iinc 3 1, 3) := by decide +kernel
theorem dX_bandSum_59 : decode bX_bandSum 59 = .ok (.goto (-32), 3) := by decide +kernel
theorem dX_bandSum_62 : decode bX_bandSum 62 = .ok (.iload_n 2, 1) := by decide +kernel
theorem dX_bandSum_63 : decode bX_bandSum 63 = .ok (.ireturn, 1) := by decide +kernel
theorem dX_isStream_0 : decode bX_isStream 0 = .ok (.iload_n 0, 1) := by decide +kernel
theorem dX_isStream_1 : decode bX_isStream 1 = .ok (.ifCond .eq 8, 3) := by decide +kernel
theorem dX_isStream_4 : decode bX_isStream 4 = .ok (.iload_n 0, 1) := by decide +kernel
theorem dX_isStream_5 : decode bX_isStream 5 = .ok (.iconst 1, 1) := by decide +kernel
theorem dX_isStream_6 : decode bX_isStream 6 = .ok (.if_icmp .ne 7, 3) := by decide +kernel
theorem dX_isStream_9 : decode bX_isStream 9 = .ok (.iconst 1, 1) := by decide +kernel
theorem dX_isStream_10 : decode bX_isStream 10 = .ok (.goto 4, 3) := by decide +kernel
theorem dX_isStream_13 : decode bX_isStream 13 = .ok (.iconst 0, 1) := by decide +kernel
theorem dX_isStream_14 : decode bX_isStream 14 = .ok (.ireturn, 1) := by decide +kernel
theorem dX_isKey_0 : decode bX_isKey 0 = .ok (.iload_n 0, 1) := by decide +kernel
theorem dX_isKey_1 : decode bX_isKey 1 = .ok (.ifCond .lt 13, 3) := by decide +kernel
theorem dX_isKey_4 : decode bX_isKey 4 = .ok (.iload_n 0, 1) := by decide +kernel
theorem dX_isKey_5 : decode bX_isKey 5 = .ok (.bipush 16, 2) := by decide +kernel
theorem dX_isKey_7 : decode bX_isKey 7 = .ok (.if_icmp .ge 7, 3) := by decide +kernel
theorem dX_isKey_10 : decode bX_isKey 10 = .ok (.iconst 1, 1) := by decide +kernel
theorem dX_isKey_11 : decode bX_isKey 11 = .ok (.goto 4, 3) := by decide +kernel
theorem dX_isKey_14 : decode bX_isKey 14 = .ok (.iconst 0, 1) := by decide +kernel
theorem dX_isKey_15 : decode bX_isKey 15 = .ok (.ireturn, 1) := by decide +kernel
theorem dX_isResult_0 : decode bX_isResult 0 = .ok (.iload_n 1, 1) := by decide +kernel
theorem dX_isResult_1 : decode bX_isResult 1 = .ok (.ifCond .lt 15, 3) := by decide +kernel
theorem dX_isResult_4 : decode bX_isResult 4 = .ok (.iload_n 1, 1) := by decide +kernel
theorem dX_isResult_5 : decode bX_isResult 5 = .ok (.aload_n 0, 1) := by decide +kernel
theorem dX_isResult_6 : decode bX_isResult 6 = .ok (.getfield 44, 3) := by decide +kernel
theorem dX_isResult_9 : decode bX_isResult 9 = .ok (.if_icmp .ge 7, 3) := by decide +kernel
theorem dX_isResult_12 : decode bX_isResult 12 = .ok (.iconst 1, 1) := by decide +kernel
theorem dX_isResult_13 : decode bX_isResult 13 = .ok (.goto 4, 3) := by decide +kernel
theorem dX_isResult_16 : decode bX_isResult 16 = .ok (.iconst 0, 1) := by decide +kernel
theorem dX_isResult_17 : decode bX_isResult 17 = .ok (.ireturn, 1) := by decide +kernel
theorem dX_countOf_0 : decode bX_countOf 0 = .ok (.aload_n 0, 1) := by decide +kernel
theorem dX_countOf_1 : decode bX_countOf 1 = .ok (.getfield 19, 3) := by decide +kernel
theorem dX_countOf_4 : decode bX_countOf 4 = .ok (.bipush 17, 2) := by decide +kernel
theorem dX_countOf_6 : decode bX_countOf 6 = .ok (.iload_n 1, 1) := by decide +kernel
theorem dX_countOf_7 : decode bX_countOf 7 = .ok (.imul, 1) := by decide +kernel
theorem dX_countOf_8 : decode bX_countOf 8 = .ok (.iload_n 2, 1) := by decide +kernel
theorem dX_countOf_9 : decode bX_countOf 9 = .ok (.iadd, 1) := by decide +kernel
theorem dX_countOf_10 : decode bX_countOf 10 = .ok (.iconst 1, 1) := by decide +kernel
theorem dX_countOf_11 : decode bX_countOf 11 = .ok (.iadd, 1) := by decide +kernel
theorem dX_countOf_12 : decode bX_countOf 12 = .ok (.iaload, 1) := by decide +kernel
theorem dX_countOf_13 : decode bX_countOf 13 = .ok (.aload_n 0, 1) := by decide +kernel
theorem dX_countOf_14 : decode bX_countOf 14 = .ok (.getfield 19, 3) := by decide +kernel
theorem dX_countOf_17 : decode bX_countOf 17 = .ok (.bipush 17, 2) := by decide +kernel
theorem dX_countOf_19 : decode bX_countOf 19 = .ok (.iload_n 1, 1) := by decide +kernel
theorem dX_countOf_20 : decode bX_countOf 20 = .ok (.imul, 1) := by decide +kernel
theorem dX_countOf_21 : decode bX_countOf 21 = .ok (.iload_n 2, 1) := by decide +kernel
theorem dX_countOf_22 : decode bX_countOf 22 = .ok (.iadd, 1) := by decide +kernel
theorem dX_countOf_23 : decode bX_countOf 23 = .ok (.iaload, 1) := by decide +kernel
theorem dX_countOf_24 : decode bX_countOf 24 = .ok (.isub, 1) := by decide +kernel
theorem dX_countOf_25 : decode bX_countOf 25 = .ok (.ireturn, 1) := by decide +kernel
theorem dX_pairsOf_0 : decode bX_pairsOf 0 = .ok (.aload_n 0, 1) := by decide +kernel
theorem dX_pairsOf_1 : decode bX_pairsOf 1 = .ok (.iconst 0, 1) := by decide +kernel
theorem dX_pairsOf_2 : decode bX_pairsOf 2 = .ok (.iload_n 1, 1) := by decide +kernel
theorem dX_pairsOf_3 : decode bX_pairsOf 3 = .ok (.invokevirtual 67, 3) := by decide +kernel
theorem dX_pairsOf_6 : decode bX_pairsOf 6 = .ok (.aload_n 0, 1) := by decide +kernel
theorem dX_pairsOf_7 : decode bX_pairsOf 7 = .ok (.iconst 1, 1) := by decide +kernel
theorem dX_pairsOf_8 : decode bX_pairsOf 8 = .ok (.iload_n 1, 1) := by decide +kernel
theorem dX_pairsOf_9 : decode bX_pairsOf 9 = .ok (.invokevirtual 67, 3) := by decide +kernel
theorem dX_pairsOf_12 : decode bX_pairsOf 12 = .ok (.imul, 1) := by decide +kernel
theorem dX_pairsOf_13 : decode bX_pairsOf 13 = .ok (.ireturn, 1) := by decide +kernel
theorem dX_shiftBegins_0 : decode bX_shiftBegins 0 = .ok (.iload_n 2, 1) := by decide +kernel
theorem dX_shiftBegins_1 : decode bX_shiftBegins 1 = .ok (.iconst 1, 1) := by decide +kernel
theorem dX_shiftBegins_2 : decode bX_shiftBegins 2 = .ok (.iadd, 1) := by decide +kernel
theorem dX_shiftBegins_3 : decode bX_shiftBegins 3 = .ok (.istore 4, 2) := by decide +kernel
theorem dX_shiftBegins_5 : decode bX_shiftBegins 5 = .ok (.iload 4, 2) := by decide +kernel
theorem dX_shiftBegins_7 : decode bX_shiftBegins 7 = .ok (.bipush 16, 2) := by decide +kernel
theorem dX_shiftBegins_9 : decode bX_shiftBegins 9 = .ok (.if_icmp .gt 25, 3) := by decide +kernel
theorem dX_shiftBegins_12 : decode bX_shiftBegins 12 = .ok (.aload_n 0, 1) := by decide +kernel
theorem dX_shiftBegins_13 : decode bX_shiftBegins 13 = .ok (.getfield 19, 3) := by decide +kernel
theorem dX_shiftBegins_16 : decode bX_shiftBegins 16 = .ok (.bipush 17, 2) := by decide +kernel
theorem dX_shiftBegins_18 : decode bX_shiftBegins 18 = .ok (.iload_n 1, 1) := by decide +kernel
theorem dX_shiftBegins_19 : decode bX_shiftBegins 19 = .ok (.imul, 1) := by decide +kernel
theorem dX_shiftBegins_20 : decode bX_shiftBegins 20 = .ok (.iload 4, 2) := by decide +kernel
theorem dX_shiftBegins_22 : decode bX_shiftBegins 22 = .ok (.iadd, 1) := by decide +kernel
theorem dX_shiftBegins_23 : decode bX_shiftBegins 23 = .ok (.dup2, 1) := by decide +kernel
theorem dX_shiftBegins_24 : decode bX_shiftBegins 24 = .ok (.iaload, 1) := by decide +kernel
theorem dX_shiftBegins_25 : decode bX_shiftBegins 25 = .ok (.iload_n 3, 1) := by decide +kernel
theorem dX_shiftBegins_26 : decode bX_shiftBegins 26 = .ok (.iadd, 1) := by decide +kernel
theorem dX_shiftBegins_27 : decode bX_shiftBegins 27 = .ok (.iastore, 1) := by decide +kernel
theorem dX_shiftBegins_28 : decode bX_shiftBegins 28 = .ok (.iinc 4 1, 3) := by decide +kernel
theorem dX_shiftBegins_31 : decode bX_shiftBegins 31 = .ok (.goto (-26), 3) := by decide +kernel
theorem dX_shiftBegins_34 : decode bX_shiftBegins 34 = .ok (.return_, 1) := by decide +kernel
theorem dX_place_0 : decode bX_place 0 = .ok (.bipush 40, 2) := by decide +kernel
theorem dX_place_2 : decode bX_place 2 = .ok (.iload_n 1, 1) := by decide +kernel
theorem dX_place_3 : decode bX_place 3 = .ok (.imul, 1) := by decide +kernel
theorem dX_place_4 : decode bX_place 4 = .ok (.aload_n 0, 1) := by decide +kernel
theorem dX_place_5 : decode bX_place 5 = .ok (.getfield 19, 3) := by decide +kernel
theorem dX_place_8 : decode bX_place 8 = .ok (.bipush 17, 2) := by decide +kernel
theorem dX_place_10 : decode bX_place 10 = .ok (.iload_n 1, 1) := by decide +kernel
theorem dX_place_11 : decode bX_place 11 = .ok (.imul, 1) := by decide +kernel
theorem dX_place_12 : decode bX_place 12 = .ok (.iload_n 2, 1) := by decide +kernel
theorem dX_place_13 : decode bX_place 13 = .ok (.iadd, 1) := by decide +kernel
theorem dX_place_14 : decode bX_place 14 = .ok (.iaload, 1) := by decide +kernel
theorem dX_place_15 : decode bX_place 15 = .ok (.iadd, 1) := by decide +kernel
theorem dX_place_16 : decode bX_place 16 = .ok (.istore 4, 2) := by decide +kernel
theorem dX_place_18 : decode bX_place 18 = .ok (.bipush 40, 2) := by decide +kernel
theorem dX_place_20 : decode bX_place 20 = .ok (.iload_n 1, 1) := by decide +kernel
theorem dX_place_21 : decode bX_place 21 = .ok (.imul, 1) := by decide +kernel
theorem dX_place_22 : decode bX_place 22 = .ok (.aload_n 0, 1) := by decide +kernel
theorem dX_place_23 : decode bX_place 23 = .ok (.getfield 19, 3) := by decide +kernel
theorem dX_place_26 : decode bX_place 26 = .ok (.bipush 17, 2) := by decide +kernel
theorem dX_place_28 : decode bX_place 28 = .ok (.iload_n 1, 1) := by decide +kernel
theorem dX_place_29 : decode bX_place 29 = .ok (.imul, 1) := by decide +kernel
theorem dX_place_30 : decode bX_place 30 = .ok (.iload_n 2, 1) := by decide +kernel
theorem dX_place_31 : decode bX_place 31 = .ok (.iadd, 1) := by decide +kernel
theorem dX_place_32 : decode bX_place 32 = .ok (.iconst 1, 1) := by decide +kernel
theorem dX_place_33 : decode bX_place 33 = .ok (.iadd, 1) := by decide +kernel
theorem dX_place_34 : decode bX_place 34 = .ok (.iaload, 1) := by decide +kernel
theorem dX_place_35 : decode bX_place 35 = .ok (.iadd, 1) := by decide +kernel
theorem dX_place_36 : decode bX_place 36 = .ok (.istore 5, 2) := by decide +kernel
theorem dX_place_38 : decode bX_place 38 = .ok (.iconst 0, 1) := by decide +kernel
theorem dX_place_39 : decode bX_place 39 = .ok (.istore 6, 2) := by decide +kernel
theorem dX_place_41 : decode bX_place 41 = .ok (.iload 6, 2) := by decide +kernel
theorem dX_place_43 : decode bX_place 43 = .ok (.bipush 8, 2) := by decide +kernel
theorem dX_place_45 : decode bX_place 45 = .ok (.if_icmp .ge 49, 3) := by decide +kernel
theorem dX_place_48 : decode bX_place 48 = .ok (.iload 4, 2) := by decide +kernel
theorem dX_place_50 : decode bX_place 50 = .ok (.iload 5, 2) := by decide +kernel
theorem dX_place_52 : decode bX_place 52 = .ok (.if_icmp .ge 42, 3) := by decide +kernel
theorem dX_place_55 : decode bX_place 55 = .ok (.iload 4, 2) := by decide +kernel
theorem dX_place_57 : decode bX_place 57 = .ok (.iload 5, 2) := by decide +kernel
theorem dX_place_59 : decode bX_place 59 = .ok (.iadd, 1) := by decide +kernel
theorem dX_place_60 : decode bX_place 60 = .ok (.iconst 1, 1) := by decide +kernel
theorem dX_place_61 : decode bX_place 61 = .ok (.ishr, 1) := by decide +kernel
theorem dX_place_62 : decode bX_place 62 = .ok (.istore 7, 2) := by decide +kernel
theorem dX_place_64 : decode bX_place 64 = .ok (.aload_n 0, 1) := by decide +kernel
theorem dX_place_65 : decode bX_place 65 = .ok (.getfield 13, 3) := by decide +kernel
theorem dX_place_68 : decode bX_place 68 = .ok (.iload 7, 2) := by decide +kernel
theorem dX_place_70 : decode bX_place 70 = .ok (.iaload, 1) := by decide +kernel
theorem dX_place_71 : decode bX_place 71 = .ok (.iload_n 3, 1) := by decide +kernel
theorem dX_place_72 : decode bX_place 72 = .ok (.if_icmp .ge 12, 3) := by decide +kernel
theorem dX_place_75 : decode bX_place 75 = .ok (.iload 7, 2) := by decide +kernel
theorem dX_place_77 : decode bX_place 77 = .ok (.iconst 1, 1) := by decide +kernel
theorem dX_place_78 : decode bX_place 78 = .ok (.iadd, 1) := by decide +kernel
theorem dX_place_79 : decode bX_place 79 = .ok (.istore 4, 2) := by decide +kernel
theorem dX_place_81 : decode bX_place 81 = .ok (.goto 7, 3) := by decide +kernel
theorem dX_place_84 : decode bX_place 84 = .ok (.iload 7, 2) := by decide +kernel
theorem dX_place_86 : decode bX_place 86 = .ok (.istore 5, 2) := by decide +kernel
theorem dX_place_88 : decode bX_place 88 = .ok (.iinc 6 1, 3) := by decide +kernel
theorem dX_place_91 : decode bX_place 91 = .ok (.goto (-50), 3) := by decide +kernel
theorem dX_place_94 : decode bX_place 94 = .ok (.iload 4, 2) := by decide +kernel
theorem dX_place_96 : decode bX_place 96 = .ok (.ireturn, 1) := by decide +kernel
theorem dX_extremes_0 : decode bX_extremes 0 = .ok (.aload_n 0, 1) := by decide +kernel
theorem dX_extremes_1 : decode bX_extremes 1 = .ok (.getfield 13, 3) := by decide +kernel
theorem dX_extremes_4 : decode bX_extremes 4 = .ok (.aload_n 0, 1) := by decide +kernel
theorem dX_extremes_5 : decode bX_extremes 5 = .ok (.getfield 19, 3) := by decide +kernel
theorem dX_extremes_8 : decode bX_extremes 8 = .ok (.iload_n 1, 1) := by decide +kernel
theorem dX_extremes_9 : decode bX_extremes 9 = .ok (.iaload, 1) := by decide +kernel
theorem dX_extremes_10 : decode bX_extremes 10 = .ok (.iaload, 1) := by decide +kernel
theorem dX_extremes_11 : decode bX_extremes 11 = .ok (.istore_n 2, 1) := by decide +kernel
theorem dX_extremes_12 : decode bX_extremes 12 = .ok (.aload_n 0, 1) := by decide +kernel
theorem dX_extremes_13 : decode bX_extremes 13 = .ok (.getfield 13, 3) := by decide +kernel
theorem dX_extremes_16 : decode bX_extremes 16 = .ok (.aload_n 0, 1) := by decide +kernel
theorem dX_extremes_17 : decode bX_extremes 17 = .ok (.getfield 19, 3) := by decide +kernel
theorem dX_extremes_20 : decode bX_extremes 20 = .ok (.iload_n 1, 1) := by decide +kernel
theorem dX_extremes_21 : decode bX_extremes 21 = .ok (.iconst 1, 1) := by decide +kernel
theorem dX_extremes_22 : decode bX_extremes 22 = .ok (.iadd, 1) := by decide +kernel
theorem dX_extremes_23 : decode bX_extremes 23 = .ok (.iaload, 1) := by decide +kernel
theorem dX_extremes_24 : decode bX_extremes 24 = .ok (.iconst 1, 1) := by decide +kernel
theorem dX_extremes_25 : decode bX_extremes 25 = .ok (.isub, 1) := by decide +kernel
theorem dX_extremes_26 : decode bX_extremes 26 = .ok (.iaload, 1) := by decide +kernel
theorem dX_extremes_27 : decode bX_extremes 27 = .ok (.istore_n 3, 1) := by decide +kernel
theorem dX_extremes_28 : decode bX_extremes 28 = .ok (.aload_n 0, 1) := by decide +kernel
theorem dX_extremes_29 : decode bX_extremes 29 = .ok (.getfield 13, 3) := by decide +kernel
theorem dX_extremes_32 : decode bX_extremes 32 = .ok (.bipush 40, 2) := by decide +kernel
theorem dX_extremes_34 : decode bX_extremes 34 = .ok (.aload_n 0, 1) := by decide +kernel
theorem dX_extremes_35 : decode bX_extremes 35 = .ok (.getfield 19, 3) := by decide +kernel
theorem dX_extremes_38 : decode bX_extremes 38 = .ok (.bipush 17, 2) := by decide +kernel
theorem dX_extremes_40 : decode bX_extremes 40 = .ok (.iload_n 1, 1) := by decide +kernel
theorem dX_extremes_41 : decode bX_extremes 41 = .ok (.iadd, 1) := by decide +kernel
theorem dX_extremes_42 : decode bX_extremes 42 = .ok (.iaload, 1) := by decide +kernel
theorem dX_extremes_43 : decode bX_extremes 43 = .ok (.iadd, 1) := by decide +kernel
theorem dX_extremes_44 : decode bX_extremes 44 = .ok (.iaload, 1) := by decide +kernel
theorem dX_extremes_45 : decode bX_extremes 45 = .ok (.istore 4, 2) := by decide +kernel
theorem dX_extremes_47 : decode bX_extremes 47 = .ok (.aload_n 0, 1) := by decide +kernel
theorem dX_extremes_48 : decode bX_extremes 48 = .ok (.getfield 13, 3) := by decide +kernel
theorem dX_extremes_51 : decode bX_extremes 51 = .ok (.bipush 40, 2) := by decide +kernel
theorem dX_extremes_53 : decode bX_extremes 53 = .ok (.aload_n 0, 1) := by decide +kernel
theorem dX_extremes_54 : decode bX_extremes 54 = .ok (.getfield 19, 3) := by decide +kernel
theorem dX_extremes_57 : decode bX_extremes 57 = .ok (.bipush 17, 2) := by decide +kernel
theorem dX_extremes_59 : decode bX_extremes 59 = .ok (.iload_n 1, 1) := by decide +kernel
theorem dX_extremes_60 : decode bX_extremes 60 = .ok (.iadd, 1) := by decide +kernel
theorem dX_extremes_61 : decode bX_extremes 61 = .ok (.iconst 1, 1) := by decide +kernel
theorem dX_extremes_62 : decode bX_extremes 62 = .ok (.iadd, 1) := by decide +kernel
theorem dX_extremes_63 : decode bX_extremes 63 = .ok (.iaload, 1) := by decide +kernel
theorem dX_extremes_64 : decode bX_extremes 64 = .ok (.iadd, 1) := by decide +kernel
theorem dX_extremes_65 : decode bX_extremes 65 = .ok (.iconst 1, 1) := by decide +kernel
theorem dX_extremes_66 : decode bX_extremes 66 = .ok (.isub, 1) := by decide +kernel
theorem dX_extremes_67 : decode bX_extremes 67 = .ok (.iaload, 1) := by decide +kernel
theorem dX_extremes_68 : decode bX_extremes 68 = .ok (.istore 5, 2) := by decide +kernel
theorem dX_extremes_70 : decode bX_extremes 70 = .ok (.aload_n 0, 1) := by decide +kernel
theorem dX_extremes_71 : decode bX_extremes 71 = .ok (.iload_n 2, 1) := by decide +kernel
theorem dX_extremes_72 : decode bX_extremes 72 = .ok (.iload 4, 2) := by decide +kernel
theorem dX_extremes_74 : decode bX_extremes 74 = .ok (.imul, 1) := by decide +kernel
theorem dX_extremes_75 : decode bX_extremes 75 = .ok (.putfield 81, 3) := by decide +kernel
theorem dX_extremes_78 : decode bX_extremes 78 = .ok (.aload_n 0, 1) := by decide +kernel
theorem dX_extremes_79 : decode bX_extremes 79 = .ok (.aload_n 0, 1) := by decide +kernel
theorem dX_extremes_80 : decode bX_extremes 80 = .ok (.getfield 81, 3) := by decide +kernel
theorem dX_extremes_83 : decode bX_extremes 83 = .ok (.putfield 84, 3) := by decide +kernel
theorem dX_extremes_86 : decode bX_extremes 86 = .ok (.aload_n 0, 1) := by decide +kernel
theorem dX_extremes_87 : decode bX_extremes 87 = .ok (.iload_n 2, 1) := by decide +kernel
theorem dX_extremes_88 : decode bX_extremes 88 = .ok (.iload 5, 2) := by decide +kernel
theorem dX_extremes_90 : decode bX_extremes 90 = .ok (.imul, 1) := by decide +kernel
theorem dX_extremes_91 : decode bX_extremes 91 = .ok (.invokevirtual 95, 3) := by decide +kernel
theorem dX_extremes_94 : decode bX_extremes 94 = .ok (.aload_n 0, 1) := by decide +kernel
theorem dX_extremes_95 : decode bX_extremes 95 = .ok (.iload_n 3, 1) := by decide +kernel
theorem dX_extremes_96 : decode bX_extremes 96 = .ok (.iload 4, 2) := by decide +kernel
theorem dX_extremes_98 : decode bX_extremes 98 = .ok (.imul, 1) := by decide +kernel
theorem dX_extremes_99 : decode bX_extremes 99 = .ok (.invokevirtual 95, 3) := by decide +kernel
theorem dX_extremes_102 : decode bX_extremes 102 = .ok (.aload_n 0, 1) := by decide +kernel
theorem dX_extremes_103 : decode bX_extremes 103 = .ok (.iload_n 3, 1) := by decide +kernel
theorem dX_extremes_104 : decode bX_extremes 104 = .ok (.iload 5, 2) := by decide +kernel
theorem dX_extremes_106 : decode bX_extremes 106 = .ok (.imul, 1) := by decide +kernel
theorem dX_extremes_107 : decode bX_extremes 107 = .ok (.invokevirtual 95, 3) := by decide +kernel
theorem dX_extremes_110 : decode bX_extremes 110 = .ok (.return_, 1) := by decide +kernel
theorem dX_spread_0 : decode bX_spread 0 = .ok (.aload_n 0, 1) := by decide +kernel
theorem dX_spread_1 : decode bX_spread 1 = .ok (.iload_n 1, 1) := by decide +kernel
theorem dX_spread_2 : decode bX_spread 2 = .ok (.aload_n 0, 1) := by decide +kernel
theorem dX_spread_3 : decode bX_spread 3 = .ok (.getfield 81, 3) := by decide +kernel
theorem dX_spread_6 : decode bX_spread 6 = .ok (.if_icmp .ge 7, 3) := by decide +kernel
theorem dX_spread_9 : decode bX_spread 9 = .ok (.iload_n 1, 1) := by decide +kernel
theorem dX_spread_10 : decode bX_spread 10 = .ok (.goto 7, 3) := by decide +kernel
theorem dX_spread_13 : decode bX_spread 13 = .ok (.aload_n 0, 1) := by decide +kernel
theorem dX_spread_14 : decode bX_spread 14 = .ok (.getfield 81, 3) := by decide +kernel
theorem dX_spread_17 : decode bX_spread 17 = .ok (.putfield 81, 3) := by decide +kernel
theorem dX_spread_20 : decode bX_spread 20 = .ok (.aload_n 0, 1) := by decide +kernel
theorem dX_spread_21 : decode bX_spread 21 = .ok (.iload_n 1, 1) := by decide +kernel
theorem dX_spread_22 : decode bX_spread 22 = .ok (.aload_n 0, 1) := by decide +kernel
theorem dX_spread_23 : decode bX_spread 23 = .ok (.getfield 84, 3) := by decide +kernel
theorem dX_spread_26 : decode bX_spread 26 = .ok (.if_icmp .le 7, 3) := by decide +kernel
theorem dX_spread_29 : decode bX_spread 29 = .ok (.iload_n 1, 1) := by decide +kernel
theorem dX_spread_30 : decode bX_spread 30 = .ok (.goto 7, 3) := by decide +kernel
theorem dX_spread_33 : decode bX_spread 33 = .ok (.aload_n 0, 1) := by decide +kernel
theorem dX_spread_34 : decode bX_spread 34 = .ok (.getfield 84, 3) := by decide +kernel
theorem dX_spread_37 : decode bX_spread 37 = .ok (.putfield 84, 3) := by decide +kernel
theorem dX_spread_40 : decode bX_spread 40 = .ok (.return_, 1) := by decide +kernel
theorem dX_partnersFrom_0 : decode bX_partnersFrom 0 = .ok (.aload_n 0, 1) := by decide +kernel
theorem dX_partnersFrom_1 : decode bX_partnersFrom 1 = .ok (.iconst 1, 1) := by decide +kernel
theorem dX_partnersFrom_2 : decode bX_partnersFrom 2 = .ok (.iload_n 1, 1) := by decide +kernel
theorem dX_partnersFrom_3 : decode bX_partnersFrom 3 = .ok (.invokevirtual 67, 3) := by decide +kernel
theorem dX_partnersFrom_6 : decode bX_partnersFrom 6 = .ok (.istore 4, 2) := by decide +kernel
theorem dX_partnersFrom_8 : decode bX_partnersFrom 8 = .ok (.iload 4, 2) := by decide +kernel
theorem dX_partnersFrom_10 : decode bX_partnersFrom 10 = .ok (.ifCond .eq 7, 3) := by decide +kernel
theorem dX_partnersFrom_13 : decode bX_partnersFrom 13 = .ok (.iload_n 2, 1) := by decide +kernel
theorem dX_partnersFrom_14 : decode bX_partnersFrom 14 = .ok (.ifCond .ne 14, 3) := by decide +kernel
theorem dX_partnersFrom_17 : decode bX_partnersFrom 17 = .ok (.iload_n 3, 1) := by decide +kernel
theorem dX_partnersFrom_18 : decode bX_partnersFrom 18 = .ok (.ifCond .gt 8, 3) := by decide +kernel
theorem dX_partnersFrom_21 : decode bX_partnersFrom 21 = .ok (.iload 4, 2) := by decide +kernel
theorem dX_partnersFrom_23 : decode bX_partnersFrom 23 = .ok (.goto 4, 3) := by decide +kernel
theorem dX_partnersFrom_26 : decode bX_partnersFrom 26 = .ok (.iconst 0, 1) := by decide +kernel
theorem dX_partnersFrom_27 : decode bX_partnersFrom 27 = .ok (.ireturn, 1) := by decide +kernel
theorem dX_partnersFrom_28 : decode bX_partnersFrom 28 = .ok (.bipush 40, 2) := by decide +kernel
theorem dX_partnersFrom_30 : decode bX_partnersFrom 30 = .ok (.aload_n 0, 1) := by decide +kernel
theorem dX_partnersFrom_31 : decode bX_partnersFrom 31 = .ok (.getfield 19, 3) := by decide +kernel
theorem dX_partnersFrom_34 : decode bX_partnersFrom 34 = .ok (.bipush 17, 2) := by decide +kernel
theorem dX_partnersFrom_36 : decode bX_partnersFrom 36 = .ok (.iload_n 1, 1) := by decide +kernel
theorem dX_partnersFrom_37 : decode bX_partnersFrom 37 = .ok (.iadd, 1) := by decide +kernel
theorem dX_partnersFrom_38 : decode bX_partnersFrom 38 = .ok (.iaload, 1) := by decide +kernel
theorem dX_partnersFrom_39 : decode bX_partnersFrom 39 = .ok (.iadd, 1) := by decide +kernel
theorem dX_partnersFrom_40 : decode bX_partnersFrom 40 = .ok (.istore 5, 2) := by decide +kernel
theorem dX_partnersFrom_42 : decode bX_partnersFrom 42 = .ok (.iload_n 3, 1) := by decide +kernel
theorem dX_partnersFrom_43 : decode bX_partnersFrom 43 = .ok (.sipush (-3000), 3) := by decide +kernel
theorem dX_partnersFrom_46 : decode bX_partnersFrom 46 = .ok (.if_icmp .ge 9, 3) := by decide +kernel
theorem dX_partnersFrom_49 : decode bX_partnersFrom 49 = .ok (.sipush (-3000), 3) := by decide +kernel
theorem dX_partnersFrom_52 : decode bX_partnersFrom 52 = .ok (.goto 4, 3) := by decide +kernel
theorem dX_partnersFrom_55 : decode bX_partnersFrom 55 = .ok (.iload_n 3, 1) := by decide +kernel
theorem dX_partnersFrom_56 : decode bX_partnersFrom 56 = .ok (.istore 6, 2) := by decide +kernel
theorem dX_partnersFrom_58 : decode bX_partnersFrom 58 = .ok (.iload 6, 2) := by decide +kernel
theorem dX_partnersFrom_60 : decode bX_partnersFrom 60 = .ok (.sipush 3000, 3) := by decide +kernel
theorem dX_partnersFrom_63 : decode bX_partnersFrom 63 = .ok (.if_icmp .le 9, 3) := by decide +kernel
theorem dX_partnersFrom_66 : decode bX_partnersFrom 66 = .ok (.sipush 3000, 3) := by decide +kernel
theorem dX_partnersFrom_69 : decode bX_partnersFrom 69 = .ok (.goto 5, 3) := by decide +kernel
theorem dX_partnersFrom_72 : decode bX_partnersFrom 72 = .ok (.iload 6, 2) := by decide +kernel
theorem dX_partnersFrom_74 : decode bX_partnersFrom 74 = .ok (.istore 6, 2) := by decide +kernel
theorem dX_partnersFrom_76 : decode bX_partnersFrom 76 = .ok (.iload_n 2, 1) := by decide +kernel
theorem dX_partnersFrom_77 : decode bX_partnersFrom 77 = .ok (.ifCond .le 46, 3) := by decide +kernel
theorem dX_partnersFrom_80 : decode bX_partnersFrom 80 = .ok (.iload 6, 2) := by decide +kernel
theorem dX_partnersFrom_82 : decode bX_partnersFrom 82 = .ok (.ifCond .le 14, 3) := by decide +kernel
theorem dX_partnersFrom_85 : decode bX_partnersFrom 85 = .ok (.iload 6, 2) := by decide +kernel
theorem dX_partnersFrom_87 : decode bX_partnersFrom 87 = .ok (.iload_n 2, 1) := by decide +kernel
theorem dX_partnersFrom_88 : decode bX_partnersFrom 88 = .ok (.iadd, 1) := by decide +kernel
theorem dX_partnersFrom_89 : decode bX_partnersFrom 89 = .ok (.iconst 1, 1) := by decide +kernel
theorem dX_partnersFrom_90 : decode bX_partnersFrom 90 = .ok (.isub, 1) := by decide +kernel
theorem dX_partnersFrom_91 : decode bX_partnersFrom 91 = .ok (.iload_n 2, 1) := by decide +kernel
theorem dX_partnersFrom_92 : decode bX_partnersFrom 92 = .ok (.idiv, 1) := by decide +kernel
theorem dX_partnersFrom_93 : decode bX_partnersFrom 93 = .ok (.goto 9, 3) := by decide +kernel
theorem dX_partnersFrom_96 : decode bX_partnersFrom 96 = .ok (.iload 6, 2) := by decide +kernel
theorem dX_partnersFrom_98 : decode bX_partnersFrom 98 = .ok (.ineg, 1) := by decide +kernel
theorem dX_partnersFrom_99 : decode bX_partnersFrom 99 = .ok (.iload_n 2, 1) := by decide +kernel
theorem dX_partnersFrom_100 : decode bX_partnersFrom 100 = .ok (.idiv, 1) := by decide +kernel
theorem dX_partnersFrom_101 : decode bX_partnersFrom 101 = .ok (.ineg, 1) := by decide +kernel
theorem dX_partnersFrom_102 : decode bX_partnersFrom 102 = .ok (.istore 7, 2) := by decide +kernel
theorem dX_partnersFrom_104 : decode bX_partnersFrom 104 = .ok (.aload_n 0, 1) := by decide +kernel
theorem dX_partnersFrom_105 : decode bX_partnersFrom 105 = .ok (.iconst 1, 1) := by decide +kernel
theorem dX_partnersFrom_106 : decode bX_partnersFrom 106 = .ok (.iload_n 1, 1) := by decide +kernel
theorem dX_partnersFrom_107 : decode bX_partnersFrom 107 = .ok (.iload 7, 2) := by decide +kernel
theorem dX_partnersFrom_109 : decode bX_partnersFrom 109 = .ok (.invokevirtual 55, 3) := by decide +kernel
theorem dX_partnersFrom_112 : decode bX_partnersFrom 112 = .ok (.istore 8, 2) := by decide +kernel
theorem dX_partnersFrom_114 : decode bX_partnersFrom 114 = .ok (.iload 4, 2) := by decide +kernel
theorem dX_partnersFrom_116 : decode bX_partnersFrom 116 = .ok (.iload 8, 2) := by decide +kernel
theorem dX_partnersFrom_118 : decode bX_partnersFrom 118 = .ok (.iload 5, 2) := by decide +kernel
theorem dX_partnersFrom_120 : decode bX_partnersFrom 120 = .ok (.isub, 1) := by decide +kernel
theorem dX_partnersFrom_121 : decode bX_partnersFrom 121 = .ok (.isub, 1) := by decide +kernel
theorem dX_partnersFrom_122 : decode bX_partnersFrom 122 = .ok (.ireturn, 1) := by decide +kernel
theorem dX_partnersFrom_123 : decode bX_partnersFrom 123 = .ok (.iload_n 2, 1) := by decide +kernel
theorem dX_partnersFrom_124 : decode bX_partnersFrom 124 = .ok (.ineg, 1) := by decide +kernel
theorem dX_partnersFrom_125 : decode bX_partnersFrom 125 = .ok (.istore 7, 2) := by decide +kernel
theorem dX_partnersFrom_127 : decode bX_partnersFrom 127 = .ok (.iload 6, 2) := by decide +kernel
theorem dX_partnersFrom_129 : decode bX_partnersFrom 129 = .ok (.ifCond .le 17, 3) := by decide +kernel
theorem dX_partnersFrom_132 : decode bX_partnersFrom 132 = .ok (.iload 6, 2) := by decide +kernel
theorem dX_partnersFrom_134 : decode bX_partnersFrom 134 = .ok (.iload 7, 2) := by decide +kernel
theorem dX_partnersFrom_136 : decode bX_partnersFrom 136 = .ok (.iadd, 1) := by decide +kernel
theorem dX_partnersFrom_137 : decode bX_partnersFrom 137 = .ok (.iconst 1, 1) := by decide +kernel
theorem dX_partnersFrom_138 : decode bX_partnersFrom 138 = .ok (.isub, 1) := by decide +kernel
theorem dX_partnersFrom_139 : decode bX_partnersFrom 139 = .ok (.iload 7, 2) := by decide +kernel
theorem dX_partnersFrom_141 : decode bX_partnersFrom 141 = .ok (.idiv, 1) := by decide +kernel
theorem dX_partnersFrom_142 : decode bX_partnersFrom 142 = .ok (.ineg, 1) := by decide +kernel
theorem dX_partnersFrom_143 : decode bX_partnersFrom 143 = .ok (.goto 9, 3) := by decide +kernel
theorem dX_partnersFrom_146 : decode bX_partnersFrom 146 = .ok (.iload 6, 2) := by decide +kernel
theorem dX_partnersFrom_148 : decode bX_partnersFrom 148 = .ok (.ineg, 1) := by decide +kernel
theorem dX_partnersFrom_149 : decode bX_partnersFrom 149 = .ok (.iload 7, 2) := by decide +kernel
theorem dX_partnersFrom_151 : decode bX_partnersFrom 151 = .ok (.idiv, 1) := by decide +kernel
theorem dX_partnersFrom_152 : decode bX_partnersFrom 152 = .ok (.istore 8, 2) := by decide +kernel
theorem dX_partnersFrom_154 : decode bX_partnersFrom 154 = .ok (.aload_n 0, 1) := by decide +kernel
theorem dX_partnersFrom_155 : decode bX_partnersFrom 155 = .ok (.iconst 1, 1) := by decide +kernel
theorem dX_partnersFrom_156 : decode bX_partnersFrom 156 = .ok (.iload_n 1, 1) := by decide +kernel
theorem dX_partnersFrom_157 : decode bX_partnersFrom 157 = .ok (.iload 8, 2) := by decide +kernel
theorem dX_partnersFrom_159 : decode bX_partnersFrom 159 = .ok (.iconst 1, 1) := by decide +kernel
theorem dX_partnersFrom_160 : decode bX_partnersFrom 160 = .ok (.iadd, 1) := by decide +kernel
theorem dX_partnersFrom_161 : decode bX_partnersFrom 161 = .ok (.invokevirtual 55, 3) := by decide +kernel
theorem dX_partnersFrom_164 : decode bX_partnersFrom 164 = .ok (.istore 9, 2) := by decide +kernel
theorem dX_partnersFrom_166 : decode bX_partnersFrom 166 = .ok (.iload 9, 2) := by decide +kernel
theorem dX_partnersFrom_168 : decode bX_partnersFrom 168 = .ok (.iload 5, 2) := by decide +kernel
theorem dX_partnersFrom_170 : decode bX_partnersFrom 170 = .ok (.isub, 1) := by decide +kernel
theorem dX_partnersFrom_171 : decode bX_partnersFrom 171 = .ok (.ireturn, 1) := by decide +kernel
theorem dX_isBandFinished_0 : decode bX_isBandFinished 0 = .ok (.iconst 4, 1) := by decide +kernel
theorem dX_isBandFinished_1 : decode bX_isBandFinished 1 = .ok (.iload_n 1, 1) := by decide +kernel
theorem dX_isBandFinished_2 : decode bX_isBandFinished 2 = .ok (.imul, 1) := by decide +kernel
theorem dX_isBandFinished_3 : decode bX_isBandFinished 3 = .ok (.istore_n 2, 1) := by decide +kernel
theorem dX_isBandFinished_4 : decode bX_isBandFinished 4 = .ok (.iload_n 2, 1) := by decide +kernel
theorem dX_isBandFinished_5 : decode bX_isBandFinished 5 = .ok (.iconst 4, 1) := by decide +kernel
theorem dX_isBandFinished_6 : decode bX_isBandFinished 6 = .ok (.iload_n 1, 1) := by decide +kernel
theorem dX_isBandFinished_7 : decode bX_isBandFinished 7 = .ok (.imul, 1) := by decide +kernel
theorem dX_isBandFinished_8 : decode bX_isBandFinished 8 = .ok (.iconst 4, 1) := by decide +kernel
theorem dX_isBandFinished_9 : decode bX_isBandFinished 9 = .ok (.iadd, 1) := by decide +kernel
theorem dX_isBandFinished_10 : decode bX_isBandFinished 10 = .ok (.if_icmp .ge 32, 3) := by decide +kernel
theorem dX_isBandFinished_13 : decode bX_isBandFinished 13 = .ok (.aload_n 0, 1) := by decide +kernel
theorem dX_isBandFinished_14 : decode bX_isBandFinished 14 = .ok (.getfield 25, 3) := by decide +kernel
theorem dX_isBandFinished_17 : decode bX_isBandFinished 17 = .ok (.iload_n 2, 1) := by decide +kernel
theorem dX_isBandFinished_18 : decode bX_isBandFinished 18 = .ok (.baload, 1) := by decide +kernel
theorem dX_isBandFinished_19 : decode bX_isBandFinished 19 = .ok (.ifCond .eq 15, 3) := by decide +kernel
theorem dX_isBandFinished_22 : decode bX_isBandFinished 22 = .ok (.aload_n 0, 1) := by decide +kernel
theorem dX_isBandFinished_23 : decode bX_isBandFinished 23 = .ok (.getfield 25, 3) := by decide +kernel
theorem dX_isBandFinished_26 : decode bX_isBandFinished 26 = .ok (.bipush 16, 2) := by decide +kernel
theorem dX_isBandFinished_28 : decode bX_isBandFinished 28 = .ok (.iload_n 2, 1) := by decide +kernel
theorem dX_isBandFinished_29 : decode bX_isBandFinished 29 = .ok (.iadd, 1) := by decide +kernel
theorem dX_isBandFinished_30 : decode bX_isBandFinished 30 = .ok (.baload, 1) := by decide +kernel
theorem dX_isBandFinished_31 : decode bX_isBandFinished 31 = .ok (.ifCond .ne 5, 3) := by decide +kernel
theorem dX_isBandFinished_34 : decode bX_isBandFinished 34 = .ok (.iconst 0, 1) := by decide +kernel
theorem dX_isBandFinished_35 : decode bX_isBandFinished 35 = .ok (.ireturn, 1) := by decide +kernel
theorem dX_isBandFinished_36 : decode bX_isBandFinished 36 = .ok (.iinc 2 1, 3) := by decide +kernel
theorem dX_isBandFinished_39 : decode bX_isBandFinished 39 = .ok (.goto (-35), 3) := by decide +kernel
theorem dX_isBandFinished_42 : decode bX_isBandFinished 42 = .ok (.iconst 1, 1) := by decide +kernel
theorem dX_isBandFinished_43 : decode bX_isBandFinished 43 = .ok (.ireturn, 1) := by decide +kernel
theorem dX_finish_0 : decode bX_finish 0 = .ok (.aload_n 0, 1) := by decide +kernel
theorem dX_finish_1 : decode bX_finish 1 = .ok (.iload_n 1, 1) := by decide +kernel
theorem dX_finish_2 : decode bX_finish 2 = .ok (.invokevirtual 74, 3) := by decide +kernel
theorem dX_finish_5 : decode bX_finish 5 = .ok (.istore_n 2, 1) := by decide +kernel
theorem dX_finish_6 : decode bX_finish 6 = .ok (.iload_n 2, 1) := by decide +kernel
theorem dX_finish_7 : decode bX_finish 7 = .ok (.ifCond .le 98, 3) := by decide +kernel
theorem dX_finish_10 : decode bX_finish 10 = .ok (.aload_n 0, 1) := by decide +kernel
theorem dX_finish_11 : decode bX_finish 11 = .ok (.getfield 44, 3) := by decide +kernel
theorem dX_finish_14 : decode bX_finish 14 = .ok (.bipush 16, 2) := by decide +kernel
theorem dX_finish_16 : decode bX_finish 16 = .ok (.if_icmp .ge 89, 3) := by decide +kernel
theorem dX_finish_19 : decode bX_finish 19 = .ok (.aload_n 0, 1) := by decide +kernel
theorem dX_finish_20 : decode bX_finish 20 = .ok (.iload_n 1, 1) := by decide +kernel
theorem dX_finish_21 : decode bX_finish 21 = .ok (.invokevirtual 78, 3) := by decide +kernel
theorem dX_finish_24 : decode bX_finish 24 = .ok (.aload_n 0, 1) := by decide +kernel
theorem dX_finish_25 : decode bX_finish 25 = .ok (.getfield 29, 3) := by decide +kernel
theorem dX_finish_28 : decode bX_finish 28 = .ok (.aload_n 0, 1) := by decide +kernel
theorem dX_finish_29 : decode bX_finish 29 = .ok (.getfield 44, 3) := by decide +kernel
theorem dX_finish_32 : decode bX_finish 32 = .ok (.iload_n 1, 1) := by decide +kernel
theorem dX_finish_33 : decode bX_finish 33 = .ok (.iastore, 1) := by decide +kernel
theorem dX_finish_34 : decode bX_finish 34 = .ok (.aload_n 0, 1) := by decide +kernel
theorem dX_finish_35 : decode bX_finish 35 = .ok (.getfield 32, 3) := by decide +kernel
theorem dX_finish_38 : decode bX_finish 38 = .ok (.aload_n 0, 1) := by decide +kernel
theorem dX_finish_39 : decode bX_finish 39 = .ok (.getfield 44, 3) := by decide +kernel
theorem dX_finish_42 : decode bX_finish 42 = .ok (.iload_n 2, 1) := by decide +kernel
theorem dX_finish_43 : decode bX_finish 43 = .ok (.iastore, 1) := by decide +kernel
theorem dX_finish_44 : decode bX_finish 44 = .ok (.aload_n 0, 1) := by decide +kernel
theorem dX_finish_45 : decode bX_finish 45 = .ok (.getfield 35, 3) := by decide +kernel
theorem dX_finish_48 : decode bX_finish 48 = .ok (.aload_n 0, 1) := by decide +kernel
theorem dX_finish_49 : decode bX_finish 49 = .ok (.getfield 44, 3) := by decide +kernel
theorem dX_finish_52 : decode bX_finish 52 = .ok (.aload_n 0, 1) := by decide +kernel
theorem dX_finish_53 : decode bX_finish 53 = .ok (.getfield 22, 3) := by decide +kernel
theorem dX_finish_56 : decode bX_finish 56 = .ok (.iload_n 1, 1) := by decide +kernel
theorem dX_finish_57 : decode bX_finish 57 = .ok (.iaload, 1) := by decide +kernel
theorem dX_finish_58 : decode bX_finish 58 = .ok (.aload_n 0, 1) := by decide +kernel
theorem dX_finish_59 : decode bX_finish 59 = .ok (.getfield 22, 3) := by decide +kernel
theorem dX_finish_62 : decode bX_finish 62 = .ok (.bipush 16, 2) := by decide +kernel
theorem dX_finish_64 : decode bX_finish 64 = .ok (.iload_n 1, 1) := by decide +kernel
theorem dX_finish_65 : decode bX_finish 65 = .ok (.iadd, 1) := by decide +kernel
theorem dX_finish_66 : decode bX_finish 66 = .ok (.iaload, 1) := by decide +kernel
theorem dX_finish_67 : decode bX_finish 67 = .ok (.imul, 1) := by decide +kernel
theorem dX_finish_68 : decode bX_finish 68 = .ok (.iastore, 1) := by decide +kernel
theorem dX_finish_69 : decode bX_finish 69 = .ok (.aload_n 0, 1) := by decide +kernel
theorem dX_finish_70 : decode bX_finish 70 = .ok (.getfield 38, 3) := by decide +kernel
theorem dX_finish_73 : decode bX_finish 73 = .ok (.aload_n 0, 1) := by decide +kernel
theorem dX_finish_74 : decode bX_finish 74 = .ok (.getfield 44, 3) := by decide +kernel
theorem dX_finish_77 : decode bX_finish 77 = .ok (.aload_n 0, 1) := by decide +kernel
theorem dX_finish_78 : decode bX_finish 78 = .ok (.getfield 81, 3) := by decide +kernel
theorem dX_finish_81 : decode bX_finish 81 = .ok (.iastore, 1) := by decide +kernel
theorem dX_finish_82 : decode bX_finish 82 = .ok (.aload_n 0, 1) := by decide +kernel
theorem dX_finish_83 : decode bX_finish 83 = .ok (.getfield 41, 3) := by decide +kernel
theorem dX_finish_86 : decode bX_finish 86 = .ok (.aload_n 0, 1) := by decide +kernel
theorem dX_finish_87 : decode bX_finish 87 = .ok (.getfield 44, 3) := by decide +kernel
theorem dX_finish_90 : decode bX_finish 90 = .ok (.aload_n 0, 1) := by decide +kernel
theorem dX_finish_91 : decode bX_finish 91 = .ok (.getfield 84, 3) := by decide +kernel
theorem dX_finish_94 : decode bX_finish 94 = .ok (.iastore, 1) := by decide +kernel
theorem dX_finish_95 : decode bX_finish 95 = .ok (.aload_n 0, 1) := by decide +kernel
theorem dX_finish_96 : decode bX_finish 96 = .ok (.dup, 1) := by decide +kernel
theorem dX_finish_97 : decode bX_finish 97 = .ok (.getfield 44, 3) := by decide +kernel
theorem dX_finish_100 : decode bX_finish 100 = .ok (.iconst 1, 1) := by decide +kernel
theorem dX_finish_101 : decode bX_finish 101 = .ok (.iadd, 1) := by decide +kernel
theorem dX_finish_102 : decode bX_finish 102 = .ok (.putfield 44, 3) := by decide +kernel
theorem dX_finish_105 : decode bX_finish 105 = .ok (.aload_n 0, 1) := by decide +kernel
theorem dX_finish_106 : decode bX_finish 106 = .ok (.iconst 0, 1) := by decide +kernel
theorem dX_finish_107 : decode bX_finish 107 = .ok (.iload_n 1, 1) := by decide +kernel
theorem dX_finish_108 : decode bX_finish 108 = .ok (.invokevirtual 98, 3) := by decide +kernel
theorem dX_finish_111 : decode bX_finish 111 = .ok (.aload_n 0, 1) := by decide +kernel
theorem dX_finish_112 : decode bX_finish 112 = .ok (.iconst 1, 1) := by decide +kernel
theorem dX_finish_113 : decode bX_finish 113 = .ok (.iload_n 1, 1) := by decide +kernel
theorem dX_finish_114 : decode bX_finish 114 = .ok (.invokevirtual 98, 3) := by decide +kernel
theorem dX_finish_117 : decode bX_finish 117 = .ok (.return_, 1) := by decide +kernel
theorem dX_drop_0 : decode bX_drop 0 = .ok (.aload_n 0, 1) := by decide +kernel
theorem dX_drop_1 : decode bX_drop 1 = .ok (.iload_n 1, 1) := by decide +kernel
theorem dX_drop_2 : decode bX_drop 2 = .ok (.iload_n 2, 1) := by decide +kernel
theorem dX_drop_3 : decode bX_drop 3 = .ok (.invokevirtual 67, 3) := by decide +kernel
theorem dX_drop_6 : decode bX_drop 6 = .ok (.istore_n 3, 1) := by decide +kernel
theorem dX_drop_7 : decode bX_drop 7 = .ok (.bipush 40, 2) := by decide +kernel
theorem dX_drop_9 : decode bX_drop 9 = .ok (.iload_n 1, 1) := by decide +kernel
theorem dX_drop_10 : decode bX_drop 10 = .ok (.imul, 1) := by decide +kernel
theorem dX_drop_11 : decode bX_drop 11 = .ok (.istore 4, 2) := by decide +kernel
theorem dX_drop_13 : decode bX_drop 13 = .ok (.iload 4, 2) := by decide +kernel
theorem dX_drop_15 : decode bX_drop 15 = .ok (.aload_n 0, 1) := by decide +kernel
theorem dX_drop_16 : decode bX_drop 16 = .ok (.getfield 19, 3) := by decide +kernel
theorem dX_drop_19 : decode bX_drop 19 = .ok (.bipush 17, 2) := by decide +kernel
theorem dX_drop_21 : decode bX_drop 21 = .ok (.iload_n 1, 1) := by decide +kernel
theorem dX_drop_22 : decode bX_drop 22 = .ok (.imul, 1) := by decide +kernel
theorem dX_drop_23 : decode bX_drop 23 = .ok (.iload_n 2, 1) := by decide +kernel
theorem dX_drop_24 : decode bX_drop 24 = .ok (.iadd, 1) := by decide +kernel
theorem dX_drop_25 : decode bX_drop 25 = .ok (.iaload, 1) := by decide +kernel
theorem dX_drop_26 : decode bX_drop 26 = .ok (.iadd, 1) := by decide +kernel
theorem dX_drop_27 : decode bX_drop 27 = .ok (.istore 5, 2) := by decide +kernel
theorem dX_drop_29 : decode bX_drop 29 = .ok (.iload 5, 2) := by decide +kernel
theorem dX_drop_31 : decode bX_drop 31 = .ok (.iload_n 3, 1) := by decide +kernel
theorem dX_drop_32 : decode bX_drop 32 = .ok (.iadd, 1) := by decide +kernel
theorem dX_drop_33 : decode bX_drop 33 = .ok (.istore 6, 2) := by decide +kernel
theorem dX_drop_35 : decode bX_drop 35 = .ok (.iload 6, 2) := by decide +kernel
theorem dX_drop_37 : decode bX_drop 37 = .ok (.iload 4, 2) := by decide +kernel
theorem dX_drop_39 : decode bX_drop 39 = .ok (.aload_n 0, 1) := by decide +kernel
theorem dX_drop_40 : decode bX_drop 40 = .ok (.getfield 16, 3) := by decide +kernel
theorem dX_drop_43 : decode bX_drop 43 = .ok (.iload_n 1, 1) := by decide +kernel
theorem dX_drop_44 : decode bX_drop 44 = .ok (.iaload, 1) := by decide +kernel
theorem dX_drop_45 : decode bX_drop 45 = .ok (.iadd, 1) := by decide +kernel
theorem dX_drop_46 : decode bX_drop 46 = .ok (.if_icmp .ge 41, 3) := by decide +kernel
theorem dX_drop_49 : decode bX_drop 49 = .ok (.aload_n 0, 1) := by decide +kernel
theorem dX_drop_50 : decode bX_drop 50 = .ok (.getfield 7, 3) := by decide +kernel
theorem dX_drop_53 : decode bX_drop 53 = .ok (.iload 6, 2) := by decide +kernel
theorem dX_drop_55 : decode bX_drop 55 = .ok (.iload_n 3, 1) := by decide +kernel
theorem dX_drop_56 : decode bX_drop 56 = .ok (.isub, 1) := by decide +kernel
theorem dX_drop_57 : decode bX_drop 57 = .ok (.aload_n 0, 1) := by decide +kernel
theorem dX_drop_58 : decode bX_drop 58 = .ok (.getfield 7, 3) := by decide +kernel
theorem dX_drop_61 : decode bX_drop 61 = .ok (.iload 6, 2) := by decide +kernel
theorem dX_drop_63 : decode bX_drop 63 = .ok (.iaload, 1) := by decide +kernel
theorem dX_drop_64 : decode bX_drop 64 = .ok (.iastore, 1) := by decide +kernel
theorem dX_drop_65 : decode bX_drop 65 = .ok (.aload_n 0, 1) := by decide +kernel
theorem dX_drop_66 : decode bX_drop 66 = .ok (.getfield 13, 3) := by decide +kernel
theorem dX_drop_69 : decode bX_drop 69 = .ok (.iload 6, 2) := by decide +kernel
theorem dX_drop_71 : decode bX_drop 71 = .ok (.iload_n 3, 1) := by decide +kernel
theorem dX_drop_72 : decode bX_drop 72 = .ok (.isub, 1) := by decide +kernel
theorem dX_drop_73 : decode bX_drop 73 = .ok (.aload_n 0, 1) := by decide +kernel
theorem dX_drop_74 : decode bX_drop 74 = .ok (.getfield 13, 3) := by decide +kernel
theorem dX_drop_77 : decode bX_drop 77 = .ok (.iload 6, 2) := by decide +kernel
theorem dX_drop_79 : decode bX_drop 79 = .ok (.iaload, 1) := by decide +kernel
theorem dX_drop_80 : decode bX_drop 80 = .ok (.iastore, 1) := by decide +kernel
theorem dX_drop_81 : decode bX_drop 81 = .ok (.iinc 6 1, 3) := by decide +kernel
theorem dX_drop_84 : decode bX_drop 84 = .ok (.goto (-49), 3) := by decide +kernel
theorem dX_drop_87 : decode bX_drop 87 = .ok (.aload_n 0, 1) := by decide +kernel
theorem dX_drop_88 : decode bX_drop 88 = .ok (.getfield 16, 3) := by decide +kernel
theorem dX_drop_91 : decode bX_drop 91 = .ok (.iload_n 1, 1) := by decide +kernel
theorem dX_drop_92 : decode bX_drop 92 = .ok (.dup2, 1) := by decide +kernel
theorem dX_drop_93 : decode bX_drop 93 = .ok (.iaload, 1) := by decide +kernel
theorem dX_drop_94 : decode bX_drop 94 = .ok (.iload_n 3, 1) := by decide +kernel
theorem dX_drop_95 : decode bX_drop 95 = .ok (.isub, 1) := by decide +kernel
theorem dX_drop_96 : decode bX_drop 96 = .ok (.iastore, 1) := by decide +kernel
theorem dX_drop_97 : decode bX_drop 97 = .ok (.aload_n 0, 1) := by decide +kernel
theorem dX_drop_98 : decode bX_drop 98 = .ok (.getfield 22, 3) := by decide +kernel
theorem dX_drop_101 : decode bX_drop 101 = .ok (.bipush 16, 2) := by decide +kernel
theorem dX_drop_103 : decode bX_drop 103 = .ok (.iload_n 1, 1) := by decide +kernel
theorem dX_drop_104 : decode bX_drop 104 = .ok (.imul, 1) := by decide +kernel
theorem dX_drop_105 : decode bX_drop 105 = .ok (.iload_n 2, 1) := by decide +kernel
theorem dX_drop_106 : decode bX_drop 106 = .ok (.iadd, 1) := by decide +kernel
theorem dX_drop_107 : decode bX_drop 107 = .ok (.iconst 0, 1) := by decide +kernel
theorem dX_drop_108 : decode bX_drop 108 = .ok (.iastore, 1) := by decide +kernel
theorem dX_drop_109 : decode bX_drop 109 = .ok (.aload_n 0, 1) := by decide +kernel
theorem dX_drop_110 : decode bX_drop 110 = .ok (.iload_n 1, 1) := by decide +kernel
theorem dX_drop_111 : decode bX_drop 111 = .ok (.iload_n 2, 1) := by decide +kernel
theorem dX_drop_112 : decode bX_drop 112 = .ok (.iload_n 3, 1) := by decide +kernel
theorem dX_drop_113 : decode bX_drop 113 = .ok (.ineg, 1) := by decide +kernel
theorem dX_drop_114 : decode bX_drop 114 = .ok (.invokevirtual 59, 3) := by decide +kernel
theorem dX_drop_117 : decode bX_drop 117 = .ok (.return_, 1) := by decide +kernel
end
section
theorem dM_init_0 : decode bM_init 0 = .ok (.aload_n 0, 1) := by decide +kernel
theorem dM_init_1 : decode bM_init 1 = .ok (.invokespecial 1, 3) := by decide +kernel
theorem dM_init_4 : decode bM_init 4 = .ok (.aload_n 0, 1) := by decide +kernel
theorem dM_init_5 : decode bM_init 5 = .ok (.iconst 2, 1) := by decide +kernel
theorem dM_init_6 : decode bM_init 6 = .ok (.newarray .int, 2) := by decide +kernel
theorem dM_init_8 : decode bM_init 8 = .ok (.putfield 7, 3) := by decide +kernel
theorem dM_init_11 : decode bM_init 11 = .ok (.aload_n 0, 1) := by decide +kernel
theorem dM_init_12 : decode bM_init 12 = .ok (.bipush 80, 2) := by decide +kernel
theorem dM_init_14 : decode bM_init 14 = .ok (.newarray .int, 2) := by decide +kernel
theorem dM_init_16 : decode bM_init 16 = .ok (.putfield 13, 3) := by decide +kernel
theorem dM_init_19 : decode bM_init 19 = .ok (.aload_n 0, 1) := by decide +kernel
theorem dM_init_20 : decode bM_init 20 = .ok (.bipush 80, 2) := by decide +kernel
theorem dM_init_22 : decode bM_init 22 = .ok (.newarray .int, 2) := by decide +kernel
theorem dM_init_24 : decode bM_init 24 = .ok (.putfield 16, 3) := by decide +kernel
theorem dM_init_27 : decode bM_init 27 = .ok (.aload_n 0, 1) := by decide +kernel
theorem dM_init_28 : decode bM_init 28 = .ok (.bipush 32, 2) := by decide +kernel
theorem dM_init_30 : decode bM_init 30 = .ok (.newarray .boolean, 2) := by decide +kernel
theorem dM_init_32 : decode bM_init 32 = .ok (.putfield 19, 3) := by decide +kernel
theorem dM_init_35 : decode bM_init 35 = .ok (.aload_n 0, 1) := by decide +kernel
theorem dM_init_36 : decode bM_init 36 = .ok (.bipush 16, 2) := by decide +kernel
theorem dM_init_38 : decode bM_init 38 = .ok (.newarray .int, 2) := by decide +kernel
theorem dM_init_40 : decode bM_init 40 = .ok (.putfield 23, 3) := by decide +kernel
theorem dM_init_43 : decode bM_init 43 = .ok (.aload_n 0, 1) := by decide +kernel
theorem dM_init_44 : decode bM_init 44 = .ok (.bipush 16, 2) := by decide +kernel
theorem dM_init_46 : decode bM_init 46 = .ok (.newarray .int, 2) := by decide +kernel
theorem dM_init_48 : decode bM_init 48 = .ok (.putfield 26, 3) := by decide +kernel
theorem dM_init_51 : decode bM_init 51 = .ok (.aload_n 0, 1) := by decide +kernel
theorem dM_init_52 : decode bM_init 52 = .ok (.bipush 16, 2) := by decide +kernel
theorem dM_init_54 : decode bM_init 54 = .ok (.newarray .int, 2) := by decide +kernel
theorem dM_init_56 : decode bM_init 56 = .ok (.putfield 29, 3) := by decide +kernel
theorem dM_init_59 : decode bM_init 59 = .ok (.aload_n 0, 1) := by decide +kernel
theorem dM_init_60 : decode bM_init 60 = .ok (.bipush 16, 2) := by decide +kernel
theorem dM_init_62 : decode bM_init 62 = .ok (.newarray .int, 2) := by decide +kernel
theorem dM_init_64 : decode bM_init 64 = .ok (.putfield 32, 3) := by decide +kernel
theorem dM_init_67 : decode bM_init 67 = .ok (.aload_n 0, 1) := by decide +kernel
theorem dM_init_68 : decode bM_init 68 = .ok (.bipush 16, 2) := by decide +kernel
theorem dM_init_70 : decode bM_init 70 = .ok (.newarray .int, 2) := by decide +kernel
theorem dM_init_72 : decode bM_init 72 = .ok (.putfield 35, 3) := by decide +kernel
theorem dM_init_75 : decode bM_init 75 = .ok (.return_, 1) := by decide +kernel
theorem dM_badStream_0 : decode bM_badStream 0 = .ok (.iload_n 1, 1) := by decide +kernel
theorem dM_badStream_1 : decode bM_badStream 1 = .ok (.ifCond .lt 8, 3) := by decide +kernel
theorem dM_badStream_4 : decode bM_badStream 4 = .ok (.iload_n 1, 1) := by decide +kernel
theorem dM_badStream_5 : decode bM_badStream 5 = .ok (.iconst 1, 1) := by decide +kernel
theorem dM_badStream_6 : decode bM_badStream 6 = .ok (.if_icmp .le 7, 3) := by decide +kernel
theorem dM_badStream_9 : decode bM_badStream 9 = .ok (.iconst 1, 1) := by decide +kernel
theorem dM_badStream_10 : decode bM_badStream 10 = .ok (.goto 4, 3) := by decide +kernel
theorem dM_badStream_13 : decode bM_badStream 13 = .ok (.iconst 0, 1) := by decide +kernel
theorem dM_badStream_14 : decode bM_badStream 14 = .ok (.ireturn, 1) := by decide +kernel
theorem dM_badKey_0 : decode bM_badKey 0 = .ok (.iload_n 1, 1) := by decide +kernel
theorem dM_badKey_1 : decode bM_badKey 1 = .ok (.ifCond .lt 9, 3) := by decide +kernel
theorem dM_badKey_4 : decode bM_badKey 4 = .ok (.iload_n 1, 1) := by decide +kernel
theorem dM_badKey_5 : decode bM_badKey 5 = .ok (.bipush 15, 2) := by decide +kernel
theorem dM_badKey_7 : decode bM_badKey 7 = .ok (.if_icmp .le 7, 3) := by decide +kernel
theorem dM_badKey_10 : decode bM_badKey 10 = .ok (.iconst 1, 1) := by decide +kernel
theorem dM_badKey_11 : decode bM_badKey 11 = .ok (.goto 4, 3) := by decide +kernel
theorem dM_badKey_14 : decode bM_badKey 14 = .ok (.iconst 0, 1) := by decide +kernel
theorem dM_badKey_15 : decode bM_badKey 15 = .ok (.ireturn, 1) := by decide +kernel
theorem dM_feed_0 : decode bM_feed 0 = .ok (.aload_n 0, 1) := by decide +kernel
theorem dM_feed_1 : decode bM_feed 1 = .ok (.iload_n 1, 1) := by decide +kernel
theorem dM_feed_2 : decode bM_feed 2 = .ok (.invokevirtual 38, 3) := by decide +kernel
theorem dM_feed_5 : decode bM_feed 5 = .ok (.ifCond .eq 5, 3) := by decide +kernel
theorem dM_feed_8 : decode bM_feed 8 = .ok (.iconst (-1), 1) := by decide +kernel
theorem dM_feed_9 : decode bM_feed 9 = .ok (.ireturn, 1) := by decide +kernel
theorem dM_feed_10 : decode bM_feed 10 = .ok (.aload_n 0, 1) := by decide +kernel
theorem dM_feed_11 : decode bM_feed 11 = .ok (.iload_n 2, 1) := by decide +kernel
theorem dM_feed_12 : decode bM_feed 12 = .ok (.invokevirtual 42, 3) := by decide +kernel
theorem dM_feed_15 : decode bM_feed 15 = .ok (.ifCond .eq 6, 3) := by decide +kernel
theorem dM_feed_18 : decode bM_feed 18 = .ok (.bipush (-2), 2) := by decide +kernel
theorem dM_feed_20 : decode bM_feed 20 = .ok (.ireturn, 1) := by decide +kernel
theorem dM_feed_21 : decode bM_feed 21 = .ok (.iload_n 3, 1) := by decide +kernel
theorem dM_feed_22 : decode bM_feed 22 = .ok (.bipush (-50), 2) := by decide +kernel
theorem dM_feed_24 : decode bM_feed 24 = .ok (.if_icmp .lt 9, 3) := by decide +kernel
theorem dM_feed_27 : decode bM_feed 27 = .ok (.iload_n 3, 1) := by decide +kernel
theorem dM_feed_28 : decode bM_feed 28 = .ok (.bipush 50, 2) := by decide +kernel
theorem dM_feed_30 : decode bM_feed 30 = .ok (.if_icmp .le 6, 3) := by decide +kernel
theorem dM_feed_33 : decode bM_feed 33 = .ok (.bipush (-3), 2) := by decide +kernel
theorem dM_feed_35 : decode bM_feed 35 = .ok (.ireturn, 1) := by decide +kernel
theorem dM_feed_36 : decode bM_feed 36 = .ok (.aload_n 0, 1) := by decide +kernel
theorem dM_feed_37 : decode bM_feed 37 = .ok (.getfield 19, 3) := by decide +kernel
theorem dM_feed_40 : decode bM_feed 40 = .ok (.bipush 16, 2) := by decide +kernel
theorem dM_feed_42 : decode bM_feed 42 = .ok (.iload_n 1, 1) := by decide +kernel
theorem dM_feed_43 : decode bM_feed 43 = .ok (.imul, 1) := by decide +kernel
theorem dM_feed_44 : decode bM_feed 44 = .ok (.iload_n 2, 1) := by decide +kernel
theorem dM_feed_45 : decode bM_feed 45 = .ok (.iadd, 1) := by decide +kernel
theorem dM_feed_46 : decode bM_feed 46 = .ok (.baload, 1) := by decide +kernel
theorem dM_feed_47 : decode bM_feed 47 = .ok (.ifCond .eq 6, 3) := by decide +kernel
theorem dM_feed_50 : decode bM_feed 50 = .ok (.bipush (-4), 2) := by decide +kernel
theorem dM_feed_52 : decode bM_feed 52 = .ok (.ireturn, 1) := by decide +kernel
theorem dM_feed_53 : decode bM_feed 53 = .ok (.aload_n 0, 1) := by decide +kernel
theorem dM_feed_54 : decode bM_feed 54 = .ok (.getfield 7, 3) := by decide +kernel
theorem dM_feed_57 : decode bM_feed 57 = .ok (.iload_n 1, 1) := by decide +kernel
theorem dM_feed_58 : decode bM_feed 58 = .ok (.iaload, 1) := by decide +kernel
theorem dM_feed_59 : decode bM_feed 59 = .ok (.istore 4, 2) := by decide +kernel
theorem dM_feed_61 : decode bM_feed 61 = .ok (.iload 4, 2) := by decide +kernel
theorem dM_feed_63 : decode bM_feed 63 = .ok (.bipush 40, 2) := by decide +kernel
theorem dM_feed_65 : decode bM_feed 65 = .ok (.if_icmp .lt 6, 3) := by decide +kernel
theorem dM_feed_68 : decode bM_feed 68 = .ok (.bipush (-5), 2) := by decide +kernel
theorem dM_feed_70 : decode bM_feed 70 = .ok (.ireturn, 1) := by decide +kernel
theorem dM_feed_71 : decode bM_feed 71 = .ok (.aload_n 0, 1) := by decide +kernel
theorem dM_feed_72 : decode bM_feed 72 = .ok (.getfield 13, 3) := by decide +kernel
theorem dM_feed_75 : decode bM_feed 75 = .ok (.bipush 40, 2) := by decide +kernel
theorem dM_feed_77 : decode bM_feed 77 = .ok (.iload_n 1, 1) := by decide +kernel
theorem dM_feed_78 : decode bM_feed 78 = .ok (.imul, 1) := by decide +kernel
theorem dM_feed_79 : decode bM_feed 79 = .ok (.iload 4, 2) := by decide +kernel
theorem dM_feed_81 : decode bM_feed 81 = .ok (.iadd, 1) := by decide +kernel
theorem dM_feed_82 : decode bM_feed 82 = .ok (.iload_n 2, 1) := by decide +kernel
theorem dM_feed_83 : decode bM_feed 83 = .ok (.iastore, 1) := by decide +kernel
theorem dM_feed_84 : decode bM_feed 84 = .ok (.aload_n 0, 1) := by decide +kernel
theorem dM_feed_85 : decode bM_feed 85 = .ok (.getfield 16, 3) := by decide +kernel
theorem dM_feed_88 : decode bM_feed 88 = .ok (.bipush 40, 2) := by decide +kernel
theorem dM_feed_90 : decode bM_feed 90 = .ok (.iload_n 1, 1) := by decide +kernel
theorem dM_feed_91 : decode bM_feed 91 = .ok (.imul, 1) := by decide +kernel
theorem dM_feed_92 : decode bM_feed 92 = .ok (.iload 4, 2) := by decide +kernel
theorem dM_feed_94 : decode bM_feed 94 = .ok (.iadd, 1) := by decide +kernel
theorem dM_feed_95 : decode bM_feed 95 = .ok (.iload_n 3, 1) := by decide +kernel
theorem dM_feed_96 : decode bM_feed 96 = .ok (.iastore, 1) := by decide +kernel
theorem dM_feed_97 : decode bM_feed 97 = .ok (.aload_n 0, 1) := by decide +kernel
theorem dM_feed_98 : decode bM_feed 98 = .ok (.getfield 7, 3) := by decide +kernel
theorem dM_feed_101 : decode bM_feed 101 = .ok (.iload_n 1, 1) := by decide +kernel
theorem dM_feed_102 : decode bM_feed 102 = .ok (.iload 4, 2) := by decide +kernel
theorem dM_feed_104 : decode bM_feed 104 = .ok (.iconst 1, 1) := by decide +kernel
theorem dM_feed_105 : decode bM_feed 105 = .ok (.iadd, 1) := by decide +kernel
theorem dM_feed_106 : decode bM_feed 106 = .ok (.iastore, 1) := by decide +kernel
theorem dM_feed_107 : decode bM_feed 107 = .ok (.iload 4, 2) := by decide +kernel
theorem dM_feed_109 : decode bM_feed 109 = .ok (.iconst 1, 1) := by decide +kernel
theorem dM_feed_110 : decode bM_feed 110 = .ok (.iadd, 1) := by decide +kernel
theorem dM_feed_111 : decode bM_feed 111 = .ok (.ireturn, 1) := by decide +kernel
theorem dM_takeOut_0 : decode bM_takeOut 0 = .ok (.iload_n 2, 1) := by decide +kernel
theorem dM_takeOut_1 : decode bM_takeOut 1 = .ok (.istore_n 3, 1) := by decide +kernel
theorem dM_takeOut_2 : decode bM_takeOut 2 = .ok (.iload_n 3, 1) := by decide +kernel
theorem dM_takeOut_3 : decode bM_takeOut 3 = .ok (.aload_n 0, 1) := by decide +kernel
theorem dM_takeOut_4 : decode bM_takeOut 4 = .ok (.getfield 7, 3) := by decide +kernel
theorem dM_takeOut_7 : decode bM_takeOut 7 = .ok (.iload_n 1, 1) := by decide +kernel
theorem dM_takeOut_8 : decode bM_takeOut 8 = .ok (.iaload, 1) := by decide +kernel
theorem dM_takeOut_9 : decode bM_takeOut 9 = .ok (.iconst 1, 1) := by decide +kernel
theorem dM_takeOut_10 : decode bM_takeOut 10 = .ok (.isub, 1) := by decide +kernel
theorem dM_takeOut_11 : decode bM_takeOut 11 = .ok (.if_icmp .ge 63, 3) := by decide +kernel
theorem dM_takeOut_14 : decode bM_takeOut 14 = .ok (.iload_n 3, 1) := by decide +kernel
theorem dM_takeOut_15 : decode bM_takeOut 15 = .ok (.bipush 39, 2) := by decide +kernel
theorem dM_takeOut_17 : decode bM_takeOut 17 = .ok (.if_icmp .ge 57, 3) := by decide +kernel
theorem dM_takeOut_20 : decode bM_takeOut 20 = .ok (.aload_n 0, 1) := by decide +kernel
theorem dM_takeOut_21 : decode bM_takeOut 21 = .ok (.getfield 13, 3) := by decide +kernel
theorem dM_takeOut_24 : decode bM_takeOut 24 = .ok (.bipush 40, 2) := by decide +kernel
theorem dM_takeOut_26 : decode bM_takeOut 26 = .ok (.iload_n 1, 1) := by decide +kernel
theorem dM_takeOut_27 : decode bM_takeOut 27 = .ok (.imul, 1) := by decide +kernel
theorem dM_takeOut_28 : decode bM_takeOut 28 = .ok (.iload_n 3, 1) := by decide +kernel
theorem dM_takeOut_29 : decode bM_takeOut 29 = .ok (.iadd, 1) := by decide +kernel
theorem dM_takeOut_30 : decode bM_takeOut 30 = .ok (.aload_n 0, 1) := by decide +kernel
theorem dM_takeOut_31 : decode bM_takeOut 31 = .ok (.getfield 13, 3) := by decide +kernel
theorem dM_takeOut_34 : decode bM_takeOut 34 = .ok (.bipush 40, 2) := by decide +kernel
theorem dM_takeOut_36 : decode bM_takeOut 36 = .ok (.iload_n 1, 1) := by decide +kernel
theorem dM_takeOut_37 : decode bM_takeOut 37 = .ok (.imul, 1) := by decide +kernel
theorem dM_takeOut_38 : decode bM_takeOut 38 = .ok (.iload_n 3, 1) := by decide +kernel
theorem dM_takeOut_39 : decode bM_takeOut 39 = .ok (.iadd, 1) := by decide +kernel
theorem dM_takeOut_40 : decode bM_takeOut 40 = .ok (.iconst 1, 1) := by decide +kernel
theorem dM_takeOut_41 : decode bM_takeOut 41 = .ok (.iadd, 1) := by decide +kernel
theorem dM_takeOut_42 : decode bM_takeOut 42 = .ok (.iaload, 1) := by decide +kernel
theorem dM_takeOut_43 : decode bM_takeOut 43 = .ok (.iastore, 1) := by decide +kernel
theorem dM_takeOut_44 : decode bM_takeOut 44 = .ok (.aload_n 0, 1) := by decide +kernel
theorem dM_takeOut_45 : decode bM_takeOut 45 = .ok (.getfield 16, 3) := by decide +kernel
theorem dM_takeOut_48 : decode bM_takeOut 48 = .ok (.bipush 40, 2) := by decide +kernel
theorem dM_takeOut_50 : decode bM_takeOut 50 = .ok (.iload_n 1, 1) := by decide +kernel
theorem dM_takeOut_51 : decode bM_takeOut 51 = .ok (.imul, 1) := by decide +kernel
theorem dM_takeOut_52 : decode bM_takeOut 52 = .ok (.iload_n 3, 1) := by decide +kernel
theorem dM_takeOut_53 : decode bM_takeOut 53 = .ok (.iadd, 1) := by decide +kernel
theorem dM_takeOut_54 : decode bM_takeOut 54 = .ok (.aload_n 0, 1) := by decide +kernel
theorem dM_takeOut_55 : decode bM_takeOut 55 = .ok (.getfield 16, 3) := by decide +kernel
theorem dM_takeOut_58 : decode bM_takeOut 58 = .ok (.bipush 40, 2) := by decide +kernel
theorem dM_takeOut_60 : decode bM_takeOut 60 = .ok (.iload_n 1, 1) := by decide +kernel
theorem dM_takeOut_61 : decode bM_takeOut 61 = .ok (.imul, 1) := by decide +kernel
theorem dM_takeOut_62 : decode bM_takeOut 62 = .ok (.iload_n 3, 1) := by decide +kernel
theorem dM_takeOut_63 : decode bM_takeOut 63 = .ok (.iadd, 1) := by decide +kernel
theorem dM_takeOut_64 : decode bM_takeOut 64 = .ok (.iconst 1, 1) := by decide +kernel
theorem dM_takeOut_65 : decode bM_takeOut 65 = .ok (.iadd, 1) := by decide +kernel
theorem dM_takeOut_66 : decode bM_takeOut 66 = .ok (.iaload, 1) := by decide +kernel
theorem dM_takeOut_67 : decode bM_takeOut 67 = .ok (.iastore, 1) := by decide +kernel
theorem dM_takeOut_68 : decode bM_takeOut 68 = .ok (.iinc 3 1, 3) := by decide +kernel
theorem dM_takeOut_71 : decode bM_takeOut 71 = .ok (.goto (-69), 3) := by decide +kernel
theorem dM_takeOut_74 : decode bM_takeOut 74 = .ok (.aload_n 0, 1) := by decide +kernel
theorem dM_takeOut_75 : decode bM_takeOut 75 = .ok (.getfield 7, 3) := by decide +kernel
theorem dM_takeOut_78 : decode bM_takeOut 78 = .ok (.iload_n 1, 1) := by decide +kernel
theorem dM_takeOut_79 : decode bM_takeOut 79 = .ok (.dup2, 1) := by decide +kernel
theorem dM_takeOut_80 : decode bM_takeOut 80 = .ok (.iaload, 1) := by decide +kernel
theorem dM_takeOut_81 : decode bM_takeOut 81 = .ok (.iconst 1, 1) := by decide +kernel
theorem dM_takeOut_82 : decode bM_takeOut 82 = .ok (.isub, 1) := by decide +kernel
theorem dM_takeOut_83 : decode bM_takeOut 83 = .ok (.iastore, 1) := by decide +kernel
theorem dM_takeOut_84 : decode bM_takeOut 84 = .ok (.return_, 1) := by decide +kernel
theorem dM_retract_0 : decode bM_retract 0 = .ok (.aload_n 0, 1) := by decide +kernel
theorem dM_retract_1 : decode bM_retract 1 = .ok (.iload_n 1, 1) := by decide +kernel
theorem dM_retract_2 : decode bM_retract 2 = .ok (.invokevirtual 38, 3) := by decide +kernel
theorem dM_retract_5 : decode bM_retract 5 = .ok (.ifCond .eq 5, 3) := by decide +kernel
theorem dM_retract_8 : decode bM_retract 8 = .ok (.iconst (-1), 1) := by decide +kernel
theorem dM_retract_9 : decode bM_retract 9 = .ok (.ireturn, 1) := by decide +kernel
theorem dM_retract_10 : decode bM_retract 10 = .ok (.aload_n 0, 1) := by decide +kernel
theorem dM_retract_11 : decode bM_retract 11 = .ok (.iload_n 2, 1) := by decide +kernel
theorem dM_retract_12 : decode bM_retract 12 = .ok (.invokevirtual 42, 3) := by decide +kernel
theorem dM_retract_15 : decode bM_retract 15 = .ok (.ifCond .eq 6, 3) := by decide +kernel
theorem dM_retract_18 : decode bM_retract 18 = .ok (.bipush (-2), 2) := by decide +kernel
theorem dM_retract_20 : decode bM_retract 20 = .ok (.ireturn, 1) := by decide +kernel
theorem dM_retract_21 : decode bM_retract 21 = .ok (.iconst 0, 1) := by decide +kernel
theorem dM_retract_22 : decode bM_retract 22 = .ok (.istore 4, 2) := by decide +kernel
theorem dM_retract_24 : decode bM_retract 24 = .ok (.iload 4, 2) := by decide +kernel
theorem dM_retract_26 : decode bM_retract 26 = .ok (.aload_n 0, 1) := by decide +kernel
theorem dM_retract_27 : decode bM_retract 27 = .ok (.getfield 7, 3) := by decide +kernel
theorem dM_retract_30 : decode bM_retract 30 = .ok (.iload_n 1, 1) := by decide +kernel
theorem dM_retract_31 : decode bM_retract 31 = .ok (.iaload, 1) := by decide +kernel
theorem dM_retract_32 : decode bM_retract 32 = .ok (.if_icmp .ge 62, 3) := by decide +kernel
theorem dM_retract_35 : decode bM_retract 35 = .ok (.iload 4, 2) := by decide +kernel
theorem dM_retract_37 : decode bM_retract 37 = .ok (.bipush 40, 2) := by decide +kernel
theorem dM_retract_39 : decode bM_retract 39 = .ok (.if_icmp .ge 55, 3) := by decide +kernel
theorem dM_retract_42 : decode bM_retract 42 = .ok (.aload_n 0, 1) := by decide +kernel
theorem dM_retract_43 : decode bM_retract 43 = .ok (.getfield 13, 3) := by decide +kernel
theorem dM_retract_46 : decode bM_retract 46 = .ok (.bipush 40, 2) := by decide +kernel
theorem dM_retract_48 : decode bM_retract 48 = .ok (.iload_n 1, 1) := by decide +kernel
theorem dM_retract_49 : decode bM_retract 49 = .ok (.imul, 1) := by decide +kernel
theorem dM_retract_50 : decode bM_retract 50 = .ok (.iload 4, 2) := by decide +kernel
theorem dM_retract_52 : decode bM_retract 52 = .ok (.iadd, 1) := by decide +kernel
theorem dM_retract_53 : decode bM_retract 53 = .ok (.iaload, 1) := by decide +kernel
theorem dM_retract_54 : decode bM_retract 54 = .ok (.iload_n 2, 1) := by decide +kernel
theorem dM_retract_55 : decode bM_retract 55 = .ok (.if_icmp .ne 33, 3) := by decide +kernel
theorem dM_retract_58 : decode bM_retract 58 = .ok (.aload_n 0, 1) := by decide +kernel
theorem dM_retract_59 : decode bM_retract 59 = .ok (.getfield 16, 3) := by decide +kernel
theorem dM_retract_62 : decode bM_retract 62 = .ok (.bipush 40, 2) := by decide +kernel
theorem dM_retract_64 : decode bM_retract 64 = .ok (.iload_n 1, 1) := by decide +kernel
theorem dM_retract_65 : decode bM_retract 65 = .ok (.imul, 1) := by decide +kernel
theorem dM_retract_66 : decode bM_retract 66 = .ok (.iload 4, 2) := by decide +kernel
theorem dM_retract_68 : decode bM_retract 68 = .ok (.iadd, 1) := by decide +kernel
theorem dM_retract_69 : decode bM_retract 69 = .ok (.iaload, 1) := by decide +kernel
theorem dM_retract_70 : decode bM_retract 70 = .ok (.iload_n 3, 1) := by decide +kernel
theorem dM_retract_71 : decode bM_retract 71 = .ok (.if_icmp .ne 17, 3) := by decide +kernel
theorem dM_retract_74 : decode bM_retract 74 = .ok (.aload_n 0, 1) := by decide +kernel
theorem dM_retract_75 : decode bM_retract 75 = .ok (.iload_n 1, 1) := by decide +kernel
theorem dM_retract_76 : decode bM_retract 76 = .ok (.iload 4, 2) := by decide +kernel
theorem dM_retract_78 : decode bM_retract 78 = .ok (.invokevirtual 45, 3) := by decide +kernel
theorem dM_retract_81 : decode bM_retract 81 = .ok (.aload_n 0, 1) := by decide +kernel
theorem dM_retract_82 : decode bM_retract 82 = .ok (.getfield 7, 3) := by decide +kernel
theorem dM_retract_85 : decode bM_retract 85 = .ok (.iload_n 1, 1) := by decide +kernel
theorem dM_retract_86 : decode bM_retract 86 = .ok (.iaload, 1) := by decide +kernel
theorem dM_retract_87 : decode bM_retract 87 = .ok (.ireturn, 1) := by decide +kernel
theorem dM_retract_88 : decode bM_retract 88 = .ok (.iinc 4 1, 3) := by decide +kernel
theorem dM_retract_91 : decode bM_retract 91 = .ok (.goto (-67), 3) := by decide +kernel
theorem dM_retract_94 : decode bM_retract 94 = .ok (.bipush (-3), 2) := by decide +kernel
theorem dM_retract_96 : decode bM_retract 96 = .ok (.ireturn, 1) := by decide +kernel
theorem dM_look_0 : decode bM_look 0 = .ok (.aload_n 0, 1) := by decide +kernel
theorem dM_look_1 : decode bM_look 1 = .ok (.iconst 0, 1) := by decide +kernel
theorem dM_look_2 : decode bM_look 2 = .ok (.putfield 49, 3) := by decide +kernel
theorem dM_look_5 : decode bM_look 5 = .ok (.aload_n 0, 1) := by decide +kernel
theorem dM_look_6 : decode bM_look 6 = .ok (.iconst 0, 1) := by decide +kernel
theorem dM_look_7 : decode bM_look 7 = .ok (.putfield 53, 3) := by decide +kernel
theorem dM_look_10 : decode bM_look 10 = .ok (.aload_n 0, 1) := by decide +kernel
theorem dM_look_11 : decode bM_look 11 = .ok (.sipush 10000, 3) := by decide +kernel
theorem dM_look_14 : decode bM_look 14 = .ok (.putfield 56, 3) := by decide +kernel
theorem dM_look_17 : decode bM_look 17 = .ok (.aload_n 0, 1) := by decide +kernel
theorem dM_look_18 : decode bM_look 18 = .ok (.sipush (-10000), 3) := by decide +kernel
theorem dM_look_21 : decode bM_look 21 = .ok (.putfield 59, 3) := by decide +kernel
theorem dM_look_24 : decode bM_look 24 = .ok (.iconst 0, 1) := by decide +kernel
theorem dM_look_25 : decode bM_look 25 = .ok (.istore_n 2, 1) := by decide +kernel
theorem dM_look_26 : decode bM_look 26 = .ok (.iload_n 2, 1) := by decide +kernel
theorem dM_look_27 : decode bM_look 27 = .ok (.aload_n 0, 1) := by decide +kernel
theorem dM_look_28 : decode bM_look 28 = .ok (.getfield 7, 3) := by decide +kernel
theorem dM_look_31 : decode bM_look 31 = .ok (.iconst 0, 1) := by decide +kernel
theorem dM_look_32 : decode bM_look 32 = .ok (.iaload, 1) := by decide +kernel
theorem dM_look_33 : decode bM_look 33 = .ok (.if_icmp .ge 131, 3) := by decide +kernel
theorem dM_look_36 : decode bM_look 36 = .ok (.iload_n 2, 1) := by decide +kernel
theorem dM_look_37 : decode bM_look 37 = .ok (.bipush 40, 2) := by decide +kernel
theorem dM_look_39 : decode bM_look 39 = .ok (.if_icmp .ge 125, 3) := by decide +kernel
theorem dM_look_42 : decode bM_look 42 = .ok (.iconst 0, 1) := by decide +kernel
theorem dM_look_43 : decode bM_look 43 = .ok (.istore_n 3, 1) := by decide +kernel
theorem dM_look_44 : decode bM_look 44 = .ok (.iload_n 3, 1) := by decide +kernel
theorem dM_look_45 : decode bM_look 45 = .ok (.aload_n 0, 1) := by decide +kernel
theorem dM_look_46 : decode bM_look 46 = .ok (.getfield 7, 3) := by decide +kernel
theorem dM_look_49 : decode bM_look 49 = .ok (.iconst 1, 1) := by decide +kernel
theorem dM_look_50 : decode bM_look 50 = .ok (.iaload, 1) := by decide +kernel
theorem dM_look_51 : decode bM_look 51 = .ok (.if_icmp .ge 107, 3) := by decide +kernel
theorem dM_look_54 : decode bM_look 54 = .ok (.iload_n 3, 1) := by decide +kernel
theorem dM_look_55 : decode bM_look 55 = .ok (.bipush 40, 2) := by decide +kernel
theorem dM_look_57 : decode bM_look 57 = .ok (.if_icmp .ge 101, 3) := by decide +kernel
theorem dM_look_60 : decode bM_look 60 = .ok (.aload_n 0, 1) := by decide +kernel
theorem dM_look_61 : decode bM_look 61 = .ok (.getfield 13, 3) := by decide +kernel
theorem dM_look_64 : decode bM_look 64 = .ok (.iload_n 2, 1) := by decide +kernel
theorem dM_look_65 : decode bM_look 65 = .ok (.iaload, 1) := by decide +kernel
theorem dM_look_66 : decode bM_look 66 = .ok (.iload_n 1, 1) := by decide +kernel
theorem dM_look_67 : decode bM_look 67 = .ok (.if_icmp .ne 85, 3) := by decide +kernel
theorem dM_look_70 : decode bM_look 70 = .ok (.aload_n 0, 1) := by decide +kernel
theorem dM_look_71 : decode bM_look 71 = .ok (.getfield 13, 3) := by decide +kernel
theorem dM_look_74 : decode bM_look 74 = .ok (.bipush 40, 2) := by decide +kernel
theorem dM_look_76 : decode bM_look 76 = .ok (.iload_n 3, 1) := by decide +kernel
theorem dM_look_77 : decode bM_look 77 = .ok (.iadd, 1) := by decide +kernel
theorem dM_look_78 : decode bM_look 78 = .ok (.iaload, 1) := by decide +kernel
theorem dM_look_79 : decode bM_look 79 = .ok (.iload_n 1, 1) := by decide +kernel
theorem dM_look_80 : decode bM_look 80 = .ok (.if_icmp .ne 72, 3) := by decide +kernel
theorem dM_look_83 : decode bM_look 83 = .ok (.aload_n 0, 1) := by decide +kernel
theorem dM_look_84 : decode bM_look 84 = .ok (.getfield 16, 3) := by decide +kernel
theorem dM_look_87 : decode bM_look 87 = .ok (.iload_n 2, 1) := by decide +kernel
theorem dM_look_88 : decode bM_look 88 = .ok (.iaload, 1) := by decide +kernel
theorem dM_look_89 : decode bM_look 89 = .ok (.aload_n 0, 1) := by decide +kernel
theorem dM_look_90 : decode bM_look 90 = .ok (.getfield 16, 3) := by decide +kernel
theorem dM_look_93 : decode bM_look 93 = .ok (.bipush 40, 2) := by decide +kernel
theorem dM_look_95 : decode bM_look 95 = .ok (.iload_n 3, 1) := by decide +kernel
theorem dM_look_96 : decode bM_look 96 = .ok (.iadd, 1) := by decide +kernel
theorem dM_look_97 : decode bM_look 97 = .ok (.iaload, 1) := by decide +kernel
theorem dM_look_98 : decode bM_look 98 = .ok (.imul, 1) := by decide +kernel
theorem dM_look_99 : decode bM_look 99 = .ok (.istore 4, 2) := by decide +kernel
theorem dM_look_101 : decode bM_look 101 = .ok (.aload_n 0, 1) := by decide +kernel
theorem dM_look_102 : decode bM_look 102 = .ok (.dup, 1) := by decide +kernel
theorem dM_look_103 : decode bM_look 103 = .ok (.getfield 49, 3) := by decide +kernel
theorem dM_look_106 : decode bM_look 106 = .ok (.iconst 1, 1) := by decide +kernel
theorem dM_look_107 : decode bM_look 107 = .ok (.iadd, 1) := by decide +kernel
theorem dM_look_108 : decode bM_look 108 = .ok (.putfield 49, 3) := by decide +kernel
theorem dM_look_111 : decode bM_look 111 = .ok (.aload_n 0, 1) := by decide +kernel
theorem dM_look_112 : decode bM_look 112 = .ok (.dup, 1) := by decide +kernel
theorem dM_look_113 : decode bM_look 113 = .ok (.getfield 53, 3) := by decide +kernel
theorem dM_look_116 : decode bM_look 116 = .ok (.iload 4, 2) := by decide +kernel
theorem dM_look_118 : decode bM_look 118 = .ok (.iadd, 1) := by decide +kernel
theorem dM_look_119 : decode bM_look 119 = .ok (.putfield 53, 3) := by decide +kernel
theorem dM_look_122 : decode bM_look 122 = .ok (.iload 4, 2) := by decide +kernel
theorem dM_look_124 : decode bM_look 124 = .ok (.aload_n 0, 1) := by decide +kernel
theorem dM_look_125 : decode bM_look 125 = .ok (.getfield 56, 3) := by decide +kernel
theorem dM_look_128 : decode bM_look 128 = .ok (.if_icmp .ge 9, 3) := by decide +kernel
theorem dM_look_131 : decode bM_look 131 = .ok (.aload_n 0, 1) := by decide +kernel
theorem dM_look_132 : decode bM_look 132 = .ok (.iload 4, 2) := by decide +kernel
theorem dM_look_134 : decode bM_look 134 = .ok (.putfield 56, 3) := by decide +kernel
theorem dM_look_137 : decode bM_look 137 = .ok (.iload 4, 2) := by decide +kernel
theorem dM_look_139 : decode bM_look 139 = .ok (.aload_n 0, 1) := by decide +kernel
theorem dM_look_140 : decode bM_look 140 = .ok (.getfield 59, 3) := by decide +kernel
theorem dM_look_143 : decode bM_look 143 = .ok (.if_icmp .le 9, 3) := by decide +kernel
theorem dM_look_146 : decode bM_look 146 = .ok (.aload_n 0, 1) := by decide +kernel
theorem dM_look_147 : decode bM_look 147 = .ok (.iload 4, 2) := by decide +kernel
theorem dM_look_149 : decode bM_look 149 = .ok (.putfield 59, 3) := by decide +kernel
theorem dM_look_152 : decode bM_look 152 = .ok (.iinc 3 1, 3) := by decide +kernel
theorem dM_look_155 : decode bM_look 155 = .ok (.goto (-111), 3) := by decide +kernel
theorem dM_look_158 : decode bM_look 158 = .ok (.iinc 2 1, 3) := by decide +kernel
theorem dM_look_161 : decode bM_look 161 = .ok (.goto (-135), 3) := by decide +kernel
theorem dM_look_164 : decode bM_look 164 = .ok (.return_, 1) := by decide +kernel
theorem dM_dropAll_0 : decode bM_dropAll 0 = .ok (.bipush 39, 2) := by decide +kernel
theorem dM_dropAll_2 : decode bM_dropAll 2 = .ok (.istore_n 3, 1) := by decide +kernel
theorem dM_dropAll_3 : decode bM_dropAll 3 = .ok (.iload_n 3, 1) := by decide +kernel
theorem dM_dropAll_4 : decode bM_dropAll 4 = .ok (.ifCond .lt 40, 3) := by decide +kernel
theorem dM_dropAll_7 : decode bM_dropAll 7 = .ok (.iload_n 3, 1) := by decide +kernel
theorem dM_dropAll_8 : decode bM_dropAll 8 = .ok (.aload_n 0, 1) := by decide +kernel
theorem dM_dropAll_9 : decode bM_dropAll 9 = .ok (.getfield 7, 3) := by decide +kernel
theorem dM_dropAll_12 : decode bM_dropAll 12 = .ok (.iload_n 1, 1) := by decide +kernel
theorem dM_dropAll_13 : decode bM_dropAll 13 = .ok (.iaload, 1) := by decide +kernel
theorem dM_dropAll_14 : decode bM_dropAll 14 = .ok (.if_icmp .ge 24, 3) := by decide +kernel
theorem dM_dropAll_17 : decode bM_dropAll 17 = .ok (.aload_n 0, 1) := by decide +kernel
theorem dM_dropAll_18 : decode bM_dropAll 18 = .ok (.getfield 13, 3) := by decide +kernel
theorem dM_dropAll_21 : decode bM_dropAll 21 = .ok (.bipush 40, 2) := by decide +kernel
theorem dM_dropAll_23 : decode bM_dropAll 23 = .ok (.iload_n 1, 1) := by decide +kernel
theorem dM_dropAll_24 : decode bM_dropAll 24 = .ok (.imul, 1) := by decide +kernel
theorem dM_dropAll_25 : decode bM_dropAll 25 = .ok (.iload_n 3, 1) := by decide +kernel
theorem dM_dropAll_26 : decode bM_dropAll 26 = .ok (.iadd, 1) := by decide +kernel
theorem dM_dropAll_27 : decode bM_dropAll 27 = .ok (.iaload, 1) := by decide +kernel
theorem dM_dropAll_28 : decode bM_dropAll 28 = .ok (.iload_n 2, 1) := by decide +kernel
theorem dM_dropAll_29 : decode bM_dropAll 29 = .ok (.if_icmp .ne 9, 3) := by decide +kernel
theorem dM_dropAll_32 : decode bM_dropAll 32 = .ok (.aload_n 0, 1) := by decide +kernel
theorem dM_dropAll_33 : decode bM_dropAll 33 = .ok (.iload_n 1, 1) := by decide +kernel
theorem dM_dropAll_34 : decode bM_dropAll 34 = .ok (.iload_n 3, 1) := by decide +kernel
theorem dM_dropAll_35 : decode bM_dropAll 35 = .ok (.invokevirtual 45, 3) := by decide +kernel
theorem dM_dropAll_38 : decode bM_dropAll 38 = .ok (.iinc 3 (-1), 3) := by decide +kernel
theorem dM_dropAll_41 : decode bM_dropAll 41 = .ok (.goto (-38), 3) := by decide +kernel
theorem dM_dropAll_44 : decode bM_dropAll 44 = .ok (.return_, 1) := by decide +kernel
theorem dM_finish_0 : decode bM_finish 0 = .ok (.aload_n 0, 1) := by decide +kernel
theorem dM_finish_1 : decode bM_finish 1 = .ok (.iload_n 1, 1) := by decide +kernel
theorem dM_finish_2 : decode bM_finish 2 = .ok (.invokevirtual 62, 3) := by decide +kernel
theorem dM_finish_5 : decode bM_finish 5 = .ok (.aload_n 0, 1) := by decide +kernel
theorem dM_finish_6 : decode bM_finish 6 = .ok (.getfield 49, 3) := by decide +kernel
theorem dM_finish_9 : decode bM_finish 9 = .ok (.ifCond .le 84, 3) := by decide +kernel
theorem dM_finish_12 : decode bM_finish 12 = .ok (.aload_n 0, 1) := by decide +kernel
theorem dM_finish_13 : decode bM_finish 13 = .ok (.getfield 66, 3) := by decide +kernel
theorem dM_finish_16 : decode bM_finish 16 = .ok (.bipush 16, 2) := by decide +kernel
theorem dM_finish_18 : decode bM_finish 18 = .ok (.if_icmp .ge 75, 3) := by decide +kernel
theorem dM_finish_21 : decode bM_finish 21 = .ok (.aload_n 0, 1) := by decide +kernel
theorem dM_finish_22 : decode bM_finish 22 = .ok (.getfield 23, 3) := by decide +kernel
theorem dM_finish_25 : decode bM_finish 25 = .ok (.aload_n 0, 1) := by decide +kernel
theorem dM_finish_26 : decode bM_finish 26 = .ok (.getfield 66, 3) := by decide +kernel
theorem dM_finish_29 : decode bM_finish 29 = .ok (.iload_n 1, 1) := by decide +kernel
theorem dM_finish_30 : decode bM_finish 30 = .ok (.iastore, 1) := by decide +kernel
theorem dM_finish_31 : decode bM_finish 31 = .ok (.aload_n 0, 1) := by decide +kernel
theorem dM_finish_32 : decode bM_finish 32 = .ok (.getfield 26, 3) := by decide +kernel
theorem dM_finish_35 : decode bM_finish 35 = .ok (.aload_n 0, 1) := by decide +kernel
theorem dM_finish_36 : decode bM_finish 36 = .ok (.getfield 66, 3) := by decide +kernel
theorem dM_finish_39 : decode bM_finish 39 = .ok (.aload_n 0, 1) := by decide +kernel
theorem dM_finish_40 : decode bM_finish 40 = .ok (.getfield 49, 3) := by decide +kernel
theorem dM_finish_43 : decode bM_finish 43 = .ok (.iastore, 1) := by decide +kernel
theorem dM_finish_44 : decode bM_finish 44 = .ok (.aload_n 0, 1) := by decide +kernel
theorem dM_finish_45 : decode bM_finish 45 = .ok (.getfield 29, 3) := by decide +kernel
theorem dM_finish_48 : decode bM_finish 48 = .ok (.aload_n 0, 1) := by decide +kernel
theorem dM_finish_49 : decode bM_finish 49 = .ok (.getfield 66, 3) := by decide +kernel
theorem dM_finish_52 : decode bM_finish 52 = .ok (.aload_n 0, 1) := by decide +kernel
theorem dM_finish_53 : decode bM_finish 53 = .ok (.getfield 53, 3) := by decide +kernel
theorem dM_finish_56 : decode bM_finish 56 = .ok (.iastore, 1) := by decide +kernel
theorem dM_finish_57 : decode bM_finish 57 = .ok (.aload_n 0, 1) := by decide +kernel
theorem dM_finish_58 : decode bM_finish 58 = .ok (.getfield 32, 3) := by decide +kernel
theorem dM_finish_61 : decode bM_finish 61 = .ok (.aload_n 0, 1) := by decide +kernel
theorem dM_finish_62 : decode bM_finish 62 = .ok (.getfield 66, 3) := by decide +kernel
theorem dM_finish_65 : decode bM_finish 65 = .ok (.aload_n 0, 1) := by decide +kernel
theorem dM_finish_66 : decode bM_finish 66 = .ok (.getfield 56, 3) := by decide +kernel
theorem dM_finish_69 : decode bM_finish 69 = .ok (.iastore, 1) := by decide +kernel
theorem dM_finish_70 : decode bM_finish 70 = .ok (.aload_n 0, 1) := by decide +kernel
theorem dM_finish_71 : decode bM_finish 71 = .ok (.getfield 35, 3) := by decide +kernel
theorem dM_finish_74 : decode bM_finish 74 = .ok (.aload_n 0, 1) := by decide +kernel
theorem dM_finish_75 : decode bM_finish 75 = .ok (.getfield 66, 3) := by decide +kernel
theorem dM_finish_78 : decode bM_finish 78 = .ok (.aload_n 0, 1) := by decide +kernel
theorem dM_finish_79 : decode bM_finish 79 = .ok (.getfield 59, 3) := by decide +kernel
theorem dM_finish_82 : decode bM_finish 82 = .ok (.iastore, 1) := by decide +kernel
theorem dM_finish_83 : decode bM_finish 83 = .ok (.aload_n 0, 1) := by decide +kernel
theorem dM_finish_84 : decode bM_finish 84 = .ok (.dup, 1) := by decide +kernel
theorem dM_finish_85 : decode bM_finish 85 = .ok (.getfield 66, 3) := by decide +kernel
theorem dM_finish_88 : decode bM_finish 88 = .ok (.iconst 1, 1) := by decide +kernel
theorem dM_finish_89 : decode bM_finish 89 = .ok (.iadd, 1) := by decide +kernel
theorem dM_finish_90 : decode bM_finish 90 = .ok (.putfield 66, 3) := by decide +kernel
theorem dM_finish_93 : decode bM_finish 93 = .ok (.aload_n 0, 1) := by decide +kernel
theorem dM_finish_94 : decode bM_finish 94 = .ok (.iconst 0, 1) := by decide +kernel
theorem dM_finish_95 : decode bM_finish 95 = .ok (.iload_n 1, 1) := by decide +kernel
theorem dM_finish_96 : decode bM_finish 96 = .ok (.invokevirtual 69, 3) := by decide +kernel
theorem dM_finish_99 : decode bM_finish 99 = .ok (.aload_n 0, 1) := by decide +kernel
theorem dM_finish_100 : decode bM_finish 100 = .ok (.iconst 1, 1) := by decide +kernel
theorem dM_finish_101 : decode bM_finish 101 = .ok (.iload_n 1, 1) := by decide +kernel
theorem dM_finish_102 : decode bM_finish 102 = .ok (.invokevirtual 69, 3) := by decide +kernel
theorem dM_finish_105 : decode bM_finish 105 = .ok (.return_, 1) := by decide +kernel
theorem dM_finished_0 : decode bM_finished 0 = .ok (.aload_n 0, 1) := by decide +kernel
theorem dM_finished_1 : decode bM_finished 1 = .ok (.getfield 19, 3) := by decide +kernel
theorem dM_finished_4 : decode bM_finished 4 = .ok (.iload_n 1, 1) := by decide +kernel
theorem dM_finished_5 : decode bM_finished 5 = .ok (.baload, 1) := by decide +kernel
theorem dM_finished_6 : decode bM_finished 6 = .ok (.ifCond .eq 19, 3) := by decide +kernel
theorem dM_finished_9 : decode bM_finished 9 = .ok (.aload_n 0, 1) := by decide +kernel
theorem dM_finished_10 : decode bM_finished 10 = .ok (.getfield 19, 3) := by decide +kernel
theorem dM_finished_13 : decode bM_finished 13 = .ok (.bipush 16, 2) := by decide +kernel
theorem dM_finished_15 : decode bM_finished 15 = .ok (.iload_n 1, 1) := by decide +kernel
theorem dM_finished_16 : decode bM_finished 16 = .ok (.iadd, 1) := by decide +kernel
theorem dM_finished_17 : decode bM_finished 17 = .ok (.baload, 1) := by decide +kernel
theorem dM_finished_18 : decode bM_finished 18 = .ok (.ifCond .eq 7, 3) := by decide +kernel
theorem dM_finished_21 : decode bM_finished 21 = .ok (.iconst 1, 1) := by decide +kernel
theorem dM_finished_22 : decode bM_finished 22 = .ok (.goto 4, 3) := by decide +kernel
theorem dM_finished_25 : decode bM_finished 25 = .ok (.iconst 0, 1) := by decide +kernel
theorem dM_finished_26 : decode bM_finished 26 = .ok (.ireturn, 1) := by decide +kernel
theorem dM_close_0 : decode bM_close 0 = .ok (.aload_n 0, 1) := by decide +kernel
theorem dM_close_1 : decode bM_close 1 = .ok (.iload_n 1, 1) := by decide +kernel
theorem dM_close_2 : decode bM_close 2 = .ok (.invokevirtual 38, 3) := by decide +kernel
theorem dM_close_5 : decode bM_close 5 = .ok (.ifCond .eq 5, 3) := by decide +kernel
theorem dM_close_8 : decode bM_close 8 = .ok (.iconst (-1), 1) := by decide +kernel
theorem dM_close_9 : decode bM_close 9 = .ok (.ireturn, 1) := by decide +kernel
theorem dM_close_10 : decode bM_close 10 = .ok (.iload_n 2, 1) := by decide +kernel
theorem dM_close_11 : decode bM_close 11 = .ok (.ifCond .lt 14, 3) := by decide +kernel
theorem dM_close_14 : decode bM_close 14 = .ok (.iload_n 2, 1) := by decide +kernel
theorem dM_close_15 : decode bM_close 15 = .ok (.iload_n 3, 1) := by decide +kernel
theorem dM_close_16 : decode bM_close 16 = .ok (.if_icmp .gt 9, 3) := by decide +kernel
theorem dM_close_19 : decode bM_close 19 = .ok (.iload_n 3, 1) := by decide +kernel
theorem dM_close_20 : decode bM_close 20 = .ok (.bipush 15, 2) := by decide +kernel
theorem dM_close_22 : decode bM_close 22 = .ok (.if_icmp .le 6, 3) := by decide +kernel
theorem dM_close_25 : decode bM_close 25 = .ok (.bipush (-2), 2) := by decide +kernel
theorem dM_close_27 : decode bM_close 27 = .ok (.ireturn, 1) := by decide +kernel
theorem dM_close_28 : decode bM_close 28 = .ok (.iconst 0, 1) := by decide +kernel
theorem dM_close_29 : decode bM_close 29 = .ok (.istore 4, 2) := by decide +kernel
theorem dM_close_31 : decode bM_close 31 = .ok (.iload_n 2, 1) := by decide +kernel
theorem dM_close_32 : decode bM_close 32 = .ok (.istore 5, 2) := by decide +kernel
theorem dM_close_34 : decode bM_close 34 = .ok (.iload 5, 2) := by decide +kernel
theorem dM_close_36 : decode bM_close 36 = .ok (.iload_n 3, 1) := by decide +kernel
theorem dM_close_37 : decode bM_close 37 = .ok (.if_icmp .gt 53, 3) := by decide +kernel
theorem dM_close_40 : decode bM_close 40 = .ok (.aload_n 0, 1) := by decide +kernel
theorem dM_close_41 : decode bM_close 41 = .ok (.iload 5, 2) := by decide +kernel
theorem dM_close_43 : decode bM_close 43 = .ok (.invokevirtual 72, 3) := by decide +kernel
theorem dM_close_46 : decode bM_close 46 = .ok (.istore 6, 2) := by decide +kernel
theorem dM_close_48 : decode bM_close 48 = .ok (.aload_n 0, 1) := by decide +kernel
theorem dM_close_49 : decode bM_close 49 = .ok (.getfield 19, 3) := by decide +kernel
theorem dM_close_52 : decode bM_close 52 = .ok (.bipush 16, 2) := by decide +kernel
theorem dM_close_54 : decode bM_close 54 = .ok (.iload_n 1, 1) := by decide +kernel
theorem dM_close_55 : decode bM_close 55 = .ok (.imul, 1) := by decide +kernel
theorem dM_close_56 : decode bM_close 56 = .ok (.iload 5, 2) := by decide +kernel
theorem dM_close_58 : decode bM_close 58 = .ok (.iadd, 1) := by decide +kernel
theorem dM_close_59 : decode bM_close 59 = .ok (.iconst 1, 1) := by decide +kernel
theorem dM_close_60 : decode bM_close 60 = .ok (.bastore, 1) := by decide +kernel
theorem dM_close_61 : decode bM_close 61 = .ok (.iload 6, 2) := by decide +kernel
theorem dM_close_63 : decode bM_close 63 = .ok (.ifCond .ne 21, 3) := by decide +kernel
theorem dM_close_66 : decode bM_close 66 = .ok (.aload_n 0, 1) := by decide +kernel
theorem dM_close_67 : decode bM_close 67 = .ok (.iload 5, 2) := by decide +kernel
theorem dM_close_69 : decode bM_close 69 = .ok (.invokevirtual 72, 3) := by decide +kernel
theorem dM_close_72 : decode bM_close 72 = .ok (.ifCond .eq 12, 3) := by decide +kernel
theorem dM_close_75 : decode bM_close 75 = .ok (.aload_n 0, 1) := by decide +kernel
theorem dM_close_76 : decode bM_close 76 = .ok (.iload 5, 2) := by decide +kernel
theorem dM_close_78 : decode bM_close 78 = .ok (.invokevirtual 75, 3) := by decide +kernel
theorem dM_close_81 : decode bM_close 81 = .ok (.iinc 4 1, 3) := by decide +kernel
theorem dM_close_84 : decode bM_close 84 = .ok (.iinc 5 1, 3) := by decide +kernel
theorem dM_close_87 : decode bM_close 87 = .ok (.goto (-53), 3) := by decide +kernel
theorem dM_close_90 : decode bM_close 90 = .ok (.iload 4, 2) := by decide +kernel
theorem dM_close_92 : decode bM_close 92 = .ok (.ireturn, 1) := by decide +kernel
theorem dM_held_0 : decode bM_held 0 = .ok (.aload_n 0, 1) := by decide +kernel
theorem dM_held_1 : decode bM_held 1 = .ok (.iload_n 1, 1) := by decide +kernel
theorem dM_held_2 : decode bM_held 2 = .ok (.invokevirtual 38, 3) := by decide +kernel
theorem dM_held_5 : decode bM_held 5 = .ok (.ifCond .eq 7, 3) := by decide +kernel
theorem dM_held_8 : decode bM_held 8 = .ok (.iconst (-1), 1) := by decide +kernel
theorem dM_held_9 : decode bM_held 9 = .ok (.goto 9, 3) := by decide +kernel
theorem dM_held_12 : decode bM_held 12 = .ok (.aload_n 0, 1) := by decide +kernel
theorem dM_held_13 : decode bM_held 13 = .ok (.getfield 7, 3) := by decide +kernel
theorem dM_held_16 : decode bM_held 16 = .ok (.iload_n 1, 1) := by decide +kernel
theorem dM_held_17 : decode bM_held 17 = .ok (.iaload, 1) := by decide +kernel
theorem dM_held_18 : decode bM_held 18 = .ok (.ireturn, 1) := by decide +kernel
theorem dM_heldWith_0 : decode bM_heldWith 0 = .ok (.aload_n 0, 1) := by decide +kernel
theorem dM_heldWith_1 : decode bM_heldWith 1 = .ok (.iload_n 1, 1) := by decide +kernel
theorem dM_heldWith_2 : decode bM_heldWith 2 = .ok (.invokevirtual 38, 3) := by decide +kernel
theorem dM_heldWith_5 : decode bM_heldWith 5 = .ok (.ifCond .eq 5, 3) := by decide +kernel
theorem dM_heldWith_8 : decode bM_heldWith 8 = .ok (.iconst (-1), 1) := by decide +kernel
theorem dM_heldWith_9 : decode bM_heldWith 9 = .ok (.ireturn, 1) := by decide +kernel
theorem dM_heldWith_10 : decode bM_heldWith 10 = .ok (.aload_n 0, 1) := by decide +kernel
theorem dM_heldWith_11 : decode bM_heldWith 11 = .ok (.iload_n 2, 1) := by decide +kernel
theorem dM_heldWith_12 : decode bM_heldWith 12 = .ok (.invokevirtual 42, 3) := by decide +kernel
theorem dM_heldWith_15 : decode bM_heldWith 15 = .ok (.ifCond .eq 6, 3) := by decide +kernel
theorem dM_heldWith_18 : decode bM_heldWith 18 = .ok (.bipush (-2), 2) := by decide +kernel
theorem dM_heldWith_20 : decode bM_heldWith 20 = .ok (.ireturn, 1) := by decide +kernel
theorem dM_heldWith_21 : decode bM_heldWith 21 = .ok (.iconst 0, 1) := by decide +kernel
theorem dM_heldWith_22 : decode bM_heldWith 22 = .ok (.istore_n 3, 1) := by decide +kernel
theorem dM_heldWith_23 : decode bM_heldWith 23 = .ok (.iconst 0, 1) := by decide +kernel
theorem dM_heldWith_24 : decode bM_heldWith 24 = .ok (.istore 4, 2) := by decide +kernel
theorem dM_heldWith_26 : decode bM_heldWith 26 = .ok (.iload 4, 2) := by decide +kernel
theorem dM_heldWith_28 : decode bM_heldWith 28 = .ok (.aload_n 0, 1) := by decide +kernel
theorem dM_heldWith_29 : decode bM_heldWith 29 = .ok (.getfield 7, 3) := by decide +kernel
theorem dM_heldWith_32 : decode bM_heldWith 32 = .ok (.iload_n 1, 1) := by decide +kernel
theorem dM_heldWith_33 : decode bM_heldWith 33 = .ok (.iaload, 1) := by decide +kernel
theorem dM_heldWith_34 : decode bM_heldWith 34 = .ok (.if_icmp .ge 35, 3) := by decide +kernel
theorem dM_heldWith_37 : decode bM_heldWith 37 = .ok (.iload 4, 2) := by decide +kernel
theorem dM_heldWith_39 : decode bM_heldWith 39 = .ok (.bipush 40, 2) := by decide +kernel
theorem dM_heldWith_41 : decode bM_heldWith 41 = .ok (.if_icmp .ge 28, 3) := by decide +kernel
theorem dM_heldWith_44 : decode bM_heldWith 44 = .ok (.aload_n 0, 1) := by decide +kernel
theorem dM_heldWith_45 : decode bM_heldWith 45 = .ok (.getfield 13, 3) := by decide +kernel
theorem dM_heldWith_48 : decode bM_heldWith 48 = .ok (.bipush 40, 2) := by decide +kernel
theorem dM_heldWith_50 : decode bM_heldWith 50 = .ok (.iload_n 1, 1) := by decide +kernel
theorem dM_heldWith_51 : decode bM_heldWith 51 = .ok (.imul, 1) := by decide +kernel
theorem dM_heldWith_52 : decode bM_heldWith 52 = .ok (.iload 4, 2) := by decide +kernel
theorem dM_heldWith_54 : decode bM_heldWith 54 = .ok (.iadd, 1) := by decide +kernel
theorem dM_heldWith_55 : decode bM_heldWith 55 = .ok (.iaload, 1) := by decide +kernel
theorem dM_heldWith_56 : decode bM_heldWith 56 = .ok (.iload_n 2, 1) := by decide +kernel
theorem dM_heldWith_57 : decode bM_heldWith 57 = .ok (.if_icmp .ne 6, 3) := by decide +kernel
theorem dM_heldWith_60 : decode bM_heldWith 60 = .ok (.iinc 3 1, 3) := by decide +kernel
theorem dM_heldWith_63 : decode bM_heldWith 63 = .ok (.iinc 4 1, 3) := by decide +kernel
theorem dM_heldWith_66 : decode bM_heldWith 66 = .ok (.goto (-40), 3) := by decide +kernel
theorem dM_heldWith_69 : decode bM_heldWith 69 = .ok (.iload_n 3, 1) := by decide +kernel
theorem dM_heldWith_70 : decode bM_heldWith 70 = .ok (.ireturn, 1) := by decide +kernel
theorem dM_closed_0 : decode bM_closed 0 = .ok (.aload_n 0, 1) := by decide +kernel
theorem dM_closed_1 : decode bM_closed 1 = .ok (.iload_n 1, 1) := by decide +kernel
theorem dM_closed_2 : decode bM_closed 2 = .ok (.invokevirtual 38, 3) := by decide +kernel
theorem dM_closed_5 : decode bM_closed 5 = .ok (.ifCond .eq 5, 3) := by decide +kernel
theorem dM_closed_8 : decode bM_closed 8 = .ok (.iconst (-1), 1) := by decide +kernel
theorem dM_closed_9 : decode bM_closed 9 = .ok (.ireturn, 1) := by decide +kernel
theorem dM_closed_10 : decode bM_closed 10 = .ok (.aload_n 0, 1) := by decide +kernel
theorem dM_closed_11 : decode bM_closed 11 = .ok (.iload_n 2, 1) := by decide +kernel
theorem dM_closed_12 : decode bM_closed 12 = .ok (.invokevirtual 42, 3) := by decide +kernel
theorem dM_closed_15 : decode bM_closed 15 = .ok (.ifCond .eq 6, 3) := by decide +kernel
theorem dM_closed_18 : decode bM_closed 18 = .ok (.bipush (-2), 2) := by decide +kernel
theorem dM_closed_20 : decode bM_closed 20 = .ok (.ireturn, 1) := by decide +kernel
theorem dM_closed_21 : decode bM_closed 21 = .ok (.aload_n 0, 1) := by decide +kernel
theorem dM_closed_22 : decode bM_closed 22 = .ok (.getfield 19, 3) := by decide +kernel
theorem dM_closed_25 : decode bM_closed 25 = .ok (.bipush 16, 2) := by decide +kernel
theorem dM_closed_27 : decode bM_closed 27 = .ok (.iload_n 1, 1) := by decide +kernel
theorem dM_closed_28 : decode bM_closed 28 = .ok (.imul, 1) := by decide +kernel
theorem dM_closed_29 : decode bM_closed 29 = .ok (.iload_n 2, 1) := by decide +kernel
theorem dM_closed_30 : decode bM_closed 30 = .ok (.iadd, 1) := by decide +kernel
theorem dM_closed_31 : decode bM_closed 31 = .ok (.baload, 1) := by decide +kernel
theorem dM_closed_32 : decode bM_closed 32 = .ok (.ifCond .eq 7, 3) := by decide +kernel
theorem dM_closed_35 : decode bM_closed 35 = .ok (.iconst 1, 1) := by decide +kernel
theorem dM_closed_36 : decode bM_closed 36 = .ok (.goto 4, 3) := by decide +kernel
theorem dM_closed_39 : decode bM_closed 39 = .ok (.iconst 0, 1) := by decide +kernel
theorem dM_closed_40 : decode bM_closed 40 = .ok (.ireturn, 1) := by decide +kernel
theorem dM_noResult_0 : decode bM_noResult 0 = .ok (.iload_n 1, 1) := by decide +kernel
theorem dM_noResult_1 : decode bM_noResult 1 = .ok (.ifCond .lt 17, 3) := by decide +kernel
theorem dM_noResult_4 : decode bM_noResult 4 = .ok (.iload_n 1, 1) := by decide +kernel
theorem dM_noResult_5 : decode bM_noResult 5 = .ok (.aload_n 0, 1) := by decide +kernel
theorem dM_noResult_6 : decode bM_noResult 6 = .ok (.getfield 66, 3) := by decide +kernel
theorem dM_noResult_9 : decode bM_noResult 9 = .ok (.if_icmp .ge 9, 3) := by decide +kernel
theorem dM_noResult_12 : decode bM_noResult 12 = .ok (.iload_n 1, 1) := by decide +kernel
theorem dM_noResult_13 : decode bM_noResult 13 = .ok (.bipush 16, 2) := by decide +kernel
theorem dM_noResult_15 : decode bM_noResult 15 = .ok (.if_icmp .lt 7, 3) := by decide +kernel
theorem dM_noResult_18 : decode bM_noResult 18 = .ok (.iconst 1, 1) := by decide +kernel
theorem dM_noResult_19 : decode bM_noResult 19 = .ok (.goto 4, 3) := by decide +kernel
theorem dM_noResult_22 : decode bM_noResult 22 = .ok (.iconst 0, 1) := by decide +kernel
theorem dM_noResult_23 : decode bM_noResult 23 = .ok (.ireturn, 1) := by decide +kernel
theorem dM_results_0 : decode bM_results 0 = .ok (.aload_n 0, 1) := by decide +kernel
theorem dM_results_1 : decode bM_results 1 = .ok (.getfield 66, 3) := by decide +kernel
theorem dM_results_4 : decode bM_results 4 = .ok (.ireturn, 1) := by decide +kernel
theorem dM_resultKey_0 : decode bM_resultKey 0 = .ok (.aload_n 0, 1) := by decide +kernel
theorem dM_resultKey_1 : decode bM_resultKey 1 = .ok (.iload_n 1, 1) := by decide +kernel
theorem dM_resultKey_2 : decode bM_resultKey 2 = .ok (.invokevirtual 78, 3) := by decide +kernel
theorem dM_resultKey_5 : decode bM_resultKey 5 = .ok (.ifCond .eq 7, 3) := by decide +kernel
theorem dM_resultKey_8 : decode bM_resultKey 8 = .ok (.iconst (-1), 1) := by decide +kernel
theorem dM_resultKey_9 : decode bM_resultKey 9 = .ok (.goto 9, 3) := by decide +kernel
theorem dM_resultKey_12 : decode bM_resultKey 12 = .ok (.aload_n 0, 1) := by decide +kernel
theorem dM_resultKey_13 : decode bM_resultKey 13 = .ok (.getfield 23, 3) := by decide +kernel
theorem dM_resultKey_16 : decode bM_resultKey 16 = .ok (.iload_n 1, 1) := by decide +kernel
theorem dM_resultKey_17 : decode bM_resultKey 17 = .ok (.iaload, 1) := by decide +kernel
theorem dM_resultKey_18 : decode bM_resultKey 18 = .ok (.ireturn, 1) := by decide +kernel
theorem dM_resultPairs_0 : decode bM_resultPairs 0 = .ok (.aload_n 0, 1) := by decide +kernel
theorem dM_resultPairs_1 : decode bM_resultPairs 1 = .ok (.iload_n 1, 1) := by decide +kernel
theorem dM_resultPairs_2 : decode bM_resultPairs 2 = .ok (.invokevirtual 78, 3) := by decide +kernel
theorem dM_resultPairs_5 : decode bM_resultPairs 5 = .ok (.ifCond .eq 7, 3) := by decide +kernel
theorem dM_resultPairs_8 : decode bM_resultPairs 8 = .ok (.iconst (-1), 1) := by decide +kernel
theorem dM_resultPairs_9 : decode bM_resultPairs 9 = .ok (.goto 9, 3) := by decide +kernel
theorem dM_resultPairs_12 : decode bM_resultPairs 12 = .ok (.aload_n 0, 1) := by decide +kernel
theorem dM_resultPairs_13 : decode bM_resultPairs 13 = .ok (.getfield 26, 3) := by decide +kernel
theorem dM_resultPairs_16 : decode bM_resultPairs 16 = .ok (.iload_n 1, 1) := by decide +kernel
theorem dM_resultPairs_17 : decode bM_resultPairs 17 = .ok (.iaload, 1) := by decide +kernel
theorem dM_resultPairs_18 : decode bM_resultPairs 18 = .ok (.ireturn, 1) := by decide +kernel
theorem dM_resultSum_0 : decode bM_resultSum 0 = .ok (.aload_n 0, 1) := by decide +kernel
theorem dM_resultSum_1 : decode bM_resultSum 1 = .ok (.iload_n 1, 1) := by decide +kernel
theorem dM_resultSum_2 : decode bM_resultSum 2 = .ok (.invokevirtual 78, 3) := by decide +kernel
theorem dM_resultSum_5 : decode bM_resultSum 5 = .ok (.ifCond .eq 7, 3) := by decide +kernel
theorem dM_resultSum_8 : decode bM_resultSum 8 = .ok (.iconst 0, 1) := by decide +kernel
theorem dM_resultSum_9 : decode bM_resultSum 9 = .ok (.goto 9, 3) := by decide +kernel
theorem dM_resultSum_12 : decode bM_resultSum 12 = .ok (.aload_n 0, 1) := by decide +kernel
theorem dM_resultSum_13 : decode bM_resultSum 13 = .ok (.getfield 29, 3) := by decide +kernel
theorem dM_resultSum_16 : decode bM_resultSum 16 = .ok (.iload_n 1, 1) := by decide +kernel
theorem dM_resultSum_17 : decode bM_resultSum 17 = .ok (.iaload, 1) := by decide +kernel
theorem dM_resultSum_18 : decode bM_resultSum 18 = .ok (.ireturn, 1) := by decide +kernel
theorem dM_resultLeast_0 : decode bM_resultLeast 0 = .ok (.aload_n 0, 1) := by decide +kernel
theorem dM_resultLeast_1 : decode bM_resultLeast 1 = .ok (.iload_n 1, 1) := by decide +kernel
theorem dM_resultLeast_2 : decode bM_resultLeast 2 = .ok (.invokevirtual 78, 3) := by decide +kernel
theorem dM_resultLeast_5 : decode bM_resultLeast 5 = .ok (.ifCond .eq 7, 3) := by decide +kernel
theorem dM_resultLeast_8 : decode bM_resultLeast 8 = .ok (.iconst 0, 1) := by decide +kernel
theorem dM_resultLeast_9 : decode bM_resultLeast 9 = .ok (.goto 9, 3) := by decide +kernel
theorem dM_resultLeast_12 : decode bM_resultLeast 12 = .ok (.aload_n 0, 1) := by decide +kernel
theorem dM_resultLeast_13 : decode bM_resultLeast 13 = .ok (.getfield 32, 3) := by decide +kernel
theorem dM_resultLeast_16 : decode bM_resultLeast 16 = .ok (.iload_n 1, 1) := by decide +kernel
theorem dM_resultLeast_17 : decode bM_resultLeast 17 = .ok (.iaload, 1) := by decide +kernel
theorem dM_resultLeast_18 : decode bM_resultLeast 18 = .ok (.ireturn, 1) := by decide +kernel
theorem dM_resultGreatest_0 : decode bM_resultGreatest 0 = .ok (.aload_n 0, 1) := by decide +kernel
theorem dM_resultGreatest_1 : decode bM_resultGreatest 1 = .ok (.iload_n 1, 1) := by decide +kernel
theorem dM_resultGreatest_2 : decode bM_resultGreatest 2 = .ok (.invokevirtual 78, 3) := by decide +kernel
theorem dM_resultGreatest_5 : decode bM_resultGreatest 5 = .ok (.ifCond .eq 7, 3) := by decide +kernel
theorem dM_resultGreatest_8 : decode bM_resultGreatest 8 = .ok (.iconst 0, 1) := by decide +kernel
theorem dM_resultGreatest_9 : decode bM_resultGreatest 9 = .ok (.goto 9, 3) := by decide +kernel
theorem dM_resultGreatest_12 : decode bM_resultGreatest 12 = .ok (.aload_n 0, 1) := by decide +kernel
theorem dM_resultGreatest_13 : decode bM_resultGreatest 13 = .ok (.getfield 35, 3) := by decide +kernel
theorem dM_resultGreatest_16 : decode bM_resultGreatest 16 = .ok (.iload_n 1, 1) := by decide +kernel
theorem dM_resultGreatest_17 : decode bM_resultGreatest 17 = .ok (.iaload, 1) := by decide +kernel
theorem dM_resultGreatest_18 : decode bM_resultGreatest 18 = .ok (.ireturn, 1) := by decide +kernel
theorem dM_pairs_0 : decode bM_pairs 0 = .ok (.aload_n 0, 1) := by decide +kernel
theorem dM_pairs_1 : decode bM_pairs 1 = .ok (.iload_n 1, 1) := by decide +kernel
theorem dM_pairs_2 : decode bM_pairs 2 = .ok (.invokevirtual 42, 3) := by decide +kernel
theorem dM_pairs_5 : decode bM_pairs 5 = .ok (.ifCond .eq 5, 3) := by decide +kernel
theorem dM_pairs_8 : decode bM_pairs 8 = .ok (.iconst (-1), 1) := by decide +kernel
theorem dM_pairs_9 : decode bM_pairs 9 = .ok (.ireturn, 1) := by decide +kernel
theorem dM_pairs_10 : decode bM_pairs 10 = .ok (.aload_n 0, 1) := by decide +kernel
theorem dM_pairs_11 : decode bM_pairs 11 = .ok (.iload_n 1, 1) := by decide +kernel
theorem dM_pairs_12 : decode bM_pairs 12 = .ok (.invokevirtual 62, 3) := by decide +kernel
theorem dM_pairs_15 : decode bM_pairs 15 = .ok (.aload_n 0, 1) := by decide +kernel
theorem dM_pairs_16 : decode bM_pairs 16 = .ok (.getfield 49, 3) := by decide +kernel
theorem dM_pairs_19 : decode bM_pairs 19 = .ok (.ireturn, 1) := by decide +kernel
theorem dM_sum_0 : decode bM_sum 0 = .ok (.aload_n 0, 1) := by decide +kernel
theorem dM_sum_1 : decode bM_sum 1 = .ok (.iload_n 1, 1) := by decide +kernel
theorem dM_sum_2 : decode bM_sum 2 = .ok (.invokevirtual 42, 3) := by decide +kernel
theorem dM_sum_5 : decode bM_sum 5 = .ok (.ifCond .eq 5, 3) := by decide +kernel
theorem dM_sum_8 : decode bM_sum 8 = .ok (.iconst 0, 1) := by decide +kernel
theorem dM_sum_9 : decode bM_sum 9 = .ok (.ireturn, 1) := by decide +kernel
theorem dM_sum_10 : decode bM_sum 10 = .ok (.aload_n 0, 1) := by decide +kernel
theorem dM_sum_11 : decode bM_sum 11 = .ok (.iload_n 1, 1) := by decide +kernel
theorem dM_sum_12 : decode bM_sum 12 = .ok (.invokevirtual 62, 3) := by decide +kernel
theorem dM_sum_15 : decode bM_sum 15 = .ok (.aload_n 0, 1) := by decide +kernel
theorem dM_sum_16 : decode bM_sum 16 = .ok (.getfield 53, 3) := by decide +kernel
theorem dM_sum_19 : decode bM_sum 19 = .ok (.ireturn, 1) := by decide +kernel
theorem dM_least_0 : decode bM_least 0 = .ok (.aload_n 0, 1) := by decide +kernel
theorem dM_least_1 : decode bM_least 1 = .ok (.iload_n 1, 1) := by decide +kernel
theorem dM_least_2 : decode bM_least 2 = .ok (.invokevirtual 42, 3) := by decide +kernel
theorem dM_least_5 : decode bM_least 5 = .ok (.ifCond .eq 7, 3) := by decide +kernel
theorem dM_least_8 : decode bM_least 8 = .ok (.sipush 10000, 3) := by decide +kernel
theorem dM_least_11 : decode bM_least 11 = .ok (.ireturn, 1) := by decide +kernel
theorem dM_least_12 : decode bM_least 12 = .ok (.aload_n 0, 1) := by decide +kernel
theorem dM_least_13 : decode bM_least 13 = .ok (.iload_n 1, 1) := by decide +kernel
theorem dM_least_14 : decode bM_least 14 = .ok (.invokevirtual 62, 3) := by decide +kernel
theorem dM_least_17 : decode bM_least 17 = .ok (.aload_n 0, 1) := by decide +kernel
theorem dM_least_18 : decode bM_least 18 = .ok (.getfield 56, 3) := by decide +kernel
theorem dM_least_21 : decode bM_least 21 = .ok (.ireturn, 1) := by decide +kernel
theorem dM_greatest_0 : decode bM_greatest 0 = .ok (.aload_n 0, 1) := by decide +kernel
theorem dM_greatest_1 : decode bM_greatest 1 = .ok (.iload_n 1, 1) := by decide +kernel
theorem dM_greatest_2 : decode bM_greatest 2 = .ok (.invokevirtual 42, 3) := by decide +kernel
theorem dM_greatest_5 : decode bM_greatest 5 = .ok (.ifCond .eq 7, 3) := by decide +kernel
theorem dM_greatest_8 : decode bM_greatest 8 = .ok (.sipush (-10000), 3) := by decide +kernel
theorem dM_greatest_11 : decode bM_greatest 11 = .ok (.ireturn, 1) := by decide +kernel
theorem dM_greatest_12 : decode bM_greatest 12 = .ok (.aload_n 0, 1) := by decide +kernel
theorem dM_greatest_13 : decode bM_greatest 13 = .ok (.iload_n 1, 1) := by decide +kernel
theorem dM_greatest_14 : decode bM_greatest 14 = .ok (.invokevirtual 62, 3) := by decide +kernel
theorem dM_greatest_17 : decode bM_greatest 17 = .ok (.aload_n 0, 1) := by decide +kernel
theorem dM_greatest_18 : decode bM_greatest 18 = .ok (.getfield 59, 3) := by decide +kernel
theorem dM_greatest_21 : decode bM_greatest 21 = .ok (.ireturn, 1) := by decide +kernel
theorem dM_pairsFrom_0 : decode bM_pairsFrom 0 = .ok (.iconst 0, 1) := by decide +kernel
theorem dM_pairsFrom_1 : decode bM_pairsFrom 1 = .ok (.istore_n 2, 1) := by decide +kernel
theorem dM_pairsFrom_2 : decode bM_pairsFrom 2 = .ok (.iconst 0, 1) := by decide +kernel
theorem dM_pairsFrom_3 : decode bM_pairsFrom 3 = .ok (.istore_n 3, 1) := by decide +kernel
theorem dM_pairsFrom_4 : decode bM_pairsFrom 4 = .ok (.iload_n 3, 1) := by decide +kernel
theorem dM_pairsFrom_5 : decode bM_pairsFrom 5 = .ok (.aload_n 0, 1) := by decide +kernel
theorem dM_pairsFrom_6 : decode bM_pairsFrom 6 = .ok (.getfield 7, 3) := by decide +kernel
theorem dM_pairsFrom_9 : decode bM_pairsFrom 9 = .ok (.iconst 0, 1) := by decide +kernel
theorem dM_pairsFrom_10 : decode bM_pairsFrom 10 = .ok (.iaload, 1) := by decide +kernel
theorem dM_pairsFrom_11 : decode bM_pairsFrom 11 = .ok (.if_icmp .ge 85, 3) := by decide +kernel
theorem dM_pairsFrom_14 : decode bM_pairsFrom 14 = .ok (.iload_n 3, 1) := by decide +kernel
theorem dM_pairsFrom_15 : decode bM_pairsFrom 15 = .ok (.bipush 40, 2) := by decide +kernel
theorem dM_pairsFrom_17 : decode bM_pairsFrom 17 = .ok (.if_icmp .ge 79, 3) := by decide +kernel
theorem dM_pairsFrom_20 : decode bM_pairsFrom 20 = .ok (.iconst 0, 1) := by decide +kernel
theorem dM_pairsFrom_21 : decode bM_pairsFrom 21 = .ok (.istore 4, 2) := by decide +kernel
theorem dM_pairsFrom_23 : decode bM_pairsFrom 23 = .ok (.iload 4, 2) := by decide +kernel
theorem dM_pairsFrom_25 : decode bM_pairsFrom 25 = .ok (.aload_n 0, 1) := by decide +kernel
theorem dM_pairsFrom_26 : decode bM_pairsFrom 26 = .ok (.getfield 7, 3) := by decide +kernel
theorem dM_pairsFrom_29 : decode bM_pairsFrom 29 = .ok (.iconst 1, 1) := by decide +kernel
theorem dM_pairsFrom_30 : decode bM_pairsFrom 30 = .ok (.iaload, 1) := by decide +kernel
theorem dM_pairsFrom_31 : decode bM_pairsFrom 31 = .ok (.if_icmp .ge 59, 3) := by decide +kernel
theorem dM_pairsFrom_34 : decode bM_pairsFrom 34 = .ok (.iload 4, 2) := by decide +kernel
theorem dM_pairsFrom_36 : decode bM_pairsFrom 36 = .ok (.bipush 40, 2) := by decide +kernel
theorem dM_pairsFrom_38 : decode bM_pairsFrom 38 = .ok (.if_icmp .ge 52, 3) := by decide +kernel
theorem dM_pairsFrom_41 : decode bM_pairsFrom 41 = .ok (.aload_n 0, 1) := by decide +kernel
theorem dM_pairsFrom_42 : decode bM_pairsFrom 42 = .ok (.getfield 13, 3) := by decide +kernel
theorem dM_pairsFrom_45 : decode bM_pairsFrom 45 = .ok (.iload_n 3, 1) := by decide +kernel
theorem dM_pairsFrom_46 : decode bM_pairsFrom 46 = .ok (.iaload, 1) := by decide +kernel
theorem dM_pairsFrom_47 : decode bM_pairsFrom 47 = .ok (.aload_n 0, 1) := by decide +kernel
theorem dM_pairsFrom_48 : decode bM_pairsFrom 48 = .ok (.getfield 13, 3) := by decide +kernel
theorem dM_pairsFrom_51 : decode bM_pairsFrom 51 = .ok (.bipush 40, 2) := by decide +kernel
theorem dM_pairsFrom_53 : decode bM_pairsFrom 53 = .ok (.iload 4, 2) := by decide +kernel
theorem dM_pairsFrom_55 : decode bM_pairsFrom 55 = .ok (.iadd, 1) := by decide +kernel
theorem dM_pairsFrom_56 : decode bM_pairsFrom 56 = .ok (.iaload, 1) := by decide +kernel
theorem dM_pairsFrom_57 : decode bM_pairsFrom 57 = .ok (.if_icmp .ne 27, 3) := by decide +kernel
theorem dM_pairsFrom_60 : decode bM_pairsFrom 60 = .ok (.aload_n 0, 1) := by decide +kernel
theorem dM_pairsFrom_61 : decode bM_pairsFrom 61 = .ok (.getfield 16, 3) := by decide +kernel
theorem dM_pairsFrom_64 : decode bM_pairsFrom 64 = .ok (.iload_n 3, 1) := by decide +kernel
theorem dM_pairsFrom_65 : decode bM_pairsFrom 65 = .ok (.iaload, 1) := by decide +kernel
theorem dM_pairsFrom_66 : decode bM_pairsFrom 66 = .ok (.aload_n 0, 1) := by decide +kernel
theorem dM_pairsFrom_67 : decode bM_pairsFrom 67 = .ok (.getfield 16, 3) := by decide +kernel
theorem dM_pairsFrom_70 : decode bM_pairsFrom 70 = .ok (.bipush 40, 2) := by decide +kernel
theorem dM_pairsFrom_72 : decode bM_pairsFrom 72 = .ok (.iload 4, 2) := by decide +kernel
theorem dM_pairsFrom_74 : decode bM_pairsFrom 74 = .ok (.iadd, 1) := by decide +kernel
theorem dM_pairsFrom_75 : decode bM_pairsFrom 75 = .ok (.iaload, 1) := by decide +kernel
theorem dM_pairsFrom_76 : decode bM_pairsFrom 76 = .ok (.imul, 1) := by decide +kernel
theorem dM_pairsFrom_77 : decode bM_pairsFrom 77 = .ok (.iload_n 1, 1) := by decide +kernel
theorem dM_pairsFrom_78 : decode bM_pairsFrom 78 = .ok (.if_icmp .lt 6, 3) := by decide +kernel
theorem dM_pairsFrom_81 : decode bM_pairsFrom 81 = .ok (.iinc 2 1, 3) := by decide +kernel
theorem dM_pairsFrom_84 : decode bM_pairsFrom 84 = .ok (.iinc 4 1, 3) := by decide +kernel
theorem dM_pairsFrom_87 : decode bM_pairsFrom 87 = .ok (.goto (-64), 3) := by decide +kernel
theorem dM_pairsFrom_90 : decode bM_pairsFrom 90 = .ok (.iinc 3 1, 3) := by decide +kernel
theorem dM_pairsFrom_93 : decode bM_pairsFrom 93 = .ok (.goto (-89), 3) := by decide +kernel
theorem dM_pairsFrom_96 : decode bM_pairsFrom 96 = .ok (.iload_n 2, 1) := by decide +kernel
theorem dM_pairsFrom_97 : decode bM_pairsFrom 97 = .ok (.ireturn, 1) := by decide +kernel
theorem dM_bandDone_0 : decode bM_bandDone 0 = .ok (.iconst 4, 1) := by decide +kernel
theorem dM_bandDone_1 : decode bM_bandDone 1 = .ok (.iload_n 1, 1) := by decide +kernel
theorem dM_bandDone_2 : decode bM_bandDone 2 = .ok (.imul, 1) := by decide +kernel
theorem dM_bandDone_3 : decode bM_bandDone 3 = .ok (.istore_n 2, 1) := by decide +kernel
theorem dM_bandDone_4 : decode bM_bandDone 4 = .ok (.iload_n 2, 1) := by decide +kernel
theorem dM_bandDone_5 : decode bM_bandDone 5 = .ok (.iconst 4, 1) := by decide +kernel
theorem dM_bandDone_6 : decode bM_bandDone 6 = .ok (.iload_n 1, 1) := by decide +kernel
theorem dM_bandDone_7 : decode bM_bandDone 7 = .ok (.imul, 1) := by decide +kernel
theorem dM_bandDone_8 : decode bM_bandDone 8 = .ok (.iconst 4, 1) := by decide +kernel
theorem dM_bandDone_9 : decode bM_bandDone 9 = .ok (.iadd, 1) := by decide +kernel
theorem dM_bandDone_10 : decode bM_bandDone 10 = .ok (.if_icmp .ge 19, 3) := by decide +kernel
theorem dM_bandDone_13 : decode bM_bandDone 13 = .ok (.aload_n 0, 1) := by decide +kernel
theorem dM_bandDone_14 : decode bM_bandDone 14 = .ok (.iload_n 2, 1) := by decide +kernel
theorem dM_bandDone_15 : decode bM_bandDone 15 = .ok (.invokevirtual 72, 3) := by decide +kernel
theorem dM_bandDone_18 : decode bM_bandDone 18 = .ok (.ifCond .ne 5, 3) := by decide +kernel
theorem dM_bandDone_21 : decode bM_bandDone 21 = .ok (.iconst 0, 1) := by decide +kernel
theorem dM_bandDone_22 : decode bM_bandDone 22 = .ok (.ireturn, 1) := by decide +kernel
theorem dM_bandDone_23 : decode bM_bandDone 23 = .ok (.iinc 2 1, 3) := by decide +kernel
theorem dM_bandDone_26 : decode bM_bandDone 26 = .ok (.goto (-22), 3) := by decide +kernel
theorem dM_bandDone_29 : decode bM_bandDone 29 = .ok (.iconst 1, 1) := by decide +kernel
theorem dM_bandDone_30 : decode bM_bandDone 30 = .ok (.ireturn, 1) := by decide +kernel
theorem dM_bandsFinished_0 : decode bM_bandsFinished 0 = .ok (.iconst 0, 1) := by decide +kernel
theorem dM_bandsFinished_1 : decode bM_bandsFinished 1 = .ok (.istore_n 1, 1) := by decide +kernel
theorem dM_bandsFinished_2 : decode bM_bandsFinished 2 = .ok (.iconst 0, 1) := by decide +kernel
theorem dM_bandsFinished_3 : decode bM_bandsFinished 3 = .ok (.istore_n 2, 1) := by decide +kernel
theorem dM_bandsFinished_4 : decode bM_bandsFinished 4 = .ok (.iload_n 2, 1) := by decide +kernel
theorem dM_bandsFinished_5 : decode bM_bandsFinished 5 = .ok (.iconst 4, 1) := by decide +kernel
theorem dM_bandsFinished_6 : decode bM_bandsFinished 6 = .ok (.if_icmp .ge 20, 3) := by decide +kernel
theorem dM_bandsFinished_9 : decode bM_bandsFinished 9 = .ok (.aload_n 0, 1) := by decide +kernel
theorem dM_bandsFinished_10 : decode bM_bandsFinished 10 = .ok (.iload_n 2, 1) := by decide +kernel
theorem dM_bandsFinished_11 : decode bM_bandsFinished 11 = .ok (.invokevirtual 81, 3) := by decide +kernel
theorem dM_bandsFinished_14 : decode bM_bandsFinished 14 = .ok (.ifCond .eq 6, 3) := by decide +kernel
theorem dM_bandsFinished_17 : decode bM_bandsFinished 17 = .ok (.iinc 1 1, 3) := by decide +kernel
theorem dM_bandsFinished_20 : decode bM_bandsFinished 20 = .ok (.iinc 2 1, 3) := by decide +kernel
theorem dM_bandsFinished_23 : decode bM_bandsFinished 23 = .ok (.goto (-19), 3) := by decide +kernel
theorem dM_bandsFinished_26 : decode bM_bandsFinished 26 = .ok (.iload_n 1, 1) := by decide +kernel
theorem dM_bandsFinished_27 : decode bM_bandsFinished 27 = .ok (.ireturn, 1) := by decide +kernel
theorem dM_bandSum_0 : decode bM_bandSum 0 = .ok (.iload_n 1, 1) := by decide +kernel
theorem dM_bandSum_1 : decode bM_bandSum 1 = .ok (.ifCond .lt 8, 3) := by decide +kernel
theorem dM_bandSum_4 : decode bM_bandSum 4 = .ok (.iload_n 1, 1) := by decide +kernel
theorem dM_bandSum_5 : decode bM_bandSum 5 = .ok (.iconst 3, 1) := by decide +kernel
theorem dM_bandSum_6 : decode bM_bandSum 6 = .ok (.if_icmp .le 6, 3) := by decide +kernel
theorem dM_bandSum_9 : decode bM_bandSum 9 = .ok (.ldc 84, 2) := by decide +kernel
theorem dM_bandSum_11 : decode bM_bandSum 11 = .ok (.ireturn, 1) := by decide +kernel
theorem dM_bandSum_12 : decode bM_bandSum 12 = .ok (.aload_n 0, 1) := by decide +kernel
theorem dM_bandSum_13 : decode bM_bandSum 13 = .ok (.iload_n 1, 1) := by decide +kernel
theorem dM_bandSum_14 : decode bM_bandSum 14 = .ok (.invokevirtual 81, 3) := by decide +kernel
theorem dM_bandSum_17 : decode bM_bandSum 17 = .ok (.ifCond .ne 6, 3) := by decide +kernel
theorem dM_bandSum_20 : decode bM_bandSum 20 = .ok (.ldc 85, 2) := by decide +kernel
theorem dM_bandSum_22 : decode bM_bandSum 22 = .ok (.ireturn, 1) := by decide +kernel
theorem dM_bandSum_23 : decode bM_bandSum 23 = .ok (.iconst 0, 1) := by decide +kernel
theorem dM_bandSum_24 : decode bM_bandSum 24 = .ok (.istore_n 2, 1) := by decide +kernel
theorem dM_bandSum_25 : decode bM_bandSum 25 = .ok (.iconst 0, 1) := by decide +kernel
theorem dM_bandSum_26 : decode bM_bandSum 26 = .ok (.istore_n 3, 1) := by decide +kernel
theorem dM_bandSum_27 : decode bM_bandSum 27 = .ok (.iload_n 3, 1) := by decide +kernel
theorem dM_bandSum_28 : decode bM_bandSum 28 = .ok (.aload_n 0, 1) := by decide +kernel
theorem dM_bandSum_29 : decode bM_bandSum 29 = .ok (.getfield 66, 3) := by decide +kernel
theorem dM_bandSum_32 : decode bM_bandSum 32 = .ok (.if_icmp .ge 36, 3) := by decide +kernel
theorem dM_bandSum_35 : decode bM_bandSum 35 = .ok (.iload_n 3, 1) := by decide +kernel
theorem dM_bandSum_36 : decode bM_bandSum 36 = .ok (.bipush 16, 2) := by decide +kernel
theorem dM_bandSum_38 : decode bM_bandSum 38 = .ok (.if_icmp .ge 30, 3) := by decide +kernel
theorem dM_bandSum_41 : decode bM_bandSum 41 = .ok (.aload_n 0, 1) := by decide +kernel
theorem dM_bandSum_42 : decode bM_bandSum 42 = .ok (.getfield 23, 3) := by decide +kernel
theorem dM_bandSum_45 : decode bM_bandSum 45 = .ok (.iload_n 3, 1) := by decide +kernel
theorem dM_bandSum_46 : decode bM_bandSum 46 = .ok (.iaload, 1) := by decide +kernel
theorem dM_bandSum_47 : decode bM_bandSum 47 = .ok (.iconst 4, 1) := by decide +kernel
theorem dM_bandSum_48 : decode bM_bandSum 48 = .ok (.idiv, 1) := by decide +kernel
theorem dM_bandSum_49 : decode bM_bandSum 49 = .ok (.iload_n 1, 1) := by decide +kernel
theorem dM_bandSum_50 : decode bM_bandSum 50 = .ok (.if_icmp .ne 12, 3) := by decide +kernel
theorem dM_bandSum_53 : decode bM_bandSum 53 = .ok (.iload_n 2, 1) := by decide +kernel
theorem dM_bandSum_54 : decode bM_bandSum 54 = .ok (.aload_n 0, 1) := by decide +kernel
theorem dM_bandSum_55 : decode bM_bandSum 55 = .ok (.getfield 29, 3) := by decide +kernel
theorem dM_bandSum_58 : decode bM_bandSum 58 = .ok (.iload_n 3, 1) := by decide +kernel
theorem dM_bandSum_59 : decode bM_bandSum 59 = .ok (.iaload, 1) := by decide +kernel
theorem dM_bandSum_60 : decode bM_bandSum 60 = .ok (.iadd, 1) := by decide +kernel
theorem dM_bandSum_61 : decode bM_bandSum 61 = .ok (.istore_n 2, 1) := by decide +kernel
theorem dM_bandSum_62 : decode bM_bandSum 62 = .ok (.iinc 3 1, 3) := by decide +kernel
theorem dM_bandSum_65 : decode bM_bandSum 65 = .ok (.goto (-38), 3) := by decide +kernel
theorem dM_bandSum_68 : decode bM_bandSum 68 = .ok (.iload_n 2, 1) := by decide +kernel
theorem dM_bandSum_69 : decode bM_bandSum 69 = .ok (.ireturn, 1) := by decide +kernel
end
section
theorem dL_law_0 : decode code 0 = .ok (.new 7, 3) := by decide +kernel
theorem dL_law_3 : decode code 3 = .ok (.dup, 1) := by decide +kernel
theorem dL_law_4 : decode code 4 = .ok (.invokespecial 9, 3) := by decide +kernel
theorem dL_law_7 : decode code 7 = .ok (.astore_n 1, 1) := by decide +kernel
theorem dL_law_8 : decode code 8 = .ok (.new 10, 3) := by decide +kernel
theorem dL_law_11 : decode code 11 = .ok (.dup, 1) := by decide +kernel
theorem dL_law_12 : decode code 12 = .ok (.invokespecial 12, 3) := by decide +kernel
theorem dL_law_15 : decode code 15 = .ok (.astore_n 2, 1) := by decide +kernel
theorem dL_law_16 : decode code 16 = .ok (.iconst 0, 1) := by decide +kernel
theorem dL_law_17 : decode code 17 = .ok (.istore_n 3, 1) := by decide +kernel
theorem dL_law_18 : decode code 18 = .ok (.iload_n 3, 1) := by decide +kernel
theorem dL_law_19 : decode code 19 = .ok (.aload_n 0, 1) := by decide +kernel
theorem dL_law_20 : decode code 20 = .ok (.arraylength, 1) := by decide +kernel
theorem dL_law_21 : decode code 21 = .ok (.iconst 4, 1) := by decide +kernel
theorem dL_law_22 : decode code 22 = .ok (.isub, 1) := by decide +kernel
theorem dL_law_23 : decode code 23 = .ok (.if_icmp .gt 604, 3) := by decide +kernel
theorem dL_law_26 : decode code 26 = .ok (.aload_n 0, 1) := by decide +kernel
theorem dL_law_27 : decode code 27 = .ok (.iload_n 3, 1) := by decide +kernel
theorem dL_law_28 : decode code 28 = .ok (.iaload, 1) := by decide +kernel
theorem dL_law_29 : decode code 29 = .ok (.bipush 31, 2) := by decide +kernel
theorem dL_law_31 : decode code 31 = .ok (.iand, 1) := by decide +kernel
theorem dL_law_32 : decode code 32 = .ok (.tableswitch 589 0 18 #[92, 135, 178, 221, 244, 277, 310, 323, 346, 369, 392, 415, 438, 461, 484, 507, 530, 553, 566], 92) := by decide +kernel
theorem dL_law_124 : decode code 124 = .ok (.aload_n 1, 1) := by decide +kernel
theorem dL_law_125 : decode code 125 = .ok (.aload_n 0, 1) := by decide +kernel
theorem dL_law_126 : decode code 126 = .ok (.iload_n 3, 1) := by decide +kernel
theorem dL_law_127 : decode code 127 = .ok (.iconst 1, 1) := by decide +kernel
theorem dL_law_128 : decode code 128 = .ok (.iadd, 1) := by decide +kernel
theorem dL_law_129 : decode code 129 = .ok (.iaload, 1) := by decide +kernel
theorem dL_law_130 : decode code 130 = .ok (.aload_n 0, 1) := by decide +kernel
theorem dL_law_131 : decode code 131 = .ok (.iload_n 3, 1) := by decide +kernel
theorem dL_law_132 : decode code 132 = .ok (.iconst 2, 1) := by decide +kernel
theorem dL_law_133 : decode code 133 = .ok (.iadd, 1) := by decide +kernel
theorem dL_law_134 : decode code 134 = .ok (.iaload, 1) := by decide +kernel
theorem dL_law_135 : decode code 135 = .ok (.aload_n 0, 1) := by decide +kernel
theorem dL_law_136 : decode code 136 = .ok (.iload_n 3, 1) := by decide +kernel
theorem dL_law_137 : decode code 137 = .ok (.iconst 3, 1) := by decide +kernel
theorem dL_law_138 : decode code 138 = .ok (.iadd, 1) := by decide +kernel
theorem dL_law_139 : decode code 139 = .ok (.iaload, 1) := by decide +kernel
theorem dL_law_140 : decode code 140 = .ok (.invokevirtual 13, 3) := by decide +kernel
theorem dL_law_143 : decode code 143 = .ok (.aload_n 2, 1) := by decide +kernel
theorem dL_law_144 : decode code 144 = .ok (.aload_n 0, 1) := by decide +kernel
theorem dL_law_145 : decode code 145 = .ok (.iload_n 3, 1) := by decide +kernel
theorem dL_law_146 : decode code 146 = .ok (.iconst 1, 1) := by decide +kernel
theorem dL_law_147 : decode code 147 = .ok (.iadd, 1) := by decide +kernel
theorem dL_law_148 : decode code 148 = .ok (.iaload, 1) := by decide +kernel
theorem dL_law_149 : decode code 149 = .ok (.aload_n 0, 1) := by decide +kernel
theorem dL_law_150 : decode code 150 = .ok (.iload_n 3, 1) := by decide +kernel
theorem dL_law_151 : decode code 151 = .ok (.iconst 2, 1) := by decide +kernel
theorem dL_law_152 : decode code 152 = .ok (.iadd, 1) := by decide +kernel
theorem dL_law_153 : decode code 153 = .ok (.iaload, 1) := by decide +kernel
theorem dL_law_154 : decode code 154 = .ok (.aload_n 0, 1) := by decide +kernel
theorem dL_law_155 : decode code 155 = .ok (.iload_n 3, 1) := by decide +kernel
theorem dL_law_156 : decode code 156 = .ok (.iconst 3, 1) := by decide +kernel
theorem dL_law_157 : decode code 157 = .ok (.iadd, 1) := by decide +kernel
theorem dL_law_158 : decode code 158 = .ok (.iaload, 1) := by decide +kernel
theorem dL_law_159 : decode code 159 = .ok (.invokevirtual 17, 3) := by decide +kernel
theorem dL_law_162 : decode code 162 = .ok (.if_icmp .eq 459, 3) := by decide +kernel
theorem dL_law_165 : decode code 165 = .ok (.iconst 0, 1) := by decide +kernel
theorem dL_law_166 : decode code 166 = .ok (.ireturn, 1) := by decide +kernel
theorem dL_law_167 : decode code 167 = .ok (.aload_n 1, 1) := by decide +kernel
theorem dL_law_168 : decode code 168 = .ok (.aload_n 0, 1) := by decide +kernel
theorem dL_law_169 : decode code 169 = .ok (.iload_n 3, 1) := by decide +kernel
theorem dL_law_170 : decode code 170 = .ok (.iconst 1, 1) := by decide +kernel
theorem dL_law_171 : decode code 171 = .ok (.iadd, 1) := by decide +kernel
theorem dL_law_172 : decode code 172 = .ok (.iaload, 1) := by decide +kernel
theorem dL_law_173 : decode code 173 = .ok (.aload_n 0, 1) := by decide +kernel
theorem dL_law_174 : decode code 174 = .ok (.iload_n 3, 1) := by decide +kernel
theorem dL_law_175 : decode code 175 = .ok (.iconst 2, 1) := by decide +kernel
theorem dL_law_176 : decode code 176 = .ok (.iadd, 1) := by decide +kernel
theorem dL_law_177 : decode code 177 = .ok (.iaload, 1) := by decide +kernel
theorem dL_law_178 : decode code 178 = .ok (.aload_n 0, 1) := by decide +kernel
theorem dL_law_179 : decode code 179 = .ok (.iload_n 3, 1) := by decide +kernel
theorem dL_law_180 : decode code 180 = .ok (.iconst 3, 1) := by decide +kernel
theorem dL_law_181 : decode code 181 = .ok (.iadd, 1) := by decide +kernel
theorem dL_law_182 : decode code 182 = .ok (.iaload, 1) := by decide +kernel
theorem dL_law_183 : decode code 183 = .ok (.invokevirtual 18, 3) := by decide +kernel
theorem dL_law_186 : decode code 186 = .ok (.aload_n 2, 1) := by decide +kernel
theorem dL_law_187 : decode code 187 = .ok (.aload_n 0, 1) := by decide +kernel
theorem dL_law_188 : decode code 188 = .ok (.iload_n 3, 1) := by decide +kernel
theorem dL_law_189 : decode code 189 = .ok (.iconst 1, 1) := by decide +kernel
theorem dL_law_190 : decode code 190 = .ok (.iadd, 1) := by decide +kernel
theorem dL_law_191 : decode code 191 = .ok (.iaload, 1) := by decide +kernel
theorem dL_law_192 : decode code 192 = .ok (.aload_n 0, 1) := by decide +kernel
theorem dL_law_193 : decode code 193 = .ok (.iload_n 3, 1) := by decide +kernel
theorem dL_law_194 : decode code 194 = .ok (.iconst 2, 1) := by decide +kernel
theorem dL_law_195 : decode code 195 = .ok (.iadd, 1) := by decide +kernel
theorem dL_law_196 : decode code 196 = .ok (.iaload, 1) := by decide +kernel
theorem dL_law_197 : decode code 197 = .ok (.aload_n 0, 1) := by decide +kernel
theorem dL_law_198 : decode code 198 = .ok (.iload_n 3, 1) := by decide +kernel
theorem dL_law_199 : decode code 199 = .ok (.iconst 3, 1) := by decide +kernel
theorem dL_law_200 : decode code 200 = .ok (.iadd, 1) := by decide +kernel
theorem dL_law_201 : decode code 201 = .ok (.iaload, 1) := by decide +kernel
theorem dL_law_202 : decode code 202 = .ok (.invokevirtual 21, 3) := by decide +kernel
theorem dL_law_205 : decode code 205 = .ok (.if_icmp .eq 416, 3) := by decide +kernel
theorem dL_law_208 : decode code 208 = .ok (.iconst 0, 1) := by decide +kernel
theorem dL_law_209 : decode code 209 = .ok (.ireturn, 1) := by decide +kernel
theorem dL_law_210 : decode code 210 = .ok (.aload_n 1, 1) := by decide +kernel
theorem dL_law_211 : decode code 211 = .ok (.aload_n 0, 1) := by decide +kernel
theorem dL_law_212 : decode code 212 = .ok (.iload_n 3, 1) := by decide +kernel
theorem dL_law_213 : decode code 213 = .ok (.iconst 1, 1) := by decide +kernel
theorem dL_law_214 : decode code 214 = .ok (.iadd, 1) := by decide +kernel
theorem dL_law_215 : decode code 215 = .ok (.iaload, 1) := by decide +kernel
theorem dL_law_216 : decode code 216 = .ok (.aload_n 0, 1) := by decide +kernel
end
section
theorem dL_law_217 : decode code 217 = .ok (.iload_n 3, 1) := by decide +kernel
theorem dL_law_218 : decode code 218 = .ok (.iconst 2, 1) := by decide +kernel
theorem dL_law_219 : decode code 219 = .ok (.iadd, 1) := by decide +kernel
theorem dL_law_220 : decode code 220 = .ok (.iaload, 1) := by decide +kernel
theorem dL_law_221 : decode code 221 = .ok (.aload_n 0, 1) := by decide +kernel
theorem dL_law_222 : decode code 222 = .ok (.iload_n 3, 1) := by decide +kernel
theorem dL_law_223 : decode code 223 = .ok (.iconst 3, 1) := by decide +kernel
theorem dL_law_224 : decode code 224 = .ok (.iadd, 1) := by decide +kernel
theorem dL_law_225 : decode code 225 = .ok (.iaload, 1) := by decide +kernel
theorem dL_law_226 : decode code 226 = .ok (.invokevirtual 22, 3) := by decide +kernel
theorem dL_law_229 : decode code 229 = .ok (.aload_n 2, 1) := by decide +kernel
theorem dL_law_230 : decode code 230 = .ok (.aload_n 0, 1) := by decide +kernel
theorem dL_law_231 : decode code 231 = .ok (.iload_n 3, 1) := by decide +kernel
theorem dL_law_232 : decode code 232 = .ok (.iconst 1, 1) := by decide +kernel
theorem dL_law_233 : decode code 233 = .ok (.iadd, 1) := by decide +kernel
theorem dL_law_234 : decode code 234 = .ok (.iaload, 1) := by decide +kernel
theorem dL_law_235 : decode code 235 = .ok (.aload_n 0, 1) := by decide +kernel
theorem dL_law_236 : decode code 236 = .ok (.iload_n 3, 1) := by decide +kernel
theorem dL_law_237 : decode code 237 = .ok (.iconst 2, 1) := by decide +kernel
theorem dL_law_238 : decode code 238 = .ok (.iadd, 1) := by decide +kernel
theorem dL_law_239 : decode code 239 = .ok (.iaload, 1) := by decide +kernel
theorem dL_law_240 : decode code 240 = .ok (.aload_n 0, 1) := by decide +kernel
theorem dL_law_241 : decode code 241 = .ok (.iload_n 3, 1) := by decide +kernel
theorem dL_law_242 : decode code 242 = .ok (.iconst 3, 1) := by decide +kernel
theorem dL_law_243 : decode code 243 = .ok (.iadd, 1) := by decide +kernel
theorem dL_law_244 : decode code 244 = .ok (.iaload, 1) := by decide +kernel
theorem dL_law_245 : decode code 245 = .ok (.invokevirtual 25, 3) := by decide +kernel
theorem dL_law_248 : decode code 248 = .ok (.if_icmp .eq 373, 3) := by decide +kernel
theorem dL_law_251 : decode code 251 = .ok (.iconst 0, 1) := by decide +kernel
theorem dL_law_252 : decode code 252 = .ok (.ireturn, 1) := by decide +kernel
theorem dL_law_253 : decode code 253 = .ok (.aload_n 1, 1) := by decide +kernel
theorem dL_law_254 : decode code 254 = .ok (.aload_n 0, 1) := by decide +kernel
theorem dL_law_255 : decode code 255 = .ok (.iload_n 3, 1) := by decide +kernel
theorem dL_law_256 : decode code 256 = .ok (.iconst 1, 1) := by decide +kernel
theorem dL_law_257 : decode code 257 = .ok (.iadd, 1) := by decide +kernel
theorem dL_law_258 : decode code 258 = .ok (.iaload, 1) := by decide +kernel
theorem dL_law_259 : decode code 259 = .ok (.invokevirtual 26, 3) := by decide +kernel
theorem dL_law_262 : decode code 262 = .ok (.aload_n 2, 1) := by decide +kernel
theorem dL_law_263 : decode code 263 = .ok (.aload_n 0, 1) := by decide +kernel
theorem dL_law_264 : decode code 264 = .ok (.iload_n 3, 1) := by decide +kernel
theorem dL_law_265 : decode code 265 = .ok (.iconst 1, 1) := by decide +kernel
theorem dL_law_266 : decode code 266 = .ok (.iadd, 1) := by decide +kernel
theorem dL_law_267 : decode code 267 = .ok (.iaload, 1) := by decide +kernel
theorem dL_law_268 : decode code 268 = .ok (.invokevirtual 30, 3) := by decide +kernel
theorem dL_law_271 : decode code 271 = .ok (.if_icmp .eq 350, 3) := by decide +kernel
theorem dL_law_274 : decode code 274 = .ok (.iconst 0, 1) := by decide +kernel
theorem dL_law_275 : decode code 275 = .ok (.ireturn, 1) := by decide +kernel
theorem dL_law_276 : decode code 276 = .ok (.aload_n 1, 1) := by decide +kernel
theorem dL_law_277 : decode code 277 = .ok (.aload_n 0, 1) := by decide +kernel
theorem dL_law_278 : decode code 278 = .ok (.iload_n 3, 1) := by decide +kernel
theorem dL_law_279 : decode code 279 = .ok (.iconst 1, 1) := by decide +kernel
theorem dL_law_280 : decode code 280 = .ok (.iadd, 1) := by decide +kernel
theorem dL_law_281 : decode code 281 = .ok (.iaload, 1) := by decide +kernel
theorem dL_law_282 : decode code 282 = .ok (.aload_n 0, 1) := by decide +kernel
theorem dL_law_283 : decode code 283 = .ok (.iload_n 3, 1) := by decide +kernel
theorem dL_law_284 : decode code 284 = .ok (.iconst 2, 1) := by decide +kernel
theorem dL_law_285 : decode code 285 = .ok (.iadd, 1) := by decide +kernel
theorem dL_law_286 : decode code 286 = .ok (.iaload, 1) := by decide +kernel
theorem dL_law_287 : decode code 287 = .ok (.invokevirtual 31, 3) := by decide +kernel
theorem dL_law_290 : decode code 290 = .ok (.aload_n 2, 1) := by decide +kernel
theorem dL_law_291 : decode code 291 = .ok (.aload_n 0, 1) := by decide +kernel
theorem dL_law_292 : decode code 292 = .ok (.iload_n 3, 1) := by decide +kernel
theorem dL_law_293 : decode code 293 = .ok (.iconst 1, 1) := by decide +kernel
theorem dL_law_294 : decode code 294 = .ok (.iadd, 1) := by decide +kernel
theorem dL_law_295 : decode code 295 = .ok (.iaload, 1) := by decide +kernel
theorem dL_law_296 : decode code 296 = .ok (.aload_n 0, 1) := by decide +kernel
theorem dL_law_297 : decode code 297 = .ok (.iload_n 3, 1) := by decide +kernel
theorem dL_law_298 : decode code 298 = .ok (.iconst 2, 1) := by decide +kernel
theorem dL_law_299 : decode code 299 = .ok (.iadd, 1) := by decide +kernel
theorem dL_law_300 : decode code 300 = .ok (.iaload, 1) := by decide +kernel
theorem dL_law_301 : decode code 301 = .ok (.invokevirtual 35, 3) := by decide +kernel
theorem dL_law_304 : decode code 304 = .ok (.if_icmp .eq 317, 3) := by decide +kernel
theorem dL_law_307 : decode code 307 = .ok (.iconst 0, 1) := by decide +kernel
theorem dL_law_308 : decode code 308 = .ok (.ireturn, 1) := by decide +kernel
theorem dL_law_309 : decode code 309 = .ok (.aload_n 1, 1) := by decide +kernel
theorem dL_law_310 : decode code 310 = .ok (.aload_n 0, 1) := by decide +kernel
theorem dL_law_311 : decode code 311 = .ok (.iload_n 3, 1) := by decide +kernel
theorem dL_law_312 : decode code 312 = .ok (.iconst 1, 1) := by decide +kernel
theorem dL_law_313 : decode code 313 = .ok (.iadd, 1) := by decide +kernel
theorem dL_law_314 : decode code 314 = .ok (.iaload, 1) := by decide +kernel
theorem dL_law_315 : decode code 315 = .ok (.aload_n 0, 1) := by decide +kernel
theorem dL_law_316 : decode code 316 = .ok (.iload_n 3, 1) := by decide +kernel
theorem dL_law_317 : decode code 317 = .ok (.iconst 2, 1) := by decide +kernel
theorem dL_law_318 : decode code 318 = .ok (.iadd, 1) := by decide +kernel
theorem dL_law_319 : decode code 319 = .ok (.iaload, 1) := by decide +kernel
theorem dL_law_320 : decode code 320 = .ok (.invokevirtual 36, 3) := by decide +kernel
theorem dL_law_323 : decode code 323 = .ok (.aload_n 2, 1) := by decide +kernel
theorem dL_law_324 : decode code 324 = .ok (.aload_n 0, 1) := by decide +kernel
theorem dL_law_325 : decode code 325 = .ok (.iload_n 3, 1) := by decide +kernel
theorem dL_law_326 : decode code 326 = .ok (.iconst 1, 1) := by decide +kernel
theorem dL_law_327 : decode code 327 = .ok (.iadd, 1) := by decide +kernel
theorem dL_law_328 : decode code 328 = .ok (.iaload, 1) := by decide +kernel
theorem dL_law_329 : decode code 329 = .ok (.aload_n 0, 1) := by decide +kernel
theorem dL_law_330 : decode code 330 = .ok (.iload_n 3, 1) := by decide +kernel
theorem dL_law_331 : decode code 331 = .ok (.iconst 2, 1) := by decide +kernel
theorem dL_law_332 : decode code 332 = .ok (.iadd, 1) := by decide +kernel
theorem dL_law_333 : decode code 333 = .ok (.iaload, 1) := by decide +kernel
theorem dL_law_334 : decode code 334 = .ok (.invokevirtual 39, 3) := by decide +kernel
theorem dL_law_337 : decode code 337 = .ok (.if_icmp .eq 284, 3) := by decide +kernel
theorem dL_law_340 : decode code 340 = .ok (.iconst 0, 1) := by decide +kernel
theorem dL_law_341 : decode code 341 = .ok (.ireturn, 1) := by decide +kernel
theorem dL_law_342 : decode code 342 = .ok (.aload_n 1, 1) := by decide +kernel
theorem dL_law_343 : decode code 343 = .ok (.invokevirtual 40, 3) := by decide +kernel
end
section
theorem dL_law_346 : decode code 346 = .ok (.aload_n 2, 1) := by decide +kernel
theorem dL_law_347 : decode code 347 = .ok (.invokevirtual 44, 3) := by decide +kernel
theorem dL_law_350 : decode code 350 = .ok (.if_icmp .eq 271, 3) := by decide +kernel
theorem dL_law_353 : decode code 353 = .ok (.iconst 0, 1) := by decide +kernel
theorem dL_law_354 : decode code 354 = .ok (.ireturn, 1) := by decide +kernel
theorem dL_law_355 : decode code 355 = .ok (.aload_n 1, 1) := by decide +kernel
theorem dL_law_356 : decode code 356 = .ok (.aload_n 0, 1) := by decide +kernel
theorem dL_law_357 : decode code 357 = .ok (.iload_n 3, 1) := by decide +kernel
theorem dL_law_358 : decode code 358 = .ok (.iconst 1, 1) := by decide +kernel
theorem dL_law_359 : decode code 359 = .ok (.iadd, 1) := by decide +kernel
theorem dL_law_360 : decode code 360 = .ok (.iaload, 1) := by decide +kernel
theorem dL_law_361 : decode code 361 = .ok (.invokevirtual 45, 3) := by decide +kernel
theorem dL_law_364 : decode code 364 = .ok (.aload_n 2, 1) := by decide +kernel
theorem dL_law_365 : decode code 365 = .ok (.aload_n 0, 1) := by decide +kernel
theorem dL_law_366 : decode code 366 = .ok (.iload_n 3, 1) := by decide +kernel
theorem dL_law_367 : decode code 367 = .ok (.iconst 1, 1) := by decide +kernel
theorem dL_law_368 : decode code 368 = .ok (.iadd, 1) := by decide +kernel
theorem dL_law_369 : decode code 369 = .ok (.iaload, 1) := by decide +kernel
theorem dL_law_370 : decode code 370 = .ok (.invokevirtual 48, 3) := by decide +kernel
theorem dL_law_373 : decode code 373 = .ok (.if_icmp .eq 248, 3) := by decide +kernel
theorem dL_law_376 : decode code 376 = .ok (.iconst 0, 1) := by decide +kernel
theorem dL_law_377 : decode code 377 = .ok (.ireturn, 1) := by decide +kernel
theorem dL_law_378 : decode code 378 = .ok (.aload_n 1, 1) := by decide +kernel
theorem dL_law_379 : decode code 379 = .ok (.aload_n 0, 1) := by decide +kernel
theorem dL_law_380 : decode code 380 = .ok (.iload_n 3, 1) := by decide +kernel
theorem dL_law_381 : decode code 381 = .ok (.iconst 1, 1) := by decide +kernel
theorem dL_law_382 : decode code 382 = .ok (.iadd, 1) := by decide +kernel
theorem dL_law_383 : decode code 383 = .ok (.iaload, 1) := by decide +kernel
theorem dL_law_384 : decode code 384 = .ok (.invokevirtual 49, 3) := by decide +kernel
theorem dL_law_387 : decode code 387 = .ok (.aload_n 2, 1) := by decide +kernel
theorem dL_law_388 : decode code 388 = .ok (.aload_n 0, 1) := by decide +kernel
theorem dL_law_389 : decode code 389 = .ok (.iload_n 3, 1) := by decide +kernel
theorem dL_law_390 : decode code 390 = .ok (.iconst 1, 1) := by decide +kernel
theorem dL_law_391 : decode code 391 = .ok (.iadd, 1) := by decide +kernel
theorem dL_law_392 : decode code 392 = .ok (.iaload, 1) := by decide +kernel
theorem dL_law_393 : decode code 393 = .ok (.invokevirtual 52, 3) := by decide +kernel
theorem dL_law_396 : decode code 396 = .ok (.if_icmp .eq 225, 3) := by decide +kernel
theorem dL_law_399 : decode code 399 = .ok (.iconst 0, 1) := by decide +kernel
theorem dL_law_400 : decode code 400 = .ok (.ireturn, 1) := by decide +kernel
theorem dL_law_401 : decode code 401 = .ok (.aload_n 1, 1) := by decide +kernel
theorem dL_law_402 : decode code 402 = .ok (.aload_n 0, 1) := by decide +kernel
theorem dL_law_403 : decode code 403 = .ok (.iload_n 3, 1) := by decide +kernel
theorem dL_law_404 : decode code 404 = .ok (.iconst 1, 1) := by decide +kernel
theorem dL_law_405 : decode code 405 = .ok (.iadd, 1) := by decide +kernel
theorem dL_law_406 : decode code 406 = .ok (.iaload, 1) := by decide +kernel
theorem dL_law_407 : decode code 407 = .ok (.invokevirtual 53, 3) := by decide +kernel
theorem dL_law_410 : decode code 410 = .ok (.aload_n 2, 1) := by decide +kernel
theorem dL_law_411 : decode code 411 = .ok (.aload_n 0, 1) := by decide +kernel
theorem dL_law_412 : decode code 412 = .ok (.iload_n 3, 1) := by decide +kernel
theorem dL_law_413 : decode code 413 = .ok (.iconst 1, 1) := by decide +kernel
theorem dL_law_414 : decode code 414 = .ok (.iadd, 1) := by decide +kernel
theorem dL_law_415 : decode code 415 = .ok (.iaload, 1) := by decide +kernel
theorem dL_law_416 : decode code 416 = .ok (.invokevirtual 56, 3) := by decide +kernel
theorem dL_law_419 : decode code 419 = .ok (.if_icmp .eq 202, 3) := by decide +kernel
theorem dL_law_422 : decode code 422 = .ok (.iconst 0, 1) := by decide +kernel
theorem dL_law_423 : decode code 423 = .ok (.ireturn, 1) := by decide +kernel
theorem dL_law_424 : decode code 424 = .ok (.aload_n 1, 1) := by decide +kernel
theorem dL_law_425 : decode code 425 = .ok (.aload_n 0, 1) := by decide +kernel
theorem dL_law_426 : decode code 426 = .ok (.iload_n 3, 1) := by decide +kernel
theorem dL_law_427 : decode code 427 = .ok (.iconst 1, 1) := by decide +kernel
theorem dL_law_428 : decode code 428 = .ok (.iadd, 1) := by decide +kernel
theorem dL_law_429 : decode code 429 = .ok (.iaload, 1) := by decide +kernel
theorem dL_law_430 : decode code 430 = .ok (.invokevirtual 57, 3) := by decide +kernel
theorem dL_law_433 : decode code 433 = .ok (.aload_n 2, 1) := by decide +kernel
theorem dL_law_434 : decode code 434 = .ok (.aload_n 0, 1) := by decide +kernel
theorem dL_law_435 : decode code 435 = .ok (.iload_n 3, 1) := by decide +kernel
theorem dL_law_436 : decode code 436 = .ok (.iconst 1, 1) := by decide +kernel
theorem dL_law_437 : decode code 437 = .ok (.iadd, 1) := by decide +kernel
theorem dL_law_438 : decode code 438 = .ok (.iaload, 1) := by decide +kernel
theorem dL_law_439 : decode code 439 = .ok (.invokevirtual 60, 3) := by decide +kernel
theorem dL_law_442 : decode code 442 = .ok (.if_icmp .eq 179, 3) := by decide +kernel
theorem dL_law_445 : decode code 445 = .ok (.iconst 0, 1) := by decide +kernel
theorem dL_law_446 : decode code 446 = .ok (.ireturn, 1) := by decide +kernel
theorem dL_law_447 : decode code 447 = .ok (.aload_n 1, 1) := by decide +kernel
theorem dL_law_448 : decode code 448 = .ok (.aload_n 0, 1) := by decide +kernel
theorem dL_law_449 : decode code 449 = .ok (.iload_n 3, 1) := by decide +kernel
theorem dL_law_450 : decode code 450 = .ok (.iconst 1, 1) := by decide +kernel
theorem dL_law_451 : decode code 451 = .ok (.iadd, 1) := by decide +kernel
theorem dL_law_452 : decode code 452 = .ok (.iaload, 1) := by decide +kernel
theorem dL_law_453 : decode code 453 = .ok (.invokevirtual 61, 3) := by decide +kernel
theorem dL_law_456 : decode code 456 = .ok (.aload_n 2, 1) := by decide +kernel
theorem dL_law_457 : decode code 457 = .ok (.aload_n 0, 1) := by decide +kernel
theorem dL_law_458 : decode code 458 = .ok (.iload_n 3, 1) := by decide +kernel
theorem dL_law_459 : decode code 459 = .ok (.iconst 1, 1) := by decide +kernel
theorem dL_law_460 : decode code 460 = .ok (.iadd, 1) := by decide +kernel
theorem dL_law_461 : decode code 461 = .ok (.iaload, 1) := by decide +kernel
theorem dL_law_462 : decode code 462 = .ok (.invokevirtual 64, 3) := by decide +kernel
theorem dL_law_465 : decode code 465 = .ok (.if_icmp .eq 156, 3) := by decide +kernel
theorem dL_law_468 : decode code 468 = .ok (.iconst 0, 1) := by decide +kernel
theorem dL_law_469 : decode code 469 = .ok (.ireturn, 1) := by decide +kernel
theorem dL_law_470 : decode code 470 = .ok (.aload_n 1, 1) := by decide +kernel
theorem dL_law_471 : decode code 471 = .ok (.aload_n 0, 1) := by decide +kernel
theorem dL_law_472 : decode code 472 = .ok (.iload_n 3, 1) := by decide +kernel
theorem dL_law_473 : decode code 473 = .ok (.iconst 1, 1) := by decide +kernel
theorem dL_law_474 : decode code 474 = .ok (.iadd, 1) := by decide +kernel
theorem dL_law_475 : decode code 475 = .ok (.iaload, 1) := by decide +kernel
theorem dL_law_476 : decode code 476 = .ok (.invokevirtual 65, 3) := by decide +kernel
theorem dL_law_479 : decode code 479 = .ok (.aload_n 2, 1) := by decide +kernel
theorem dL_law_480 : decode code 480 = .ok (.aload_n 0, 1) := by decide +kernel
theorem dL_law_481 : decode code 481 = .ok (.iload_n 3, 1) := by decide +kernel
theorem dL_law_482 : decode code 482 = .ok (.iconst 1, 1) := by decide +kernel
theorem dL_law_483 : decode code 483 = .ok (.iadd, 1) := by decide +kernel
theorem dL_law_484 : decode code 484 = .ok (.iaload, 1) := by decide +kernel
end
section
theorem dL_law_485 : decode code 485 = .ok (.invokevirtual 68, 3) := by decide +kernel
theorem dL_law_488 : decode code 488 = .ok (.if_icmp .eq 133, 3) := by decide +kernel
theorem dL_law_491 : decode code 491 = .ok (.iconst 0, 1) := by decide +kernel
theorem dL_law_492 : decode code 492 = .ok (.ireturn, 1) := by decide +kernel
theorem dL_law_493 : decode code 493 = .ok (.aload_n 1, 1) := by decide +kernel
theorem dL_law_494 : decode code 494 = .ok (.aload_n 0, 1) := by decide +kernel
theorem dL_law_495 : decode code 495 = .ok (.iload_n 3, 1) := by decide +kernel
theorem dL_law_496 : decode code 496 = .ok (.iconst 1, 1) := by decide +kernel
theorem dL_law_497 : decode code 497 = .ok (.iadd, 1) := by decide +kernel
theorem dL_law_498 : decode code 498 = .ok (.iaload, 1) := by decide +kernel
theorem dL_law_499 : decode code 499 = .ok (.invokevirtual 69, 3) := by decide +kernel
theorem dL_law_502 : decode code 502 = .ok (.aload_n 2, 1) := by decide +kernel
theorem dL_law_503 : decode code 503 = .ok (.aload_n 0, 1) := by decide +kernel
theorem dL_law_504 : decode code 504 = .ok (.iload_n 3, 1) := by decide +kernel
theorem dL_law_505 : decode code 505 = .ok (.iconst 1, 1) := by decide +kernel
theorem dL_law_506 : decode code 506 = .ok (.iadd, 1) := by decide +kernel
theorem dL_law_507 : decode code 507 = .ok (.iaload, 1) := by decide +kernel
theorem dL_law_508 : decode code 508 = .ok (.invokevirtual 72, 3) := by decide +kernel
theorem dL_law_511 : decode code 511 = .ok (.if_icmp .eq 110, 3) := by decide +kernel
theorem dL_law_514 : decode code 514 = .ok (.iconst 0, 1) := by decide +kernel
theorem dL_law_515 : decode code 515 = .ok (.ireturn, 1) := by decide +kernel
theorem dL_law_516 : decode code 516 = .ok (.aload_n 1, 1) := by decide +kernel
theorem dL_law_517 : decode code 517 = .ok (.aload_n 0, 1) := by decide +kernel
theorem dL_law_518 : decode code 518 = .ok (.iload_n 3, 1) := by decide +kernel
theorem dL_law_519 : decode code 519 = .ok (.iconst 1, 1) := by decide +kernel
theorem dL_law_520 : decode code 520 = .ok (.iadd, 1) := by decide +kernel
theorem dL_law_521 : decode code 521 = .ok (.iaload, 1) := by decide +kernel
theorem dL_law_522 : decode code 522 = .ok (.invokevirtual 73, 3) := by decide +kernel
theorem dL_law_525 : decode code 525 = .ok (.aload_n 2, 1) := by decide +kernel
theorem dL_law_526 : decode code 526 = .ok (.aload_n 0, 1) := by decide +kernel
theorem dL_law_527 : decode code 527 = .ok (.iload_n 3, 1) := by decide +kernel
theorem dL_law_528 : decode code 528 = .ok (.iconst 1, 1) := by decide +kernel
theorem dL_law_529 : decode code 529 = .ok (.iadd, 1) := by decide +kernel
theorem dL_law_530 : decode code 530 = .ok (.iaload, 1) := by decide +kernel
theorem dL_law_531 : decode code 531 = .ok (.invokevirtual 76, 3) := by decide +kernel
theorem dL_law_534 : decode code 534 = .ok (.if_icmp .eq 87, 3) := by decide +kernel
theorem dL_law_537 : decode code 537 = .ok (.iconst 0, 1) := by decide +kernel
theorem dL_law_538 : decode code 538 = .ok (.ireturn, 1) := by decide +kernel
theorem dL_law_539 : decode code 539 = .ok (.aload_n 1, 1) := by decide +kernel
theorem dL_law_540 : decode code 540 = .ok (.aload_n 0, 1) := by decide +kernel
theorem dL_law_541 : decode code 541 = .ok (.iload_n 3, 1) := by decide +kernel
theorem dL_law_542 : decode code 542 = .ok (.iconst 1, 1) := by decide +kernel
theorem dL_law_543 : decode code 543 = .ok (.iadd, 1) := by decide +kernel
theorem dL_law_544 : decode code 544 = .ok (.iaload, 1) := by decide +kernel
theorem dL_law_545 : decode code 545 = .ok (.invokevirtual 77, 3) := by decide +kernel
theorem dL_law_548 : decode code 548 = .ok (.aload_n 2, 1) := by decide +kernel
theorem dL_law_549 : decode code 549 = .ok (.aload_n 0, 1) := by decide +kernel
theorem dL_law_550 : decode code 550 = .ok (.iload_n 3, 1) := by decide +kernel
theorem dL_law_551 : decode code 551 = .ok (.iconst 1, 1) := by decide +kernel
theorem dL_law_552 : decode code 552 = .ok (.iadd, 1) := by decide +kernel
theorem dL_law_553 : decode code 553 = .ok (.iaload, 1) := by decide +kernel
theorem dL_law_554 : decode code 554 = .ok (.invokevirtual 80, 3) := by decide +kernel
theorem dL_law_557 : decode code 557 = .ok (.if_icmp .eq 64, 3) := by decide +kernel
theorem dL_law_560 : decode code 560 = .ok (.iconst 0, 1) := by decide +kernel
theorem dL_law_561 : decode code 561 = .ok (.ireturn, 1) := by decide +kernel
theorem dL_law_562 : decode code 562 = .ok (.aload_n 1, 1) := by decide +kernel
theorem dL_law_563 : decode code 563 = .ok (.aload_n 0, 1) := by decide +kernel
theorem dL_law_564 : decode code 564 = .ok (.iload_n 3, 1) := by decide +kernel
theorem dL_law_565 : decode code 565 = .ok (.iconst 1, 1) := by decide +kernel
theorem dL_law_566 : decode code 566 = .ok (.iadd, 1) := by decide +kernel
theorem dL_law_567 : decode code 567 = .ok (.iaload, 1) := by decide +kernel
theorem dL_law_568 : decode code 568 = .ok (.invokevirtual 81, 3) := by decide +kernel
theorem dL_law_571 : decode code 571 = .ok (.aload_n 2, 1) := by decide +kernel
theorem dL_law_572 : decode code 572 = .ok (.aload_n 0, 1) := by decide +kernel
theorem dL_law_573 : decode code 573 = .ok (.iload_n 3, 1) := by decide +kernel
theorem dL_law_574 : decode code 574 = .ok (.iconst 1, 1) := by decide +kernel
theorem dL_law_575 : decode code 575 = .ok (.iadd, 1) := by decide +kernel
theorem dL_law_576 : decode code 576 = .ok (.iaload, 1) := by decide +kernel
theorem dL_law_577 : decode code 577 = .ok (.invokevirtual 84, 3) := by decide +kernel
theorem dL_law_580 : decode code 580 = .ok (.if_icmp .eq 41, 3) := by decide +kernel
theorem dL_law_583 : decode code 583 = .ok (.iconst 0, 1) := by decide +kernel
theorem dL_law_584 : decode code 584 = .ok (.ireturn, 1) := by decide +kernel
theorem dL_law_585 : decode code 585 = .ok (.aload_n 1, 1) := by decide +kernel
theorem dL_law_586 : decode code 586 = .ok (.invokevirtual 85, 3) := by decide +kernel
theorem dL_law_589 : decode code 589 = .ok (.aload_n 2, 1) := by decide +kernel
theorem dL_law_590 : decode code 590 = .ok (.invokevirtual 88, 3) := by decide +kernel
theorem dL_law_593 : decode code 593 = .ok (.if_icmp .eq 28, 3) := by decide +kernel
theorem dL_law_596 : decode code 596 = .ok (.iconst 0, 1) := by decide +kernel
theorem dL_law_597 : decode code 597 = .ok (.ireturn, 1) := by decide +kernel
theorem dL_law_598 : decode code 598 = .ok (.aload_n 1, 1) := by decide +kernel
theorem dL_law_599 : decode code 599 = .ok (.aload_n 0, 1) := by decide +kernel
theorem dL_law_600 : decode code 600 = .ok (.iload_n 3, 1) := by decide +kernel
theorem dL_law_601 : decode code 601 = .ok (.iconst 1, 1) := by decide +kernel
theorem dL_law_602 : decode code 602 = .ok (.iadd, 1) := by decide +kernel
theorem dL_law_603 : decode code 603 = .ok (.iaload, 1) := by decide +kernel
theorem dL_law_604 : decode code 604 = .ok (.invokevirtual 89, 3) := by decide +kernel
theorem dL_law_607 : decode code 607 = .ok (.aload_n 2, 1) := by decide +kernel
theorem dL_law_608 : decode code 608 = .ok (.aload_n 0, 1) := by decide +kernel
theorem dL_law_609 : decode code 609 = .ok (.iload_n 3, 1) := by decide +kernel
theorem dL_law_610 : decode code 610 = .ok (.iconst 1, 1) := by decide +kernel
theorem dL_law_611 : decode code 611 = .ok (.iadd, 1) := by decide +kernel
theorem dL_law_612 : decode code 612 = .ok (.iaload, 1) := by decide +kernel
theorem dL_law_613 : decode code 613 = .ok (.invokevirtual 92, 3) := by decide +kernel
theorem dL_law_616 : decode code 616 = .ok (.if_icmp .eq 5, 3) := by decide +kernel
theorem dL_law_619 : decode code 619 = .ok (.iconst 0, 1) := by decide +kernel
theorem dL_law_620 : decode code 620 = .ok (.ireturn, 1) := by decide +kernel
theorem dL_law_621 : decode code 621 = .ok (.iinc 3 4, 3) := by decide +kernel
theorem dL_law_624 : decode code 624 = .ok (.goto (-606), 3) := by decide +kernel
theorem dL_law_627 : decode code 627 = .ok (.iconst 1, 1) := by decide +kernel
theorem dL_law_628 : decode code 628 = .ok (.ireturn, 1) := by decide +kernel
end
section
/-! rows over a method's symbolic state: QV k w S lv pc st says that from any heap that holds the picture w S, with the listed values lv, at pc, with the stack st, the machine comes to the method's end -/
abbrev QC : Type := Program × Launch × Env × Room × State × MethodId × Array Value × List Frame × Method × Code × va_G × List (ClassId × FieldType) × (State → Prop) × (Nat → Prop) × Nat × Nat × Nat
def QV {σ : Type} (k : QC) (w : σ → va_W) (S : σ) (lv : List (Nat × Value)) (pc : Nat) (st : List Value) : Prop :=
  match k with
  | (p, l, e, R, s, m, args, below, meth, c, D, _, Q, A, nL, mc, ms) => ∀ (H : Heap) (locs : List Loc) (ls : Array Slot), va_P D classes (w S) H → va_D A (w S) → va_S A s.heap H locs → lv_has ls nL lv → W p l e R s m args below meth c H locs mc ms Q (F0 m pc ls st)
def QK (k : QC) (cc : ByteArray) (own : String) (nL : Nat) (R : Room) (l : Launch) (D : va_G) (tys : List (ClassId × FieldType)) : Prop :=
  match k with
  | (p, l', _, R', s, m, args, _, _, c, D', tys', _, A, nL', mc, ms) => p.tables.exec = Jvm.exec ∧ c.code = cc ∧ c.maxLocals = nL ∧ s.vm.findClass own = some m.cls ∧ (∀ w ∈ lw_ok, w.before args s = true) ∧ va_K D classes tys s ∧ (∀ q : Nat, s.heap.size ≤ q → A q) ∧ nL' = nL ∧ R' = R ∧ l' = l ∧ D' = D ∧ tys' = tys ∧ mc ≤ R.cells ∧ ms ≤ R.slots
def QPre {σ : Type} (D : va_G) (tys : List (ClassId × FieldType)) (w : σ → va_W) (S : σ) (sz : Nat) : State → Prop := fun U => U.heap.size = sz ∧ va_P D classes (w S) U.heap ∧ va_K D classes tys U ∧ va_D (fun _ => True) (w S)
def QPost {σ : Type} (D : va_G) (tys : List (ClassId × FieldType)) (w : σ → va_W) (S : σ) (sz : Nat) : σ → State → Prop := fun S' t => va_P D classes (w S') t.heap ∧ va_K D classes tys t ∧ va_D (va_A (w S) sz) (w S')
/-- contracts: an int (or a truth value) comes back; nothing comes back -/
def MetI {σ : Type} (l : Launch) (y : MethodName) (ws : List Cond) (rm : Room) (D : va_G) (tys : List (ClassId × FieldType)) (w : σ → va_W) (S : σ) (av : List Value) (post : Int32 → σ → Prop) : Prop := ∀ sz : Nat, Met l y ws rm (va_Pc av (QPre D tys w S sz)) (va_Qi post (QPost D tys w S sz) (va_A (w S) sz)) 0 0 (va_A (w S) sz)
def MetN {σ : Type} (l : Launch) (y : MethodName) (ws : List Cond) (rm : Room) (D : va_G) (tys : List (ClassId × FieldType)) (w : σ → va_W) (S : σ) (av : List Value) (post : σ → Prop) : Prop := ∀ sz : Nat, Met l y ws rm (va_Pc av (QPre D tys w S sz)) (va_Qv post (QPost D tys w S sz) (va_A (w S) sz)) 0 0 (va_A (w S) sz)
theorem MetI.of {σ : Type} {l : Launch} {y : MethodName} {ws : List Cond} {rm : Room} {D : va_G} {tys : List (ClassId × FieldType)} {w : σ → va_W} {S : σ} {av : List Value} {post : Int32 → σ → Prop} {cc : ByteArray} {maxL : Nat} {ty : FieldType} {own : String}
    (hy : plainName y.cls = true) (hw : ws = Cond.code y cc maxL (some ty) :: lw_ok) (hown : y.cls = own) (hlen : (lg_sl av).length ≤ maxL)
    (body : ∀ k : QC, QK k cc own maxL rm l D tys → (∀ (r : Int32) (S' : σ) (lv : List (Nat × Value)) (pc : Nat), post r S' → narrow ty (.int r) = .int r → decode cc pc = .ok (.ireturn, 1) → QV k w S' lv pc [.int r]) → QV k w S (lv_args 0 av) 0 []) : MetI l y ws rm D tys w S av post := by
  intro sz
  refine Met.ofW (cc := cc) (maxL := maxL) (ret := some ty) hy hw ?_
  intro p e s m args below meth c s₁ B hml hv
  obtain ⟨rfl, hsz, hP, hK, hD0⟩ := hv
  have hx := B.exec
  have hb := B.bytes
  have hr := B.returns
  have hts0 := atoms_spec (ws := ws) B.pre
  have hts : ∀ w ∈ lw_ok, w.before av.toArray s = true := fun w h => hts0 w (by rw [hw]; exact List.mem_cons_of_mem _ h)
  have hownc : s.vm.findClass own = some m.cls := by rw [← hown]; exact findClass_of_methodNamed B.named
  have hlocks := B.notSynchronized
  subst hsz
  have hD := hD0.self (sz := s.heap.size)
  have hA : ∀ q : Nat, s.heap.size ≤ q → va_A (w S) s.heap.size q := fun q h => Or.inr h
  have hl := lv_entry av (n := maxL) hlen
  rw [lg_entry_eq]
  refine body (p, l, e, rm, s, m, av.toArray, below, meth, c, D, tys, MQ below (va_Qi post (QPost D tys w S s.heap.size) (va_A (w S) s.heap.size)) av.toArray s 0 0 (va_A (w S) s.heap.size), va_A (w S) s.heap.size, maxL, 0, 0) ⟨hx, hb, hml, hownc, hts, hK, hA, rfl, rfl, rfl, rfl, rfl, Nat.zero_le _, Nat.zero_le _⟩ ?_ s.heap [] _ hP hD va_S.rf hl
  intro r S' lv pc hp hn hd H locs ls hP' hD' hS' hl'
  exact W.zret hx hb hr hn (fun t ht hW => ⟨⟨r, S', rfl, hp, by rw [ht]; exact hP', va_K.moved hW.alike hK, hD'⟩, hS'.F ht⟩) hS'.2.2 hd hlocks
theorem MetN.of {σ : Type} {l : Launch} {y : MethodName} {ws : List Cond} {rm : Room} {D : va_G} {tys : List (ClassId × FieldType)} {w : σ → va_W} {S : σ} {av : List Value} {post : σ → Prop} {cc : ByteArray} {maxL : Nat} {own : String}
    (hy : plainName y.cls = true) (hw : ws = Cond.code y cc maxL none :: lw_ok) (hown : y.cls = own) (hlen : (lg_sl av).length ≤ maxL)
    (body : ∀ k : QC, QK k cc own maxL rm l D tys → (∀ (S' : σ) (lv : List (Nat × Value)) (pc : Nat), post S' → decode cc pc = .ok (.return_, 1) → QV k w S' lv pc []) → QV k w S (lv_args 0 av) 0 []) : MetN l y ws rm D tys w S av post := by
  intro sz
  refine Met.ofW (cc := cc) (maxL := maxL) (ret := none) hy hw ?_
  intro p e s m args below meth c s₁ B hml hv
  obtain ⟨rfl, hsz, hP, hK, hD0⟩ := hv
  have hx := B.exec
  have hb := B.bytes
  have hr := B.returns
  have hts0 := atoms_spec (ws := ws) B.pre
  have hts : ∀ w ∈ lw_ok, w.before av.toArray s = true := fun w h => hts0 w (by rw [hw]; exact List.mem_cons_of_mem _ h)
  have hownc : s.vm.findClass own = some m.cls := by rw [← hown]; exact findClass_of_methodNamed B.named
  have hlocks := B.notSynchronized
  subst hsz
  have hD := hD0.self (sz := s.heap.size)
  have hA : ∀ q : Nat, s.heap.size ≤ q → va_A (w S) s.heap.size q := fun q h => Or.inr h
  have hl := lv_entry av (n := maxL) hlen
  rw [lg_entry_eq]
  refine body (p, l, e, rm, s, m, av.toArray, below, meth, c, D, tys, MQ below (va_Qv post (QPost D tys w S s.heap.size) (va_A (w S) s.heap.size)) av.toArray s 0 0 (va_A (w S) s.heap.size), va_A (w S) s.heap.size, maxL, 0, 0) ⟨hx, hb, hml, hownc, hts, hK, hA, rfl, rfl, rfl, rfl, rfl, Nat.zero_le _, Nat.zero_le _⟩ ?_ s.heap [] _ hP hD va_S.rf hl
  intro S' lv pc hp hd H locs ls hP' hD' hS' hl'
  exact W.vret hx hb hr (fun t ht hW => ⟨⟨S', rfl, hp, by rw [ht]; exact hP', va_K.moved hW.alike hK, hD'⟩, hS'.F ht⟩) hS'.2.2 hd hlocks
section QRows
variable {σ : Type} {k : QC} {w : σ → va_W} {S : σ} {lv lv' : List (Nat × Value)} {pc : Nat} {rest : List Value} {cc : ByteArray} {own : String} {nL : Nat} {R : Room} {l : Launch} {D : va_G} {tys : List (ClassId × FieldType)}
theorem qv_sub (ks : List Nat) (h : lv_pick lv ks = lv') {st : List Value} (kk : QV k w S lv' pc st) : QV k w S lv pc st := by
  obtain ⟨p, l', e, R', s, m, args, below, meth, c, D', tys', Q, A, nL', mc, ms⟩ := k
  intro H locs ls hP hD hS hl
  exact kk H locs ls hP hD hS (lv_sub hl ks h)
theorem qv_top {x y : Int32} (h : x = y) (kk : QV k w S lv pc (.int y :: rest)) : QV k w S lv pc (.int x :: rest) := by rw [h]; exact kk
theorem qv_state {S2 : σ} {st : List Value} (h : S = S2) (kk : QV k w S2 lv pc st) : QV k w S lv pc st := by rw [h]; exact kk
theorem qv_iconst (hk : QK k cc own nL R l D tys) {n : Int} {v : Int32} (hd : decode cc pc = .ok (.iconst n, 1)) (hv : Int32.ofInt n = v) (kk : QV k w S lv (pc + 1) (.int v :: rest)) : QV k w S lv pc rest := by
  obtain ⟨p, l', e, R', s, m, args, below, meth, c, D', tys', Q, A, nL', mc, ms⟩ := k
  intro H locs ls hP hD hS hl
  exact lv_iconst hk.1 hk.2.1 hd hv (kk H locs ls hP hD hS hl)
theorem qv_bipush (hk : QK k cc own nL R l D tys) {n : Int} {v : Int32} (hd : decode cc pc = .ok (.bipush n, 2)) (hv : (Int8.ofInt n).toInt32 = v) (kk : QV k w S lv (pc + 2) (.int v :: rest)) : QV k w S lv pc rest := by
  obtain ⟨p, l', e, R', s, m, args, below, meth, c, D', tys', Q, A, nL', mc, ms⟩ := k
  intro H locs ls hP hD hS hl
  exact lv_bipush hk.1 hk.2.1 hd hv (kk H locs ls hP hD hS hl)
theorem qv_sipush (hk : QK k cc own nL R l D tys) {n : Int} {v : Int32} (hd : decode cc pc = .ok (.sipush n, 3)) (hv : (Int16.ofInt n).toInt32 = v) (kk : QV k w S lv (pc + 3) (.int v :: rest)) : QV k w S lv pc rest := by
  obtain ⟨p, l', e, R', s, m, args, below, meth, c, D', tys', Q, A, nL', mc, ms⟩ := k
  intro H locs ls hP hD hS hl
  exact lv_sipush hk.1 hk.2.1 hd hv (kk H locs ls hP hD hS hl)
theorem qv_ldc (hk : QK k cc own nL R l D tys) {index : Nat} {v : Int32} (hc : Cond.constant own index v ∈ lw_ok) (hd : decode cc pc = .ok (.ldc index, 2)) (kk : QV k w S lv (pc + 2) (.int v :: rest)) : QV k w S lv pc rest := by
  obtain ⟨p, l', e, R', s, m, args, below, meth, c, D', tys', Q, A, nL', mc, ms⟩ := k
  intro H locs ls hP hD hS hl
  exact lv_ldc hk.1 hk.2.1 hk.2.2.2.1 (hk.2.2.2.2.1 _ hc) hd (kk H locs ls hP hD hS hl)
theorem qv_iload_n (hk : QK k cc own nL R l D tys) (j : Nat) {i : Nat} {x : Int32} (hj : lv[j]? = some (i, .int x)) {f : Fin 4} (hd : decode cc pc = .ok (.iload_n f, 1)) (hi : (f : Nat) = i) (kk : QV k w S lv (pc + 1) (.int x :: rest)) : QV k w S lv pc rest := by
  obtain ⟨p, l', e, R', s, m, args, below, meth, c, D', tys', Q, A, nL', mc, ms⟩ := k
  intro H locs ls hP hD hS hl
  exact lv_iload_n hk.1 hk.2.1 hd hi (lv_at hl j hj) (kk H locs ls hP hD hS hl)
theorem qv_iload (hk : QK k cc own nL R l D tys) (j : Nat) {i : Nat} {x : Int32} (hj : lv[j]? = some (i, .int x)) (hd : decode cc pc = .ok (.iload i, 2)) (kk : QV k w S lv (pc + 2) (.int x :: rest)) : QV k w S lv pc rest := by
  obtain ⟨p, l', e, R', s, m, args, below, meth, c, D', tys', Q, A, nL', mc, ms⟩ := k
  intro H locs ls hP hD hS hl
  exact lv_iload hk.1 hk.2.1 hd (lv_at hl j hj) (kk H locs ls hP hD hS hl)
theorem qv_aload_n (hk : QK k cc own nL R l D tys) (j : Nat) {i : Nat} {x : Nat} (hj : lv[j]? = some (i, .ref x)) {f : Fin 4} (hd : decode cc pc = .ok (.aload_n f, 1)) (hi : (f : Nat) = i) (kk : QV k w S lv (pc + 1) (.ref x :: rest)) : QV k w S lv pc rest := by
  obtain ⟨p, l', e, R', s, m, args, below, meth, c, D', tys', Q, A, nL', mc, ms⟩ := k
  intro H locs ls hP hD hS hl
  exact lv_aload_n hk.1 hk.2.1 hd hi (lv_at hl j hj) (kk H locs ls hP hD hS hl)
theorem qv_istore_n (hk : QK k cc own nL R l D tys) {i : Nat} {x : Int32} {f : Fin 4} (hd : decode cc pc = .ok (.istore_n f, 1)) (hi : (f : Nat) = i) (hn : i < nL) (hl' : (i, Value.int x) :: lv.filter (fun q => !(q.1 == i) && !(q.1 + 1 == i && q.2.category == 2)) = lv') (kk : QV k w S lv' (pc + 1) rest) : QV k w S lv pc (.int x :: rest) := by
  obtain ⟨p, l', e, R', s, m, args, below, meth, c, D', tys', Q, A, nL', mc, ms⟩ := k
  obtain ⟨hx, hb, hml, hown, hts, hK, hA, rfl, rfl, rfl, rfl, rfl, hmc, hms⟩ := hk
  intro H locs ls hP hD hS hl
  exact lv_istore_n hx hb hd hi hl hn hl' (fun ls' h' => kk H locs ls' hP hD hS h')
theorem qv_istore (hk : QK k cc own nL R l D tys) {i : Nat} {x : Int32} (hd : decode cc pc = .ok (.istore i, 2)) (hn : i < nL) (hl' : (i, Value.int x) :: lv.filter (fun q => !(q.1 == i) && !(q.1 + 1 == i && q.2.category == 2)) = lv') (kk : QV k w S lv' (pc + 2) rest) : QV k w S lv pc (.int x :: rest) := by
  obtain ⟨p, l', e, R', s, m, args, below, meth, c, D', tys', Q, A, nL', mc, ms⟩ := k
  obtain ⟨hx, hb, hml, hown, hts, hK, hA, rfl, rfl, rfl, rfl, rfl, hmc, hms⟩ := hk
  intro H locs ls hP hD hS hl
  exact lv_istore hx hb hd hl hn hl' (fun ls' h' => kk H locs ls' hP hD hS h')
theorem qv_iinc (hk : QK k cc own nL R l D tys) (j : Nat) {i : Nat} {n : Int} {x v : Int32} (hj : lv[j]? = some (i, .int x)) (hd : decode cc pc = .ok (.iinc i n, 3)) (hv : x + Int32.ofInt n = v) (hn : i < nL) (hl' : (i, Value.int v) :: lv.filter (fun q => !(q.1 == i) && !(q.1 + 1 == i && q.2.category == 2)) = lv') (kk : QV k w S lv' (pc + 3) rest) : QV k w S lv pc rest := by
  obtain ⟨p, l', e, R', s, m, args, below, meth, c, D', tys', Q, A, nL', mc, ms⟩ := k
  obtain ⟨hx, hb, hml, hown, hts, hK, hA, rfl, rfl, rfl, rfl, rfl, hmc, hms⟩ := hk
  intro H locs ls hP hD hS hl
  exact lv_iinc hx hb hd hl hj hv hn hl' (fun ls' h' => kk H locs ls' hP hD hS h')
theorem qv_iadd (hk : QK k cc own nL R l D tys) {x y : Int32} (hd : decode cc pc = .ok (.iadd, 1)) (kk : QV k w S lv (pc + 1) (.int (x + y) :: rest)) : QV k w S lv pc (.int y :: .int x :: rest) := by
  obtain ⟨p, l', e, R', s, m, args, below, meth, c, D', tys', Q, A, nL', mc, ms⟩ := k
  intro H locs ls hP hD hS hl
  exact lv_iadd hk.1 hk.2.1 hd (kk H locs ls hP hD hS hl)
theorem qv_isub (hk : QK k cc own nL R l D tys) {x y : Int32} (hd : decode cc pc = .ok (.isub, 1)) (kk : QV k w S lv (pc + 1) (.int (x - y) :: rest)) : QV k w S lv pc (.int y :: .int x :: rest) := by
  obtain ⟨p, l', e, R', s, m, args, below, meth, c, D', tys', Q, A, nL', mc, ms⟩ := k
  intro H locs ls hP hD hS hl
  exact lv_isub hk.1 hk.2.1 hd (kk H locs ls hP hD hS hl)
theorem qv_imul (hk : QK k cc own nL R l D tys) {x y : Int32} (hd : decode cc pc = .ok (.imul, 1)) (kk : QV k w S lv (pc + 1) (.int (x * y) :: rest)) : QV k w S lv pc (.int y :: .int x :: rest) := by
  obtain ⟨p, l', e, R', s, m, args, below, meth, c, D', tys', Q, A, nL', mc, ms⟩ := k
  intro H locs ls hP hD hS hl
  exact lv_imul hk.1 hk.2.1 hd (kk H locs ls hP hD hS hl)
theorem qv_idiv (hk : QK k cc own nL R l D tys) {x y : Int32} (hne : ¬ y = 0) (hd : decode cc pc = .ok (.idiv, 1)) (kk : QV k w S lv (pc + 1) (.int (x / y) :: rest)) : QV k w S lv pc (.int y :: .int x :: rest) := by
  obtain ⟨p, l', e, R', s, m, args, below, meth, c, D', tys', Q, A, nL', mc, ms⟩ := k
  intro H locs ls hP hD hS hl
  exact lv_idiv hk.1 hk.2.1 hd hne (kk H locs ls hP hD hS hl)
theorem qv_ineg (hk : QK k cc own nL R l D tys) {x : Int32} (hd : decode cc pc = .ok (.ineg, 1)) (kk : QV k w S lv (pc + 1) (.int (-x) :: rest)) : QV k w S lv pc (.int x :: rest) := by
  obtain ⟨p, l', e, R', s, m, args, below, meth, c, D', tys', Q, A, nL', mc, ms⟩ := k
  intro H locs ls hP hD hS hl
  exact lv_ineg hk.1 hk.2.1 hd (kk H locs ls hP hD hS hl)
theorem qv_iand (hk : QK k cc own nL R l D tys) {x y : Int32} (hd : decode cc pc = .ok (.iand, 1)) (kk : QV k w S lv (pc + 1) (.int (x &&& y) :: rest)) : QV k w S lv pc (.int y :: .int x :: rest) := by
  obtain ⟨p, l', e, R', s, m, args, below, meth, c, D', tys', Q, A, nL', mc, ms⟩ := k
  intro H locs ls hP hD hS hl
  exact lv_iand hk.1 hk.2.1 hd (kk H locs ls hP hD hS hl)
theorem qv_ishr (hk : QK k cc own nL R l D tys) {x y : Int32} (hd : decode cc pc = .ok (.ishr, 1)) (kk : QV k w S lv (pc + 1) (.int (x >>> (y &&& 31)) :: rest)) : QV k w S lv pc (.int y :: .int x :: rest) := by
  obtain ⟨p, l', e, R', s, m, args, below, meth, c, D', tys', Q, A, nL', mc, ms⟩ := k
  intro H locs ls hP hD hS hl
  exact lv_ishr hk.1 hk.2.1 hd (kk H locs ls hP hD hS hl)
theorem qv_dup (hk : QK k cc own nL R l D tys) {va : Value} (hd : decode cc pc = .ok (.dup, 1)) (hv : va.category = 1) (kk : QV k w S lv (pc + 1) (va :: va :: rest)) : QV k w S lv pc (va :: rest) := by
  obtain ⟨p, l', e, R', s, m, args, below, meth, c, D', tys', Q, A, nL', mc, ms⟩ := k
  intro H locs ls hP hD hS hl
  exact lv_dup hk.1 hk.2.1 hd hv (kk H locs ls hP hD hS hl)
theorem qv_dup2 (hk : QK k cc own nL R l D tys) {va vb : Value} (hd : decode cc pc = .ok (.dup2, 1)) (hv : va.category = 1) (hv2 : vb.category = 1) (kk : QV k w S lv (pc + 1) (va :: vb :: va :: vb :: rest)) : QV k w S lv pc (va :: vb :: rest) := by
  obtain ⟨p, l', e, R', s, m, args, below, meth, c, D', tys', Q, A, nL', mc, ms⟩ := k
  intro H locs ls hP hD hS hl
  exact lv_dup2_11 hk.1 hk.2.1 hd hv hv2 (kk H locs ls hP hD hS hl)
theorem qv_goto (hk : QK k cc own nL R l D tys) {off : Int} {tgt : Nat} {st : List Value} (hd : decode cc pc = .ok (.goto off, 3)) (ht : (pc : Int) + off = (tgt : Int)) (kk : QV k w S lv tgt st) : QV k w S lv pc st := by
  obtain ⟨p, l', e, R', s, m, args, below, meth, c, D', tys', Q, A, nL', mc, ms⟩ := k
  intro H locs ls hP hD hS hl
  exact lv_goto hk.1 hk.2.1 hd ht (kk H locs ls hP hD hS hl)
theorem qv_if_eq (hk : QK k cc own nL R l D tys) {x : Int32} {off : Int} {tgt : Nat} (hd : decode cc pc = .ok (.ifCond .eq off, 3)) (ht : (pc : Int) + off = (tgt : Int)) (kt : x = 0 → QV k w S lv tgt rest) (kf : ¬ x = 0 → QV k w S lv (pc + 3) rest) : QV k w S lv pc (.int x :: rest) := by
  obtain ⟨p, l', e, R', s, m, args, below, meth, c, D', tys', Q, A, nL', mc, ms⟩ := k
  intro H locs ls hP hD hS hl
  exact lv_if_eq hk.1 hk.2.1 hd ht (fun h => kt h H locs ls hP hD hS hl) (fun h => kf h H locs ls hP hD hS hl)
theorem qv_if_ne (hk : QK k cc own nL R l D tys) {x : Int32} {off : Int} {tgt : Nat} (hd : decode cc pc = .ok (.ifCond .ne off, 3)) (ht : (pc : Int) + off = (tgt : Int)) (kt : ¬ x = 0 → QV k w S lv tgt rest) (kf : x = 0 → QV k w S lv (pc + 3) rest) : QV k w S lv pc (.int x :: rest) := by
  obtain ⟨p, l', e, R', s, m, args, below, meth, c, D', tys', Q, A, nL', mc, ms⟩ := k
  intro H locs ls hP hD hS hl
  exact lv_if_ne hk.1 hk.2.1 hd ht (fun h => kt h H locs ls hP hD hS hl) (fun h => kf h H locs ls hP hD hS hl)
theorem qv_if_lt (hk : QK k cc own nL R l D tys) {x : Int32} {off : Int} {tgt : Nat} (hd : decode cc pc = .ok (.ifCond .lt off, 3)) (ht : (pc : Int) + off = (tgt : Int)) (kt : x < 0 → QV k w S lv tgt rest) (kf : ¬ x < 0 → QV k w S lv (pc + 3) rest) : QV k w S lv pc (.int x :: rest) := by
  obtain ⟨p, l', e, R', s, m, args, below, meth, c, D', tys', Q, A, nL', mc, ms⟩ := k
  intro H locs ls hP hD hS hl
  exact lv_if_lt hk.1 hk.2.1 hd ht (fun h => kt h H locs ls hP hD hS hl) (fun h => kf h H locs ls hP hD hS hl)
theorem qv_if_ge (hk : QK k cc own nL R l D tys) {x : Int32} {off : Int} {tgt : Nat} (hd : decode cc pc = .ok (.ifCond .ge off, 3)) (ht : (pc : Int) + off = (tgt : Int)) (kt : 0 ≤ x → QV k w S lv tgt rest) (kf : ¬ 0 ≤ x → QV k w S lv (pc + 3) rest) : QV k w S lv pc (.int x :: rest) := by
  obtain ⟨p, l', e, R', s, m, args, below, meth, c, D', tys', Q, A, nL', mc, ms⟩ := k
  intro H locs ls hP hD hS hl
  exact lv_if_ge hk.1 hk.2.1 hd ht (fun h => kt h H locs ls hP hD hS hl) (fun h => kf h H locs ls hP hD hS hl)
theorem qv_if_gt (hk : QK k cc own nL R l D tys) {x : Int32} {off : Int} {tgt : Nat} (hd : decode cc pc = .ok (.ifCond .gt off, 3)) (ht : (pc : Int) + off = (tgt : Int)) (kt : 0 < x → QV k w S lv tgt rest) (kf : ¬ 0 < x → QV k w S lv (pc + 3) rest) : QV k w S lv pc (.int x :: rest) := by
  obtain ⟨p, l', e, R', s, m, args, below, meth, c, D', tys', Q, A, nL', mc, ms⟩ := k
  intro H locs ls hP hD hS hl
  exact lv_if_gt hk.1 hk.2.1 hd ht (fun h => kt h H locs ls hP hD hS hl) (fun h => kf h H locs ls hP hD hS hl)
theorem qv_if_le (hk : QK k cc own nL R l D tys) {x : Int32} {off : Int} {tgt : Nat} (hd : decode cc pc = .ok (.ifCond .le off, 3)) (ht : (pc : Int) + off = (tgt : Int)) (kt : x ≤ 0 → QV k w S lv tgt rest) (kf : ¬ x ≤ 0 → QV k w S lv (pc + 3) rest) : QV k w S lv pc (.int x :: rest) := by
  obtain ⟨p, l', e, R', s, m, args, below, meth, c, D', tys', Q, A, nL', mc, ms⟩ := k
  intro H locs ls hP hD hS hl
  exact lv_if_le hk.1 hk.2.1 hd ht (fun h => kt h H locs ls hP hD hS hl) (fun h => kf h H locs ls hP hD hS hl)
theorem qv_icmp_eq (hk : QK k cc own nL R l D tys) {x y : Int32} {off : Int} {tgt : Nat} (hd : decode cc pc = .ok (.if_icmp .eq off, 3)) (ht : (pc : Int) + off = (tgt : Int)) (kt : x = y → QV k w S lv tgt rest) (kf : ¬ x = y → QV k w S lv (pc + 3) rest) : QV k w S lv pc (.int y :: .int x :: rest) := by
  obtain ⟨p, l', e, R', s, m, args, below, meth, c, D', tys', Q, A, nL', mc, ms⟩ := k
  intro H locs ls hP hD hS hl
  exact lv_icmp_eq hk.1 hk.2.1 hd ht (fun h => kt h H locs ls hP hD hS hl) (fun h => kf h H locs ls hP hD hS hl)
theorem qn_icmp_eq (hk : QK k cc own nL R l D tys) {x y : Nat} {off : Int} {tgt : Nat} (hx : x < 2 ^ 31) (hy : y < 2 ^ 31) (hd : decode cc pc = .ok (.if_icmp .eq off, 3)) (ht : (pc : Int) + off = (tgt : Int)) (kt : x = y → QV k w S lv tgt rest) (kf : x ≠ y → QV k w S lv (pc + 3) rest) : QV k w S lv pc (.int (nI y) :: .int (nI x) :: rest) :=
  qv_icmp_eq hk hd ht (fun h => kt ((nI_eq hx hy).mp h)) (fun h => kf (fun q => h ((nI_eq hx hy).mpr q)))
theorem qv_icmp_ne (hk : QK k cc own nL R l D tys) {x y : Int32} {off : Int} {tgt : Nat} (hd : decode cc pc = .ok (.if_icmp .ne off, 3)) (ht : (pc : Int) + off = (tgt : Int)) (kt : ¬ x = y → QV k w S lv tgt rest) (kf : x = y → QV k w S lv (pc + 3) rest) : QV k w S lv pc (.int y :: .int x :: rest) := by
  obtain ⟨p, l', e, R', s, m, args, below, meth, c, D', tys', Q, A, nL', mc, ms⟩ := k
  intro H locs ls hP hD hS hl
  exact lv_icmp_ne hk.1 hk.2.1 hd ht (fun h => kt h H locs ls hP hD hS hl) (fun h => kf h H locs ls hP hD hS hl)
theorem qn_icmp_ne (hk : QK k cc own nL R l D tys) {x y : Nat} {off : Int} {tgt : Nat} (hx : x < 2 ^ 31) (hy : y < 2 ^ 31) (hd : decode cc pc = .ok (.if_icmp .ne off, 3)) (ht : (pc : Int) + off = (tgt : Int)) (kt : x ≠ y → QV k w S lv tgt rest) (kf : x = y → QV k w S lv (pc + 3) rest) : QV k w S lv pc (.int (nI y) :: .int (nI x) :: rest) :=
  qv_icmp_ne hk hd ht (fun h => kt (fun q => h ((nI_eq hx hy).mpr q))) (fun h => kf ((nI_eq hx hy).mp h))
theorem qv_icmp_lt (hk : QK k cc own nL R l D tys) {x y : Int32} {off : Int} {tgt : Nat} (hd : decode cc pc = .ok (.if_icmp .lt off, 3)) (ht : (pc : Int) + off = (tgt : Int)) (kt : x < y → QV k w S lv tgt rest) (kf : ¬ x < y → QV k w S lv (pc + 3) rest) : QV k w S lv pc (.int y :: .int x :: rest) := by
  obtain ⟨p, l', e, R', s, m, args, below, meth, c, D', tys', Q, A, nL', mc, ms⟩ := k
  intro H locs ls hP hD hS hl
  exact lv_icmp_lt hk.1 hk.2.1 hd ht (fun h => kt h H locs ls hP hD hS hl) (fun h => kf h H locs ls hP hD hS hl)
theorem qn_icmp_lt (hk : QK k cc own nL R l D tys) {x y : Nat} {off : Int} {tgt : Nat} (hx : x < 2 ^ 31) (hy : y < 2 ^ 31) (hd : decode cc pc = .ok (.if_icmp .lt off, 3)) (ht : (pc : Int) + off = (tgt : Int)) (kt : x < y → QV k w S lv tgt rest) (kf : y ≤ x → QV k w S lv (pc + 3) rest) : QV k w S lv pc (.int (nI y) :: .int (nI x) :: rest) :=
  qv_icmp_lt hk hd ht (fun h => kt ((nI_ltI hx hy).mp h)) (fun h => kf (by rw [nI_ltI hx hy] at h; omega))
theorem qv_icmp_ge (hk : QK k cc own nL R l D tys) {x y : Int32} {off : Int} {tgt : Nat} (hd : decode cc pc = .ok (.if_icmp .ge off, 3)) (ht : (pc : Int) + off = (tgt : Int)) (kt : y ≤ x → QV k w S lv tgt rest) (kf : ¬ y ≤ x → QV k w S lv (pc + 3) rest) : QV k w S lv pc (.int y :: .int x :: rest) := by
  obtain ⟨p, l', e, R', s, m, args, below, meth, c, D', tys', Q, A, nL', mc, ms⟩ := k
  intro H locs ls hP hD hS hl
  exact lv_icmp_ge hk.1 hk.2.1 hd ht (fun h => kt h H locs ls hP hD hS hl) (fun h => kf h H locs ls hP hD hS hl)
theorem qn_icmp_ge (hk : QK k cc own nL R l D tys) {x y : Nat} {off : Int} {tgt : Nat} (hx : x < 2 ^ 31) (hy : y < 2 ^ 31) (hd : decode cc pc = .ok (.if_icmp .ge off, 3)) (ht : (pc : Int) + off = (tgt : Int)) (kt : y ≤ x → QV k w S lv tgt rest) (kf : x < y → QV k w S lv (pc + 3) rest) : QV k w S lv pc (.int (nI y) :: .int (nI x) :: rest) :=
  qv_icmp_ge hk hd ht (fun h => kt ((nI_leI hy hx).mp h)) (fun h => kf (by rw [nI_leI hy hx] at h; omega))
theorem qv_icmp_gt (hk : QK k cc own nL R l D tys) {x y : Int32} {off : Int} {tgt : Nat} (hd : decode cc pc = .ok (.if_icmp .gt off, 3)) (ht : (pc : Int) + off = (tgt : Int)) (kt : y < x → QV k w S lv tgt rest) (kf : ¬ y < x → QV k w S lv (pc + 3) rest) : QV k w S lv pc (.int y :: .int x :: rest) := by
  obtain ⟨p, l', e, R', s, m, args, below, meth, c, D', tys', Q, A, nL', mc, ms⟩ := k
  intro H locs ls hP hD hS hl
  exact lv_icmp_gt hk.1 hk.2.1 hd ht (fun h => kt h H locs ls hP hD hS hl) (fun h => kf h H locs ls hP hD hS hl)
theorem qn_icmp_gt (hk : QK k cc own nL R l D tys) {x y : Nat} {off : Int} {tgt : Nat} (hx : x < 2 ^ 31) (hy : y < 2 ^ 31) (hd : decode cc pc = .ok (.if_icmp .gt off, 3)) (ht : (pc : Int) + off = (tgt : Int)) (kt : y < x → QV k w S lv tgt rest) (kf : x ≤ y → QV k w S lv (pc + 3) rest) : QV k w S lv pc (.int (nI y) :: .int (nI x) :: rest) :=
  qv_icmp_gt hk hd ht (fun h => kt ((nI_ltI hy hx).mp h)) (fun h => kf (by rw [nI_ltI hy hx] at h; omega))
theorem qv_icmp_le (hk : QK k cc own nL R l D tys) {x y : Int32} {off : Int} {tgt : Nat} (hd : decode cc pc = .ok (.if_icmp .le off, 3)) (ht : (pc : Int) + off = (tgt : Int)) (kt : x ≤ y → QV k w S lv tgt rest) (kf : ¬ x ≤ y → QV k w S lv (pc + 3) rest) : QV k w S lv pc (.int y :: .int x :: rest) := by
  obtain ⟨p, l', e, R', s, m, args, below, meth, c, D', tys', Q, A, nL', mc, ms⟩ := k
  intro H locs ls hP hD hS hl
  exact lv_icmp_le hk.1 hk.2.1 hd ht (fun h => kt h H locs ls hP hD hS hl) (fun h => kf h H locs ls hP hD hS hl)
theorem qn_icmp_le (hk : QK k cc own nL R l D tys) {x y : Nat} {off : Int} {tgt : Nat} (hx : x < 2 ^ 31) (hy : y < 2 ^ 31) (hd : decode cc pc = .ok (.if_icmp .le off, 3)) (ht : (pc : Int) + off = (tgt : Int)) (kt : x ≤ y → QV k w S lv tgt rest) (kf : y < x → QV k w S lv (pc + 3) rest) : QV k w S lv pc (.int (nI y) :: .int (nI x) :: rest) :=
  qv_icmp_le hk hd ht (fun h => kt ((nI_leI hx hy).mp h)) (fun h => kf (by rw [nI_leI hx hy] at h; omega))
theorem qn_iadd (hk : QK k cc own nL R l D tys) {x y : Nat} (hd : decode cc pc = .ok (.iadd, 1)) (kk : QV k w S lv (pc + 1) (.int (nI (x + y)) :: rest)) : QV k w S lv pc (.int (nI y) :: .int (nI x) :: rest) := qv_iadd hk hd (by rw [nI_add]; exact kk)
theorem qn_imul (hk : QK k cc own nL R l D tys) {x y : Nat} (hd : decode cc pc = .ok (.imul, 1)) (kk : QV k w S lv (pc + 1) (.int (nI (x * y)) :: rest)) : QV k w S lv pc (.int (nI y) :: .int (nI x) :: rest) := qv_imul hk hd (by rw [pk_mul]; exact kk)
theorem qn_isub (hk : QK k cc own nL R l D tys) {x y : Nat} (h : y ≤ x) (hd : decode cc pc = .ok (.isub, 1)) (kk : QV k w S lv (pc + 1) (.int (nI (x - y)) :: rest)) : QV k w S lv pc (.int (nI y) :: .int (nI x) :: rest) := qv_isub hk hd (by rw [pk_sub h]; exact kk)
theorem qn_inc (x : Nat) : nI x + Int32.ofInt 1 = nI (x + 1) := nI_1 x
theorem qn_dec {x : Nat} (h : 0 < x) : nI x + Int32.ofInt (-1) = nI (x - 1) := by
  obtain ⟨y, rfl⟩ : ∃ y, x = y + 1 := ⟨x - 1, by omega⟩
  exact pk_m1 y
theorem qv_iald (hk : QK k cc own nL R l D tys) (q0 t0 : Nat) {a : Nat} {cA : ClassId} {n : Nat} {f : Nat → Int32} (ha : (w S)[q0]? = some (a, .inl (cA, n, .inl f))) (ht : tys[t0]? = some (cA, .int)) {j : Nat} (hj : j < n) (hn : n < 2 ^ 31) (hd : decode cc pc = .ok (.iaload, 1)) (kk : QV k w S lv (pc + 1) (.int (f j) :: rest)) : QV k w S lv pc (.int (nI j) :: .ref a :: rest) := by
  obtain ⟨p, l', e, R', s, m, args, below, meth, c, D', tys', Q, A, nL', mc, ms⟩ := k
  obtain ⟨hx, hb, hml, hown, hts, hK, hA, rfl, rfl, rfl, rfl, rfl, hmc, hms⟩ := hk
  intro H locs ls hP hD hS hl
  refine va_iald hx hb hK hP q0 t0 ha ht (vp_in_nI hj hn) hd ?_
  rw [nI_clamp (by omega)]
  exact kk H locs ls hP hD hS hl
theorem qv_zald (hk : QK k cc own nL R l D tys) (q0 t0 : Nat) {a : Nat} {cA : ClassId} {n : Nat} {f : Nat → Int32} (ha : (w S)[q0]? = some (a, .inl (cA, n, .inl f))) (ht : tys[t0]? = some (cA, .boolean)) {j : Nat} (hj : j < n) (hn : n < 2 ^ 31) (hd : decode cc pc = .ok (.baload, 1)) (kk : QV k w S lv (pc + 1) (.int (f j) :: rest)) : QV k w S lv pc (.int (nI j) :: .ref a :: rest) := by
  obtain ⟨p, l', e, R', s, m, args, below, meth, c, D', tys', Q, A, nL', mc, ms⟩ := k
  obtain ⟨hx, hb, hml, hown, hts, hK, hA, rfl, rfl, rfl, rfl, rfl, hmc, hms⟩ := hk
  intro H locs ls hP hD hS hl
  refine va_zald hx hb hK hP q0 t0 ha ht (vp_in_nI hj hn) hd ?_
  rw [nI_clamp (by omega)]
  exact kk H locs ls hP hD hS hl
theorem qv_iast (hk : QK k cc own nL R l D tys) (q0 t0 : Nat) {a : Nat} {cA : ClassId} {n : Nat} {f : Nat → Int32} (ha : (w S)[q0]? = some (a, .inl (cA, n, .inl f))) (ht : tys[t0]? = some (cA, .int)) {j : Nat} {x : Int32} (hj : j < n) (hn : n < 2 ^ 31) {S2 : σ} (hw : (w S).set q0 (a, .inl (cA, n, .inl (upd f j x))) = w S2) (hd : decode cc pc = .ok (.iastore, 1)) (kk : QV k w S2 lv (pc + 1) rest) : QV k w S lv pc (.int x :: .int (nI j) :: .ref a :: rest) := by
  obtain ⟨p, l', e, R', s, m, args, below, meth, c, D', tys', Q, A, nL', mc, ms⟩ := k
  obtain ⟨hx, hb, hml, hown, hts, hK, hA, rfl, rfl, rfl, rfl, rfl, hmc, hms⟩ := hk
  intro H locs ls hP hD hS hl
  refine va_iast hx hb hK hP hD hS q0 t0 ha ht (vp_in_nI hj hn) hd (fun H1 locs1 hP1 hD1 hS1 => ?_)
  rw [nI_clamp (by omega), hw] at hP1 hD1
  exact kk H1 locs1 ls hP1 hD1 hS1 hl
theorem qv_zast (hk : QK k cc own nL R l D tys) (q0 t0 : Nat) {a : Nat} {cA : ClassId} {n : Nat} {f : Nat → Int32} (ha : (w S)[q0]? = some (a, .inl (cA, n, .inl f))) (ht : tys[t0]? = some (cA, .boolean)) {j : Nat} {x : Int32} (hv : vp_nar .boolean x = x) (hj : j < n) (hn : n < 2 ^ 31) {S2 : σ} (hw : (w S).set q0 (a, .inl (cA, n, .inl (upd f j x))) = w S2) (hd : decode cc pc = .ok (.bastore, 1)) (kk : QV k w S2 lv (pc + 1) rest) : QV k w S lv pc (.int x :: .int (nI j) :: .ref a :: rest) := by
  obtain ⟨p, l', e, R', s, m, args, below, meth, c, D', tys', Q, A, nL', mc, ms⟩ := k
  obtain ⟨hx, hb, hml, hown, hts, hK, hA, rfl, rfl, rfl, rfl, rfl, hmc, hms⟩ := hk
  intro H locs ls hP hD hS hl
  refine va_zast hx hb hK hP hD hS q0 t0 ha ht (vp_in_nI hj hn) hd (fun H1 locs1 hP1 hD1 hS1 => ?_)
  rw [nI_clamp (by omega), hv, hw] at hP1 hD1
  exact kk H1 locs1 ls hP1 hD1 hS1 hl
theorem qv_get (hk : QK k cc own nL R l D tys) {C : String} {T : u_T} {N ci index : Nat} (hin : ∀ w ∈ u_ws C T N, w ∈ lw_ok) (q0 : Nat) {a : Nat} {fs : List Value} (he : (w S)[q0]? = some (a, .inr (ci, fs))) (hc : classes[ci]? = some (C, T, N)) (i : Nat) (hi : i < N) (hl : Cond.fieldLink own index C (T i).2.1 (T i).2.2.1 ∈ lw_ok) (hsame : (T i).1 = C) {v : Value} (hv : fs[i]? = some v) (hd : decode cc pc = .ok (.getfield index, 3)) (kk : QV k w S lv (pc + 3) (v :: rest)) : QV k w S lv pc (.ref a :: rest) := by
  obtain ⟨p, l', e, R', s, m, args, below, meth, c, D', tys', Q, A, nL', mc, ms⟩ := k
  obtain ⟨hx, hb, hml, hown, hts, hK, hA, rfl, rfl, rfl, rfl, rfl, hmc, hms⟩ := hk
  intro H locs ls hP hD hS hl2
  exact va_get hx hb hts hin hown hK hP q0 he hc i hi (hts _ hl) (fun x h => by rw [hsame] at h; exact h) hv hd (kk H locs ls hP hD hS hl2)
theorem qv_put (hk : QK k cc own nL R l D tys) {C : String} {T : u_T} {N ci index : Nat} (hin : ∀ w ∈ u_ws C T N, w ∈ lw_ok) (ty0 : Nat → FieldType) (hty : ∀ k, k < N → parseFieldDescriptor (T k).2.2.1 = some (ty0 k)) (hnm : ∀ a, a < N → ∀ b, b < N → a ≠ b → (T a).2.1 ≠ (T b).2.1) (q0 : Nat) {a : Nat} {fs : List Value} (he : (w S)[q0]? = some (a, .inr (ci, fs))) (hc : classes[ci]? = some (C, T, N)) (i : Nat) (hi : i < N) (hl : Cond.fieldLink own index C (T i).2.1 (T i).2.2.1 ∈ lw_ok) (hsame : (T i).1 = C) (hfin : (T i).2.2.2 = false) {ty : FieldType} {v : Value} (hdd : parseFieldDescriptor (T i).2.2.1 = some ty) (hn : narrow ty v = v) (hfit : fits ty v = true) (hlen : i < fs.length) {S2 : σ} (hw : (w S).set q0 (a, .inr (ci, fs.set i v)) = w S2) (hd : decode cc pc = .ok (.putfield index, 3)) (kk : QV k w S2 lv (pc + 3) rest) : QV k w S lv pc (v :: .ref a :: rest) := by
  obtain ⟨p, l', e, R', s, m, args, below, meth, c, D', tys', Q, A, nL', mc, ms⟩ := k
  obtain ⟨hx, hb, hml, hown, hts, hK, hA, rfl, rfl, rfl, rfl, rfl, hmc, hms⟩ := hk
  intro H locs ls hP hD hS hl2
  refine va_put hx hb hts hin ty0 hty hnm hown hK hP hD hS q0 he hc i hi (hts _ hl) (fun x h => by rw [hsame] at h; exact h) hfin hdd hn hfit hlen hd (fun H1 locs1 hP1 hD1 hS1 => ?_)
  rw [hw] at hP1 hD1
  exact kk H1 locs1 ls hP1 hD1 hS1 hl2
end QRows
theorem q_fm {α β : Type} {f : α → Option β} : ∀ {is : List α} {ws : List β}, is.map f = ws.map some → is.filterMap f = ws
  | [], [], _ => rfl
  | [], _ :: _, h => by simp at h
  | _ :: _, [], h => by simp at h
  | i :: is, x :: ws, h => by
    rw [List.map_cons, List.map_cons] at h
    obtain ⟨h1, h2⟩ := List.cons.inj h
    rw [List.filterMap_cons, h1]
    simp [q_fm h2]
theorem q_good {w : Cond} (h : w ∈ lw_ok) : w ∈ lw_ok ∧ ((w.onTables && w.keeps) = true ∨ ∃ ty, w = .arrayClass ty) := ⟨h, good_of_word (List.mem_filter.mp h).2⟩
theorem q_goodIn {ws : List Cond} (h : ∀ w ∈ ws, w ∈ lw_ok) : GoodIn lw_ok ws := fun w hw => q_good (h w hw)
theorem q_gV {own C : String} {idx n : Nat} {y : MethodName} {b : ByteArray} {r : Option FieldType} (h1 : Cond.methodLink own idx y ∈ lw_ok) (h2 : Cond.instanceMethod y ∈ lw_ok) (h3 : Cond.selects C y y ∈ lw_ok) (h4 : Cond.initialized C ∈ lw_ok) (h5 : Cond.code y b n r ∈ lw_ok) : GoodIn lw_ok (wsV own idx C y (Cond.code y b n r :: lw_ok)) := by
  refine q_goodIn (fun w hw => ?_)
  rcases List.mem_append.mp hw with hw | hw
  · simp only [List.mem_cons, List.not_mem_nil, or_false] at hw
    rcases hw with rfl | rfl | rfl | rfl <;> assumption
  · rcases List.mem_cons.mp hw with rfl | hw <;> assumption
theorem q_gS {own : String} {idx n : Nat} {y : MethodName} {b : ByteArray} {r : Option FieldType} (h1 : Cond.methodLink own idx y ∈ lw_ok) (h2 : Cond.static y ∈ lw_ok) (h4 : Cond.initialized own ∈ lw_ok) (h5 : Cond.code y b n r ∈ lw_ok) : GoodIn lw_ok (wsS own idx y (Cond.code y b n r :: lw_ok)) := by
  refine q_goodIn (fun w hw => ?_)
  rcases List.mem_append.mp hw with hw | hw
  · simp only [List.mem_cons, List.not_mem_nil, or_false] at hw
    rcases hw with rfl | rfl | rfl <;> assumption
  · rcases List.mem_cons.mp hw with rfl | hw <;> assumption
theorem q_blind {σ : Type} {D : va_G} {tys : List (ClassId × FieldType)} {w : σ → va_W} {S : σ} {av : List Value} {sz : Nat} : FrameBlind (va_Pc av (QPre D tys w S sz)) := fun a U g mk q => by
  obtain ⟨q0, q1, qP, qK, qD⟩ := q
  exact ⟨q0, q1, qP, va_K.moved (u := U) (U := U.calling g mk a) (Vm.Alike.refl U.vm) qK, qD⟩
section QCalls
variable {σ τ : Type} {k : QC} {w : σ → va_W} {S : σ} {wc : τ → va_W} {Sc : τ} {lv : List (Nat × Value)} {pc : Nat} {rest As : List Value} {cc bytes : ByteArray} {own C : String} {nL maxL n index b ci : Nat} {R rm : Room} {l : Launch} {D : va_G} {tys : List (ClassId × FieldType)} {y : MethodName} {ws ws' : List Cond} {ret : Option FieldType} {fs : List Value} {q : vw_C} {wr : va_W}
theorem qv_callI {post : Int32 → τ → Prop} (hk : QK k cc own nL R l D tys) (hM : MetI l y ws rm D tys wc Sc (.ref b :: As) post) (hG : GoodIn lw_ok (wsV own index C y ws)) (hw : ws = Cond.code y bytes maxL ret :: ws') (hrc : rm.cells = 0) (hrs : rm.slots = 0) (hd : y.cls = C ∧ y.cls ≠ "java/lang/invoke/MethodHandle" ∧ y.cls ≠ "java/lang/invoke/VarHandle" ∧ (parseMethodDescriptor y.desc).map (fun d => d.parameters.length) = some n) (hR : rm.frames + 1 ≤ R.frames ∧ 8 + (maxL + 11) + rm.locals ≤ R.locals) (hn : As.length = n)
    (hq : (wc Sc)[0]? = some (b, .inr (ci, fs))) (hcl : classes[ci]? = some q) (hqC : q.1 = C) (isC isR : List Nat) (hC : isC.map (fun i => (w S)[i]?) = (wc Sc).map some) (hRr : isR.map (fun i => (w S)[i]?) = wr.map some) (hndC : va_nd isC = true) (hnd : va_nd isR = true) (hdis : ∀ i ∈ isR, i ∉ isC) (up : τ → σ) (isB : List Nat) (hB : ∀ S', isB.map (fun i => (wr ++ wc S')[i]?) = (w (up S')).map some) (hndB : va_nd isB = true) (hst : (rest.map fun v => v.category).sum ≤ 8)
    (hdg : decode cc pc = .ok (.invokevirtual index, 3)) (kk : ∀ (r : Int32) (S' : τ), post r S' → QV k w (up S') lv (pc + 3) (.int r :: rest)) : QV k w S lv pc (As.reverse ++ .ref b :: rest) := by
  obtain ⟨p, l', e, R', s, m, args, below, meth, c, D', tys', Q, A, nL', mc, ms⟩ := k
  obtain ⟨hx, hb, hml, hown, hts, hK, hA, rfl, rfl, rfl, rfl, rfl, hmc, hms⟩ := hk
  intro H locs ls hP hD hS hl
  have hPc : va_P D' classes (wc Sc) H := hP.sub isC (q_fm hC)
  have hDc := hD.sub isC hndC hC
  have hFc := va_free hD hS hA isC hC
  subst hqC
  refine va_calli (va_runV (As := As) (rest := rest) ⟨hx, hb, hml, hown, hts⟩ (hM H.size) (cwV n hts hG hw hrc hrs hd hR) ⟨q_blind, va_recv hK hPc hcl hq, fun U hU hW => ⟨rfl, by rw [hU], by rw [hU]; exact hPc, va_K.moved hW.alike hK, hDc.weaken (fun _ _ _ _ => trivial)⟩⟩ rfl hn hl.1 rfl (lv_room hst) hdg ⟨hmc, hms⟩) hS (fun q _ h => hFc q h) hFc (fun r u t H1 locs1 ht hvm hp hB1 hz1 hk1 hS1 => ?_)
  obtain ⟨hP1, hK1, hD1⟩ := hB1
  rw [ht] at hP1
  obtain ⟨hP2, hD2⟩ := va_join hP hD isC isR hC hRr hnd hdis hk1 hFc hP1 hD1
  exact kk r u hp H1 locs1 ls (hP2.sub isB (q_fm (hB u))) (hD2.sub isB hndB (hB u)) hS1 hl
theorem qv_callN {post : τ → Prop} (hk : QK k cc own nL R l D tys) (hM : MetN l y ws rm D tys wc Sc (.ref b :: As) post) (hG : GoodIn lw_ok (wsV own index C y ws)) (hw : ws = Cond.code y bytes maxL ret :: ws') (hrc : rm.cells = 0) (hrs : rm.slots = 0) (hd : y.cls = C ∧ y.cls ≠ "java/lang/invoke/MethodHandle" ∧ y.cls ≠ "java/lang/invoke/VarHandle" ∧ (parseMethodDescriptor y.desc).map (fun d => d.parameters.length) = some n) (hR : rm.frames + 1 ≤ R.frames ∧ 8 + (maxL + 11) + rm.locals ≤ R.locals) (hn : As.length = n)
    (hq : (wc Sc)[0]? = some (b, .inr (ci, fs))) (hcl : classes[ci]? = some q) (hqC : q.1 = C) (isC isR : List Nat) (hC : isC.map (fun i => (w S)[i]?) = (wc Sc).map some) (hRr : isR.map (fun i => (w S)[i]?) = wr.map some) (hndC : va_nd isC = true) (hnd : va_nd isR = true) (hdis : ∀ i ∈ isR, i ∉ isC) (up : τ → σ) (isB : List Nat) (hB : ∀ S', isB.map (fun i => (wr ++ wc S')[i]?) = (w (up S')).map some) (hndB : va_nd isB = true) (hst : (rest.map fun v => v.category).sum ≤ 8)
    (hdg : decode cc pc = .ok (.invokevirtual index, 3)) (kk : ∀ (S' : τ), post S' → QV k w (up S') lv (pc + 3) rest) : QV k w S lv pc (As.reverse ++ .ref b :: rest) := by
  obtain ⟨p, l', e, R', s, m, args, below, meth, c, D', tys', Q, A, nL', mc, ms⟩ := k
  obtain ⟨hx, hb, hml, hown, hts, hK, hA, rfl, rfl, rfl, rfl, rfl, hmc, hms⟩ := hk
  intro H locs ls hP hD hS hl
  have hPc : va_P D' classes (wc Sc) H := hP.sub isC (q_fm hC)
  have hDc := hD.sub isC hndC hC
  have hFc := va_free hD hS hA isC hC
  subst hqC
  refine va_callv (va_runV (As := As) (rest := rest) ⟨hx, hb, hml, hown, hts⟩ (hM H.size) (cwV n hts hG hw hrc hrs hd hR) ⟨q_blind, va_recv hK hPc hcl hq, fun U hU hW => ⟨rfl, by rw [hU], by rw [hU]; exact hPc, va_K.moved hW.alike hK, hDc.weaken (fun _ _ _ _ => trivial)⟩⟩ rfl hn hl.1 rfl (lv_room hst) hdg ⟨hmc, hms⟩) hS (fun q _ h => hFc q h) hFc (fun u t H1 locs1 ht hvm hp hB1 hz1 hk1 hS1 => ?_)
  obtain ⟨hP1, hK1, hD1⟩ := hB1
  rw [ht] at hP1
  obtain ⟨hP2, hD2⟩ := va_join hP hD isC isR hC hRr hnd hdis hk1 hFc hP1 hD1
  exact kk u hp H1 locs1 ls (hP2.sub isB (q_fm (hB u))) (hD2.sub isB hndB (hB u)) hS1 hl
/-- a static method that needs no cell -/
theorem qv_callS {post : Int32 → Unit → Prop} (hk : QK k cc own nL R l D tys) (hM : MetI l y ws rm D tys (fun _ : Unit => []) () As post) (hG : GoodIn lw_ok (wsS own index y ws)) (hw : ws = Cond.code y bytes maxL ret :: ws') (hrc : rm.cells = 0) (hrs : rm.slots = 0) (hd : y.cls = own ∧ y.cls ≠ "java/lang/invoke/MethodHandle" ∧ y.cls ≠ "java/lang/invoke/VarHandle" ∧ (parseMethodDescriptor y.desc).map (fun d => d.parameters.length) = some n) (hR : rm.frames + 1 ≤ R.frames ∧ 8 + (maxL + 11) + rm.locals ≤ R.locals) (hn : As.length = n) (hst : (rest.map fun v => v.category).sum ≤ 8)
    (hdg : decode cc pc = .ok (.invokestatic index, 3)) (kk : ∀ (r : Int32), post r () → QV k w S lv (pc + 3) (.int r :: rest)) : QV k w S lv pc (As.reverse ++ rest) := by
  obtain ⟨p, l', e, R', s, m, args, below, meth, c, D', tys', Q, A, nL', mc, ms⟩ := k
  obtain ⟨hx, hb, hml, hown, hts, hK, hA, rfl, rfl, rfl, rfl, rfl, hmc, hms⟩ := hk
  intro H locs ls hP hD hS hl
  have hPc : va_P D' classes [] H := hP.sub [] rfl
  have hDc : va_D A [] := hD.sub [] rfl rfl
  have hFc : ∀ q, va_A [] H.size q → A q := va_free hD hS hA [] rfl
  refine va_calli (va_runS (As := As) (rest := rest) ⟨hx, hb, hml, hown, hts⟩ (hM H.size) (cwS n hts hG hw hrc hrs hd hR) ⟨q_blind, fun U hU hW => ⟨rfl, by rw [hU], by rw [hU]; exact hPc, va_K.moved hW.alike hK, hDc.weaken (fun _ _ _ _ => trivial)⟩⟩ rfl hn hl.1 rfl (lv_room hst) hdg ⟨hmc, hms⟩) hS (fun q _ h => hFc q h) hFc (fun r u t H1 locs1 ht hvm hp hB1 hz1 hk1 hS1 => ?_)
  refine kk r hp H1 locs1 ls (hP.kept (fun i x hx => ?_)) hD hS1 hl
  have hlt := (hP i x hx).lt
  refine hk1 x.1 hlt (fun h => ?_)
  rcases h with ⟨j, z, h⟩ | h
  · simp at h
  · omega
end QCalls
end
section
/-! the two objects' pictures: QS is a state: array number, place; the numbers of the object itself stand behind the arrays -/
abbrev QS : Type := Nat → Nat → Int32
def up2 (S : QS) (i j : Nat) (v : Int32) : QS := fun c => if c = i then upd (S i) j v else S c
abbrev xw (a : Nat → Nat) (cI cZ : ClassId) (S : QS) : va_W := [(a 0, .inr (0, [.ref (a 1), .ref (a 2), .ref (a 3), .ref (a 4), .ref (a 5), .ref (a 6), .ref (a 7), .ref (a 8), .ref (a 9), .ref (a 10), .ref (a 11), .int (S 11 0), .int (S 11 1), .int (S 11 2)])), (a 1, .inl (cI, 80, .inl (S 0))), (a 2, .inl (cI, 80, .inl (S 1))), (a 3, .inl (cI, 2, .inl (S 2))), (a 4, .inl (cI, 34, .inl (S 3))), (a 5, .inl (cI, 32, .inl (S 4))), (a 6, .inl (cZ, 32, .inl (S 5))), (a 7, .inl (cI, 16, .inl (S 6))), (a 8, .inl (cI, 16, .inl (S 7))), (a 9, .inl (cI, 16, .inl (S 8))), (a 10, .inl (cI, 16, .inl (S 9))), (a 11, .inl (cI, 16, .inl (S 10)))]
abbrev mw (a : Nat → Nat) (cI cZ : ClassId) (S : QS) : va_W := [(a 0, .inr (1, [.ref (a 1), .ref (a 2), .ref (a 3), .ref (a 4), .int (S 9 0), .ref (a 5), .ref (a 6), .ref (a 7), .ref (a 8), .ref (a 9), .int (S 9 1), .int (S 9 2), .int (S 9 3), .int (S 9 4)])), (a 1, .inl (cI, 2, .inl (S 0))), (a 2, .inl (cI, 80, .inl (S 1))), (a 3, .inl (cI, 80, .inl (S 2))), (a 4, .inl (cZ, 32, .inl (S 3))), (a 5, .inl (cI, 16, .inl (S 4))), (a 6, .inl (cI, 16, .inl (S 5))), (a 7, .inl (cI, 16, .inl (S 6))), (a 8, .inl (cI, 16, .inl (S 7))), (a 9, .inl (cI, 16, .inl (S 8)))]
abbrev qty (cI cZ : ClassId) : List (ClassId × FieldType) := [(cI, .int), (cZ, .boolean)]
section QFields
variable {k : QC} {a : Nat → Nat} {cI cZ : ClassId} {S : QS} {lv : List (Nat × Value)} {pc : Nat} {rest : List Value} {cc : ByteArray} {nL : Nat} {R : Room} {l : Launch} {D : va_G}
theorem gX_keys (hk : QK k cc R_X nL R l D (qty cI cZ)) (hd : decode cc pc = .ok (.getfield 7, 3)) (kk : QV k (xw a cI cZ) S lv (pc + 3) (.ref (a 1) :: rest)) : QV k (xw a cI cZ) S lv pc (.ref (a 0) :: rest) :=
  qv_get hk i_X 0 rfl rfl 0 (by decide) k_fl_X_7 rfl rfl hd kk
theorem gX_values (hk : QK k cc R_X nL R l D (qty cI cZ)) (hd : decode cc pc = .ok (.getfield 13, 3)) (kk : QV k (xw a cI cZ) S lv (pc + 3) (.ref (a 2) :: rest)) : QV k (xw a cI cZ) S lv pc (.ref (a 0) :: rest) :=
  qv_get hk i_X 0 rfl rfl 1 (by decide) k_fl_X_13 rfl rfl hd kk
theorem gX_sizes (hk : QK k cc R_X nL R l D (qty cI cZ)) (hd : decode cc pc = .ok (.getfield 16, 3)) (kk : QV k (xw a cI cZ) S lv (pc + 3) (.ref (a 3) :: rest)) : QV k (xw a cI cZ) S lv pc (.ref (a 0) :: rest) :=
  qv_get hk i_X 0 rfl rfl 2 (by decide) k_fl_X_16 rfl rfl hd kk
theorem gX_begin (hk : QK k cc R_X nL R l D (qty cI cZ)) (hd : decode cc pc = .ok (.getfield 19, 3)) (kk : QV k (xw a cI cZ) S lv (pc + 3) (.ref (a 4) :: rest)) : QV k (xw a cI cZ) S lv pc (.ref (a 0) :: rest) :=
  qv_get hk i_X 0 rfl rfl 3 (by decide) k_fl_X_19 rfl rfl hd kk
theorem gX_sums (hk : QK k cc R_X nL R l D (qty cI cZ)) (hd : decode cc pc = .ok (.getfield 22, 3)) (kk : QV k (xw a cI cZ) S lv (pc + 3) (.ref (a 5) :: rest)) : QV k (xw a cI cZ) S lv pc (.ref (a 0) :: rest) :=
  qv_get hk i_X 0 rfl rfl 4 (by decide) k_fl_X_22 rfl rfl hd kk
theorem gX_shut (hk : QK k cc R_X nL R l D (qty cI cZ)) (hd : decode cc pc = .ok (.getfield 25, 3)) (kk : QV k (xw a cI cZ) S lv (pc + 3) (.ref (a 6) :: rest)) : QV k (xw a cI cZ) S lv pc (.ref (a 0) :: rest) :=
  qv_get hk i_X 0 rfl rfl 5 (by decide) k_fl_X_25 rfl rfl hd kk
theorem gX_outKey (hk : QK k cc R_X nL R l D (qty cI cZ)) (hd : decode cc pc = .ok (.getfield 29, 3)) (kk : QV k (xw a cI cZ) S lv (pc + 3) (.ref (a 7) :: rest)) : QV k (xw a cI cZ) S lv pc (.ref (a 0) :: rest) :=
  qv_get hk i_X 0 rfl rfl 6 (by decide) k_fl_X_29 rfl rfl hd kk
theorem gX_outPairs (hk : QK k cc R_X nL R l D (qty cI cZ)) (hd : decode cc pc = .ok (.getfield 32, 3)) (kk : QV k (xw a cI cZ) S lv (pc + 3) (.ref (a 8) :: rest)) : QV k (xw a cI cZ) S lv pc (.ref (a 0) :: rest) :=
  qv_get hk i_X 0 rfl rfl 7 (by decide) k_fl_X_32 rfl rfl hd kk
theorem gX_outSum (hk : QK k cc R_X nL R l D (qty cI cZ)) (hd : decode cc pc = .ok (.getfield 35, 3)) (kk : QV k (xw a cI cZ) S lv (pc + 3) (.ref (a 9) :: rest)) : QV k (xw a cI cZ) S lv pc (.ref (a 0) :: rest) :=
  qv_get hk i_X 0 rfl rfl 8 (by decide) k_fl_X_35 rfl rfl hd kk
theorem gX_outLeast (hk : QK k cc R_X nL R l D (qty cI cZ)) (hd : decode cc pc = .ok (.getfield 38, 3)) (kk : QV k (xw a cI cZ) S lv (pc + 3) (.ref (a 10) :: rest)) : QV k (xw a cI cZ) S lv pc (.ref (a 0) :: rest) :=
  qv_get hk i_X 0 rfl rfl 9 (by decide) k_fl_X_38 rfl rfl hd kk
theorem gX_outGreatest (hk : QK k cc R_X nL R l D (qty cI cZ)) (hd : decode cc pc = .ok (.getfield 41, 3)) (kk : QV k (xw a cI cZ) S lv (pc + 3) (.ref (a 11) :: rest)) : QV k (xw a cI cZ) S lv pc (.ref (a 0) :: rest) :=
  qv_get hk i_X 0 rfl rfl 10 (by decide) k_fl_X_41 rfl rfl hd kk
theorem gX_outputs (hk : QK k cc R_X nL R l D (qty cI cZ)) (hd : decode cc pc = .ok (.getfield 44, 3)) (kk : QV k (xw a cI cZ) S lv (pc + 3) (.int (S 11 0) :: rest)) : QV k (xw a cI cZ) S lv pc (.ref (a 0) :: rest) :=
  qv_get hk i_X 0 rfl rfl 11 (by decide) k_fl_X_44 rfl rfl hd kk
theorem pX_outputs (hk : QK k cc R_X nL R l D (qty cI cZ)) {x : Int32} (hd : decode cc pc = .ok (.putfield 44, 3)) (kk : QV k (xw a cI cZ) (up2 S 11 0 x) lv (pc + 3) rest) : QV k (xw a cI cZ) S lv pc (.int x :: .ref (a 0) :: rest) :=
  qv_put hk i_X t_X t_X_ok n_X 0 rfl rfl 11 (by decide) k_fl_X_44 rfl rfl (ty := .int) (by decide +kernel) rfl rfl (Nat.le_of_ble_eq_true rfl) (S2 := up2 S 11 0 x) rfl hd kk
theorem gX_low (hk : QK k cc R_X nL R l D (qty cI cZ)) (hd : decode cc pc = .ok (.getfield 81, 3)) (kk : QV k (xw a cI cZ) S lv (pc + 3) (.int (S 11 1) :: rest)) : QV k (xw a cI cZ) S lv pc (.ref (a 0) :: rest) :=
  qv_get hk i_X 0 rfl rfl 12 (by decide) k_fl_X_81 rfl rfl hd kk
theorem pX_low (hk : QK k cc R_X nL R l D (qty cI cZ)) {x : Int32} (hd : decode cc pc = .ok (.putfield 81, 3)) (kk : QV k (xw a cI cZ) (up2 S 11 1 x) lv (pc + 3) rest) : QV k (xw a cI cZ) S lv pc (.int x :: .ref (a 0) :: rest) :=
  qv_put hk i_X t_X t_X_ok n_X 0 rfl rfl 12 (by decide) k_fl_X_81 rfl rfl (ty := .int) (by decide +kernel) rfl rfl (Nat.le_of_ble_eq_true rfl) (S2 := up2 S 11 1 x) rfl hd kk
theorem gX_high (hk : QK k cc R_X nL R l D (qty cI cZ)) (hd : decode cc pc = .ok (.getfield 84, 3)) (kk : QV k (xw a cI cZ) S lv (pc + 3) (.int (S 11 2) :: rest)) : QV k (xw a cI cZ) S lv pc (.ref (a 0) :: rest) :=
  qv_get hk i_X 0 rfl rfl 13 (by decide) k_fl_X_84 rfl rfl hd kk
theorem pX_high (hk : QK k cc R_X nL R l D (qty cI cZ)) {x : Int32} (hd : decode cc pc = .ok (.putfield 84, 3)) (kk : QV k (xw a cI cZ) (up2 S 11 2 x) lv (pc + 3) rest) : QV k (xw a cI cZ) S lv pc (.int x :: .ref (a 0) :: rest) :=
  qv_put hk i_X t_X t_X_ok n_X 0 rfl rfl 13 (by decide) k_fl_X_84 rfl rfl (ty := .int) (by decide +kernel) rfl rfl (Nat.le_of_ble_eq_true rfl) (S2 := up2 S 11 2 x) rfl hd kk
theorem aX_keys (hk : QK k cc R_X nL R l D (qty cI cZ)) {j : Nat} (hj : j < 80) (hd : decode cc pc = .ok (.iaload, 1)) (kk : QV k (xw a cI cZ) S lv (pc + 1) (.int (S 0 j) :: rest)) : QV k (xw a cI cZ) S lv pc (.int (nI j) :: .ref (a 1) :: rest) :=
  qv_iald hk 1 0 rfl rfl hj (by decide) hd kk
theorem sX_keys (hk : QK k cc R_X nL R l D (qty cI cZ)) {j : Nat} {x : Int32} (hj : j < 80) (hd : decode cc pc = .ok (.iastore, 1)) (kk : QV k (xw a cI cZ) (up2 S 0 j x) lv (pc + 1) rest) : QV k (xw a cI cZ) S lv pc (.int x :: .int (nI j) :: .ref (a 1) :: rest) :=
  qv_iast hk 1 0 rfl rfl hj (by decide) (S2 := up2 S 0 j x) rfl hd kk
theorem aX_values (hk : QK k cc R_X nL R l D (qty cI cZ)) {j : Nat} (hj : j < 80) (hd : decode cc pc = .ok (.iaload, 1)) (kk : QV k (xw a cI cZ) S lv (pc + 1) (.int (S 1 j) :: rest)) : QV k (xw a cI cZ) S lv pc (.int (nI j) :: .ref (a 2) :: rest) :=
  qv_iald hk 2 0 rfl rfl hj (by decide) hd kk
theorem sX_values (hk : QK k cc R_X nL R l D (qty cI cZ)) {j : Nat} {x : Int32} (hj : j < 80) (hd : decode cc pc = .ok (.iastore, 1)) (kk : QV k (xw a cI cZ) (up2 S 1 j x) lv (pc + 1) rest) : QV k (xw a cI cZ) S lv pc (.int x :: .int (nI j) :: .ref (a 2) :: rest) :=
  qv_iast hk 2 0 rfl rfl hj (by decide) (S2 := up2 S 1 j x) rfl hd kk
theorem aX_sizes (hk : QK k cc R_X nL R l D (qty cI cZ)) {j : Nat} (hj : j < 2) (hd : decode cc pc = .ok (.iaload, 1)) (kk : QV k (xw a cI cZ) S lv (pc + 1) (.int (S 2 j) :: rest)) : QV k (xw a cI cZ) S lv pc (.int (nI j) :: .ref (a 3) :: rest) :=
  qv_iald hk 3 0 rfl rfl hj (by decide) hd kk
theorem sX_sizes (hk : QK k cc R_X nL R l D (qty cI cZ)) {j : Nat} {x : Int32} (hj : j < 2) (hd : decode cc pc = .ok (.iastore, 1)) (kk : QV k (xw a cI cZ) (up2 S 2 j x) lv (pc + 1) rest) : QV k (xw a cI cZ) S lv pc (.int x :: .int (nI j) :: .ref (a 3) :: rest) :=
  qv_iast hk 3 0 rfl rfl hj (by decide) (S2 := up2 S 2 j x) rfl hd kk
theorem aX_begin (hk : QK k cc R_X nL R l D (qty cI cZ)) {j : Nat} (hj : j < 34) (hd : decode cc pc = .ok (.iaload, 1)) (kk : QV k (xw a cI cZ) S lv (pc + 1) (.int (S 3 j) :: rest)) : QV k (xw a cI cZ) S lv pc (.int (nI j) :: .ref (a 4) :: rest) :=
  qv_iald hk 4 0 rfl rfl hj (by decide) hd kk
theorem sX_begin (hk : QK k cc R_X nL R l D (qty cI cZ)) {j : Nat} {x : Int32} (hj : j < 34) (hd : decode cc pc = .ok (.iastore, 1)) (kk : QV k (xw a cI cZ) (up2 S 3 j x) lv (pc + 1) rest) : QV k (xw a cI cZ) S lv pc (.int x :: .int (nI j) :: .ref (a 4) :: rest) :=
  qv_iast hk 4 0 rfl rfl hj (by decide) (S2 := up2 S 3 j x) rfl hd kk
theorem aX_sums (hk : QK k cc R_X nL R l D (qty cI cZ)) {j : Nat} (hj : j < 32) (hd : decode cc pc = .ok (.iaload, 1)) (kk : QV k (xw a cI cZ) S lv (pc + 1) (.int (S 4 j) :: rest)) : QV k (xw a cI cZ) S lv pc (.int (nI j) :: .ref (a 5) :: rest) :=
  qv_iald hk 5 0 rfl rfl hj (by decide) hd kk
theorem sX_sums (hk : QK k cc R_X nL R l D (qty cI cZ)) {j : Nat} {x : Int32} (hj : j < 32) (hd : decode cc pc = .ok (.iastore, 1)) (kk : QV k (xw a cI cZ) (up2 S 4 j x) lv (pc + 1) rest) : QV k (xw a cI cZ) S lv pc (.int x :: .int (nI j) :: .ref (a 5) :: rest) :=
  qv_iast hk 5 0 rfl rfl hj (by decide) (S2 := up2 S 4 j x) rfl hd kk
theorem aX_shut (hk : QK k cc R_X nL R l D (qty cI cZ)) {j : Nat} (hj : j < 32) (hd : decode cc pc = .ok (.baload, 1)) (kk : QV k (xw a cI cZ) S lv (pc + 1) (.int (S 5 j) :: rest)) : QV k (xw a cI cZ) S lv pc (.int (nI j) :: .ref (a 6) :: rest) :=
  qv_zald hk 6 1 rfl rfl hj (by decide) hd kk
theorem sX_shut (hk : QK k cc R_X nL R l D (qty cI cZ)) {j : Nat} {x : Int32} (hv : vp_nar .boolean x = x) (hj : j < 32) (hd : decode cc pc = .ok (.bastore, 1)) (kk : QV k (xw a cI cZ) (up2 S 5 j x) lv (pc + 1) rest) : QV k (xw a cI cZ) S lv pc (.int x :: .int (nI j) :: .ref (a 6) :: rest) :=
  qv_zast hk 6 1 rfl rfl hv hj (by decide) (S2 := up2 S 5 j x) rfl hd kk
theorem aX_outKey (hk : QK k cc R_X nL R l D (qty cI cZ)) {j : Nat} (hj : j < 16) (hd : decode cc pc = .ok (.iaload, 1)) (kk : QV k (xw a cI cZ) S lv (pc + 1) (.int (S 6 j) :: rest)) : QV k (xw a cI cZ) S lv pc (.int (nI j) :: .ref (a 7) :: rest) :=
  qv_iald hk 7 0 rfl rfl hj (by decide) hd kk
theorem sX_outKey (hk : QK k cc R_X nL R l D (qty cI cZ)) {j : Nat} {x : Int32} (hj : j < 16) (hd : decode cc pc = .ok (.iastore, 1)) (kk : QV k (xw a cI cZ) (up2 S 6 j x) lv (pc + 1) rest) : QV k (xw a cI cZ) S lv pc (.int x :: .int (nI j) :: .ref (a 7) :: rest) :=
  qv_iast hk 7 0 rfl rfl hj (by decide) (S2 := up2 S 6 j x) rfl hd kk
theorem aX_outPairs (hk : QK k cc R_X nL R l D (qty cI cZ)) {j : Nat} (hj : j < 16) (hd : decode cc pc = .ok (.iaload, 1)) (kk : QV k (xw a cI cZ) S lv (pc + 1) (.int (S 7 j) :: rest)) : QV k (xw a cI cZ) S lv pc (.int (nI j) :: .ref (a 8) :: rest) :=
  qv_iald hk 8 0 rfl rfl hj (by decide) hd kk
theorem sX_outPairs (hk : QK k cc R_X nL R l D (qty cI cZ)) {j : Nat} {x : Int32} (hj : j < 16) (hd : decode cc pc = .ok (.iastore, 1)) (kk : QV k (xw a cI cZ) (up2 S 7 j x) lv (pc + 1) rest) : QV k (xw a cI cZ) S lv pc (.int x :: .int (nI j) :: .ref (a 8) :: rest) :=
  qv_iast hk 8 0 rfl rfl hj (by decide) (S2 := up2 S 7 j x) rfl hd kk
theorem aX_outSum (hk : QK k cc R_X nL R l D (qty cI cZ)) {j : Nat} (hj : j < 16) (hd : decode cc pc = .ok (.iaload, 1)) (kk : QV k (xw a cI cZ) S lv (pc + 1) (.int (S 8 j) :: rest)) : QV k (xw a cI cZ) S lv pc (.int (nI j) :: .ref (a 9) :: rest) :=
  qv_iald hk 9 0 rfl rfl hj (by decide) hd kk
theorem sX_outSum (hk : QK k cc R_X nL R l D (qty cI cZ)) {j : Nat} {x : Int32} (hj : j < 16) (hd : decode cc pc = .ok (.iastore, 1)) (kk : QV k (xw a cI cZ) (up2 S 8 j x) lv (pc + 1) rest) : QV k (xw a cI cZ) S lv pc (.int x :: .int (nI j) :: .ref (a 9) :: rest) :=
  qv_iast hk 9 0 rfl rfl hj (by decide) (S2 := up2 S 8 j x) rfl hd kk
theorem aX_outLeast (hk : QK k cc R_X nL R l D (qty cI cZ)) {j : Nat} (hj : j < 16) (hd : decode cc pc = .ok (.iaload, 1)) (kk : QV k (xw a cI cZ) S lv (pc + 1) (.int (S 9 j) :: rest)) : QV k (xw a cI cZ) S lv pc (.int (nI j) :: .ref (a 10) :: rest) :=
  qv_iald hk 10 0 rfl rfl hj (by decide) hd kk
theorem sX_outLeast (hk : QK k cc R_X nL R l D (qty cI cZ)) {j : Nat} {x : Int32} (hj : j < 16) (hd : decode cc pc = .ok (.iastore, 1)) (kk : QV k (xw a cI cZ) (up2 S 9 j x) lv (pc + 1) rest) : QV k (xw a cI cZ) S lv pc (.int x :: .int (nI j) :: .ref (a 10) :: rest) :=
  qv_iast hk 10 0 rfl rfl hj (by decide) (S2 := up2 S 9 j x) rfl hd kk
theorem aX_outGreatest (hk : QK k cc R_X nL R l D (qty cI cZ)) {j : Nat} (hj : j < 16) (hd : decode cc pc = .ok (.iaload, 1)) (kk : QV k (xw a cI cZ) S lv (pc + 1) (.int (S 10 j) :: rest)) : QV k (xw a cI cZ) S lv pc (.int (nI j) :: .ref (a 11) :: rest) :=
  qv_iald hk 11 0 rfl rfl hj (by decide) hd kk
theorem sX_outGreatest (hk : QK k cc R_X nL R l D (qty cI cZ)) {j : Nat} {x : Int32} (hj : j < 16) (hd : decode cc pc = .ok (.iastore, 1)) (kk : QV k (xw a cI cZ) (up2 S 10 j x) lv (pc + 1) rest) : QV k (xw a cI cZ) S lv pc (.int x :: .int (nI j) :: .ref (a 11) :: rest) :=
  qv_iast hk 11 0 rfl rfl hj (by decide) (S2 := up2 S 10 j x) rfl hd kk
theorem gM_count (hk : QK k cc R_M nL R l D (qty cI cZ)) (hd : decode cc pc = .ok (.getfield 7, 3)) (kk : QV k (mw a cI cZ) S lv (pc + 3) (.ref (a 1) :: rest)) : QV k (mw a cI cZ) S lv pc (.ref (a 0) :: rest) :=
  qv_get hk i_M 0 rfl rfl 0 (by decide) k_fl_M_7 rfl rfl hd kk
theorem gM_key (hk : QK k cc R_M nL R l D (qty cI cZ)) (hd : decode cc pc = .ok (.getfield 13, 3)) (kk : QV k (mw a cI cZ) S lv (pc + 3) (.ref (a 2) :: rest)) : QV k (mw a cI cZ) S lv pc (.ref (a 0) :: rest) :=
  qv_get hk i_M 0 rfl rfl 1 (by decide) k_fl_M_13 rfl rfl hd kk
theorem gM_value (hk : QK k cc R_M nL R l D (qty cI cZ)) (hd : decode cc pc = .ok (.getfield 16, 3)) (kk : QV k (mw a cI cZ) S lv (pc + 3) (.ref (a 3) :: rest)) : QV k (mw a cI cZ) S lv pc (.ref (a 0) :: rest) :=
  qv_get hk i_M 0 rfl rfl 2 (by decide) k_fl_M_16 rfl rfl hd kk
theorem gM_shut (hk : QK k cc R_M nL R l D (qty cI cZ)) (hd : decode cc pc = .ok (.getfield 19, 3)) (kk : QV k (mw a cI cZ) S lv (pc + 3) (.ref (a 4) :: rest)) : QV k (mw a cI cZ) S lv pc (.ref (a 0) :: rest) :=
  qv_get hk i_M 0 rfl rfl 3 (by decide) k_fl_M_19 rfl rfl hd kk
theorem gM_results (hk : QK k cc R_M nL R l D (qty cI cZ)) (hd : decode cc pc = .ok (.getfield 66, 3)) (kk : QV k (mw a cI cZ) S lv (pc + 3) (.int (S 9 0) :: rest)) : QV k (mw a cI cZ) S lv pc (.ref (a 0) :: rest) :=
  qv_get hk i_M 0 rfl rfl 4 (by decide) k_fl_M_66 rfl rfl hd kk
theorem pM_results (hk : QK k cc R_M nL R l D (qty cI cZ)) {x : Int32} (hd : decode cc pc = .ok (.putfield 66, 3)) (kk : QV k (mw a cI cZ) (up2 S 9 0 x) lv (pc + 3) rest) : QV k (mw a cI cZ) S lv pc (.int x :: .ref (a 0) :: rest) :=
  qv_put hk i_M t_M t_M_ok n_M 0 rfl rfl 4 (by decide) k_fl_M_66 rfl rfl (ty := .int) (by decide +kernel) rfl rfl (Nat.le_of_ble_eq_true rfl) (S2 := up2 S 9 0 x) rfl hd kk
theorem gM_resultKey (hk : QK k cc R_M nL R l D (qty cI cZ)) (hd : decode cc pc = .ok (.getfield 23, 3)) (kk : QV k (mw a cI cZ) S lv (pc + 3) (.ref (a 5) :: rest)) : QV k (mw a cI cZ) S lv pc (.ref (a 0) :: rest) :=
  qv_get hk i_M 0 rfl rfl 5 (by decide) k_fl_M_23 rfl rfl hd kk
theorem gM_resultPairs (hk : QK k cc R_M nL R l D (qty cI cZ)) (hd : decode cc pc = .ok (.getfield 26, 3)) (kk : QV k (mw a cI cZ) S lv (pc + 3) (.ref (a 6) :: rest)) : QV k (mw a cI cZ) S lv pc (.ref (a 0) :: rest) :=
  qv_get hk i_M 0 rfl rfl 6 (by decide) k_fl_M_26 rfl rfl hd kk
theorem gM_resultSum (hk : QK k cc R_M nL R l D (qty cI cZ)) (hd : decode cc pc = .ok (.getfield 29, 3)) (kk : QV k (mw a cI cZ) S lv (pc + 3) (.ref (a 7) :: rest)) : QV k (mw a cI cZ) S lv pc (.ref (a 0) :: rest) :=
  qv_get hk i_M 0 rfl rfl 7 (by decide) k_fl_M_29 rfl rfl hd kk
theorem gM_resultLeast (hk : QK k cc R_M nL R l D (qty cI cZ)) (hd : decode cc pc = .ok (.getfield 32, 3)) (kk : QV k (mw a cI cZ) S lv (pc + 3) (.ref (a 8) :: rest)) : QV k (mw a cI cZ) S lv pc (.ref (a 0) :: rest) :=
  qv_get hk i_M 0 rfl rfl 8 (by decide) k_fl_M_32 rfl rfl hd kk
theorem gM_resultGreatest (hk : QK k cc R_M nL R l D (qty cI cZ)) (hd : decode cc pc = .ok (.getfield 35, 3)) (kk : QV k (mw a cI cZ) S lv (pc + 3) (.ref (a 9) :: rest)) : QV k (mw a cI cZ) S lv pc (.ref (a 0) :: rest) :=
  qv_get hk i_M 0 rfl rfl 9 (by decide) k_fl_M_35 rfl rfl hd kk
theorem gM_pairs (hk : QK k cc R_M nL R l D (qty cI cZ)) (hd : decode cc pc = .ok (.getfield 49, 3)) (kk : QV k (mw a cI cZ) S lv (pc + 3) (.int (S 9 1) :: rest)) : QV k (mw a cI cZ) S lv pc (.ref (a 0) :: rest) :=
  qv_get hk i_M 0 rfl rfl 10 (by decide) k_fl_M_49 rfl rfl hd kk
theorem pM_pairs (hk : QK k cc R_M nL R l D (qty cI cZ)) {x : Int32} (hd : decode cc pc = .ok (.putfield 49, 3)) (kk : QV k (mw a cI cZ) (up2 S 9 1 x) lv (pc + 3) rest) : QV k (mw a cI cZ) S lv pc (.int x :: .ref (a 0) :: rest) :=
  qv_put hk i_M t_M t_M_ok n_M 0 rfl rfl 10 (by decide) k_fl_M_49 rfl rfl (ty := .int) (by decide +kernel) rfl rfl (Nat.le_of_ble_eq_true rfl) (S2 := up2 S 9 1 x) rfl hd kk
theorem gM_sum (hk : QK k cc R_M nL R l D (qty cI cZ)) (hd : decode cc pc = .ok (.getfield 53, 3)) (kk : QV k (mw a cI cZ) S lv (pc + 3) (.int (S 9 2) :: rest)) : QV k (mw a cI cZ) S lv pc (.ref (a 0) :: rest) :=
  qv_get hk i_M 0 rfl rfl 11 (by decide) k_fl_M_53 rfl rfl hd kk
theorem pM_sum (hk : QK k cc R_M nL R l D (qty cI cZ)) {x : Int32} (hd : decode cc pc = .ok (.putfield 53, 3)) (kk : QV k (mw a cI cZ) (up2 S 9 2 x) lv (pc + 3) rest) : QV k (mw a cI cZ) S lv pc (.int x :: .ref (a 0) :: rest) :=
  qv_put hk i_M t_M t_M_ok n_M 0 rfl rfl 11 (by decide) k_fl_M_53 rfl rfl (ty := .int) (by decide +kernel) rfl rfl (Nat.le_of_ble_eq_true rfl) (S2 := up2 S 9 2 x) rfl hd kk
theorem gM_least (hk : QK k cc R_M nL R l D (qty cI cZ)) (hd : decode cc pc = .ok (.getfield 56, 3)) (kk : QV k (mw a cI cZ) S lv (pc + 3) (.int (S 9 3) :: rest)) : QV k (mw a cI cZ) S lv pc (.ref (a 0) :: rest) :=
  qv_get hk i_M 0 rfl rfl 12 (by decide) k_fl_M_56 rfl rfl hd kk
theorem pM_least (hk : QK k cc R_M nL R l D (qty cI cZ)) {x : Int32} (hd : decode cc pc = .ok (.putfield 56, 3)) (kk : QV k (mw a cI cZ) (up2 S 9 3 x) lv (pc + 3) rest) : QV k (mw a cI cZ) S lv pc (.int x :: .ref (a 0) :: rest) :=
  qv_put hk i_M t_M t_M_ok n_M 0 rfl rfl 12 (by decide) k_fl_M_56 rfl rfl (ty := .int) (by decide +kernel) rfl rfl (Nat.le_of_ble_eq_true rfl) (S2 := up2 S 9 3 x) rfl hd kk
theorem gM_greatest (hk : QK k cc R_M nL R l D (qty cI cZ)) (hd : decode cc pc = .ok (.getfield 59, 3)) (kk : QV k (mw a cI cZ) S lv (pc + 3) (.int (S 9 4) :: rest)) : QV k (mw a cI cZ) S lv pc (.ref (a 0) :: rest) :=
  qv_get hk i_M 0 rfl rfl 13 (by decide) k_fl_M_59 rfl rfl hd kk
theorem pM_greatest (hk : QK k cc R_M nL R l D (qty cI cZ)) {x : Int32} (hd : decode cc pc = .ok (.putfield 59, 3)) (kk : QV k (mw a cI cZ) (up2 S 9 4 x) lv (pc + 3) rest) : QV k (mw a cI cZ) S lv pc (.int x :: .ref (a 0) :: rest) :=
  qv_put hk i_M t_M t_M_ok n_M 0 rfl rfl 13 (by decide) k_fl_M_59 rfl rfl (ty := .int) (by decide +kernel) rfl rfl (Nat.le_of_ble_eq_true rfl) (S2 := up2 S 9 4 x) rfl hd kk
theorem aM_count (hk : QK k cc R_M nL R l D (qty cI cZ)) {j : Nat} (hj : j < 2) (hd : decode cc pc = .ok (.iaload, 1)) (kk : QV k (mw a cI cZ) S lv (pc + 1) (.int (S 0 j) :: rest)) : QV k (mw a cI cZ) S lv pc (.int (nI j) :: .ref (a 1) :: rest) :=
  qv_iald hk 1 0 rfl rfl hj (by decide) hd kk
theorem sM_count (hk : QK k cc R_M nL R l D (qty cI cZ)) {j : Nat} {x : Int32} (hj : j < 2) (hd : decode cc pc = .ok (.iastore, 1)) (kk : QV k (mw a cI cZ) (up2 S 0 j x) lv (pc + 1) rest) : QV k (mw a cI cZ) S lv pc (.int x :: .int (nI j) :: .ref (a 1) :: rest) :=
  qv_iast hk 1 0 rfl rfl hj (by decide) (S2 := up2 S 0 j x) rfl hd kk
theorem aM_key (hk : QK k cc R_M nL R l D (qty cI cZ)) {j : Nat} (hj : j < 80) (hd : decode cc pc = .ok (.iaload, 1)) (kk : QV k (mw a cI cZ) S lv (pc + 1) (.int (S 1 j) :: rest)) : QV k (mw a cI cZ) S lv pc (.int (nI j) :: .ref (a 2) :: rest) :=
  qv_iald hk 2 0 rfl rfl hj (by decide) hd kk
theorem sM_key (hk : QK k cc R_M nL R l D (qty cI cZ)) {j : Nat} {x : Int32} (hj : j < 80) (hd : decode cc pc = .ok (.iastore, 1)) (kk : QV k (mw a cI cZ) (up2 S 1 j x) lv (pc + 1) rest) : QV k (mw a cI cZ) S lv pc (.int x :: .int (nI j) :: .ref (a 2) :: rest) :=
  qv_iast hk 2 0 rfl rfl hj (by decide) (S2 := up2 S 1 j x) rfl hd kk
theorem aM_value (hk : QK k cc R_M nL R l D (qty cI cZ)) {j : Nat} (hj : j < 80) (hd : decode cc pc = .ok (.iaload, 1)) (kk : QV k (mw a cI cZ) S lv (pc + 1) (.int (S 2 j) :: rest)) : QV k (mw a cI cZ) S lv pc (.int (nI j) :: .ref (a 3) :: rest) :=
  qv_iald hk 3 0 rfl rfl hj (by decide) hd kk
theorem sM_value (hk : QK k cc R_M nL R l D (qty cI cZ)) {j : Nat} {x : Int32} (hj : j < 80) (hd : decode cc pc = .ok (.iastore, 1)) (kk : QV k (mw a cI cZ) (up2 S 2 j x) lv (pc + 1) rest) : QV k (mw a cI cZ) S lv pc (.int x :: .int (nI j) :: .ref (a 3) :: rest) :=
  qv_iast hk 3 0 rfl rfl hj (by decide) (S2 := up2 S 2 j x) rfl hd kk
theorem aM_shut (hk : QK k cc R_M nL R l D (qty cI cZ)) {j : Nat} (hj : j < 32) (hd : decode cc pc = .ok (.baload, 1)) (kk : QV k (mw a cI cZ) S lv (pc + 1) (.int (S 3 j) :: rest)) : QV k (mw a cI cZ) S lv pc (.int (nI j) :: .ref (a 4) :: rest) :=
  qv_zald hk 4 1 rfl rfl hj (by decide) hd kk
theorem sM_shut (hk : QK k cc R_M nL R l D (qty cI cZ)) {j : Nat} {x : Int32} (hv : vp_nar .boolean x = x) (hj : j < 32) (hd : decode cc pc = .ok (.bastore, 1)) (kk : QV k (mw a cI cZ) (up2 S 3 j x) lv (pc + 1) rest) : QV k (mw a cI cZ) S lv pc (.int x :: .int (nI j) :: .ref (a 4) :: rest) :=
  qv_zast hk 4 1 rfl rfl hv hj (by decide) (S2 := up2 S 3 j x) rfl hd kk
theorem aM_resultKey (hk : QK k cc R_M nL R l D (qty cI cZ)) {j : Nat} (hj : j < 16) (hd : decode cc pc = .ok (.iaload, 1)) (kk : QV k (mw a cI cZ) S lv (pc + 1) (.int (S 4 j) :: rest)) : QV k (mw a cI cZ) S lv pc (.int (nI j) :: .ref (a 5) :: rest) :=
  qv_iald hk 5 0 rfl rfl hj (by decide) hd kk
theorem sM_resultKey (hk : QK k cc R_M nL R l D (qty cI cZ)) {j : Nat} {x : Int32} (hj : j < 16) (hd : decode cc pc = .ok (.iastore, 1)) (kk : QV k (mw a cI cZ) (up2 S 4 j x) lv (pc + 1) rest) : QV k (mw a cI cZ) S lv pc (.int x :: .int (nI j) :: .ref (a 5) :: rest) :=
  qv_iast hk 5 0 rfl rfl hj (by decide) (S2 := up2 S 4 j x) rfl hd kk
theorem aM_resultPairs (hk : QK k cc R_M nL R l D (qty cI cZ)) {j : Nat} (hj : j < 16) (hd : decode cc pc = .ok (.iaload, 1)) (kk : QV k (mw a cI cZ) S lv (pc + 1) (.int (S 5 j) :: rest)) : QV k (mw a cI cZ) S lv pc (.int (nI j) :: .ref (a 6) :: rest) :=
  qv_iald hk 6 0 rfl rfl hj (by decide) hd kk
theorem sM_resultPairs (hk : QK k cc R_M nL R l D (qty cI cZ)) {j : Nat} {x : Int32} (hj : j < 16) (hd : decode cc pc = .ok (.iastore, 1)) (kk : QV k (mw a cI cZ) (up2 S 5 j x) lv (pc + 1) rest) : QV k (mw a cI cZ) S lv pc (.int x :: .int (nI j) :: .ref (a 6) :: rest) :=
  qv_iast hk 6 0 rfl rfl hj (by decide) (S2 := up2 S 5 j x) rfl hd kk
theorem aM_resultSum (hk : QK k cc R_M nL R l D (qty cI cZ)) {j : Nat} (hj : j < 16) (hd : decode cc pc = .ok (.iaload, 1)) (kk : QV k (mw a cI cZ) S lv (pc + 1) (.int (S 6 j) :: rest)) : QV k (mw a cI cZ) S lv pc (.int (nI j) :: .ref (a 7) :: rest) :=
  qv_iald hk 7 0 rfl rfl hj (by decide) hd kk
theorem sM_resultSum (hk : QK k cc R_M nL R l D (qty cI cZ)) {j : Nat} {x : Int32} (hj : j < 16) (hd : decode cc pc = .ok (.iastore, 1)) (kk : QV k (mw a cI cZ) (up2 S 6 j x) lv (pc + 1) rest) : QV k (mw a cI cZ) S lv pc (.int x :: .int (nI j) :: .ref (a 7) :: rest) :=
  qv_iast hk 7 0 rfl rfl hj (by decide) (S2 := up2 S 6 j x) rfl hd kk
theorem aM_resultLeast (hk : QK k cc R_M nL R l D (qty cI cZ)) {j : Nat} (hj : j < 16) (hd : decode cc pc = .ok (.iaload, 1)) (kk : QV k (mw a cI cZ) S lv (pc + 1) (.int (S 7 j) :: rest)) : QV k (mw a cI cZ) S lv pc (.int (nI j) :: .ref (a 8) :: rest) :=
  qv_iald hk 8 0 rfl rfl hj (by decide) hd kk
theorem sM_resultLeast (hk : QK k cc R_M nL R l D (qty cI cZ)) {j : Nat} {x : Int32} (hj : j < 16) (hd : decode cc pc = .ok (.iastore, 1)) (kk : QV k (mw a cI cZ) (up2 S 7 j x) lv (pc + 1) rest) : QV k (mw a cI cZ) S lv pc (.int x :: .int (nI j) :: .ref (a 8) :: rest) :=
  qv_iast hk 8 0 rfl rfl hj (by decide) (S2 := up2 S 7 j x) rfl hd kk
theorem aM_resultGreatest (hk : QK k cc R_M nL R l D (qty cI cZ)) {j : Nat} (hj : j < 16) (hd : decode cc pc = .ok (.iaload, 1)) (kk : QV k (mw a cI cZ) S lv (pc + 1) (.int (S 8 j) :: rest)) : QV k (mw a cI cZ) S lv pc (.int (nI j) :: .ref (a 9) :: rest) :=
  qv_iald hk 9 0 rfl rfl hj (by decide) hd kk
theorem sM_resultGreatest (hk : QK k cc R_M nL R l D (qty cI cZ)) {j : Nat} {x : Int32} (hj : j < 16) (hd : decode cc pc = .ok (.iastore, 1)) (kk : QV k (mw a cI cZ) (up2 S 8 j x) lv (pc + 1) rest) : QV k (mw a cI cZ) S lv pc (.int x :: .int (nI j) :: .ref (a 9) :: rest) :=
  qv_iast hk 9 0 rfl rfl hj (by decide) (S2 := up2 S 8 j x) rfl hd kk
end QFields
section QCall2
variable {k : QC} {a : Nat → Nat} {cI cZ : ClassId} {S : QS} {lv : List (Nat × Value)} {pc n index maxL : Nat} {rest As st : List Value} {cc bytes : ByteArray} {nL : Nat} {R rm : Room} {l : Launch} {D : va_G} {y : MethodName} {ws : List Cond} {ret : Option FieldType} {tys : List (ClassId × FieldType)}
theorem callXI {post : Int32 → QS → Prop} (hk : QK k cc R_X nL R l D tys) (hM : MetI l y ws rm D tys (xw a cI cZ) S (.ref (a 0) :: As) post) (hG : GoodIn lw_ok (wsV R_X index R_X y ws) ∧ (ws = Cond.code y bytes maxL ret :: lw_ok) ∧ rm.cells = 0 ∧ rm.slots = 0 ∧ (y.cls = R_X ∧ y.cls ≠ "java/lang/invoke/MethodHandle" ∧ y.cls ≠ "java/lang/invoke/VarHandle" ∧ (parseMethodDescriptor y.desc).map (fun d => d.parameters.length) = some n)) (hR : rm.frames + 1 ≤ R.frames ∧ 8 + (maxL + 11) + rm.locals ≤ R.locals) (hn : As.length = n) (hs : st = As.reverse ++ .ref (a 0) :: rest) (hst : (rest.map fun v => v.category).sum ≤ 8) (hdg : decode cc pc = .ok (.invokevirtual index, 3)) (kk : ∀ (r : Int32) (S2 : QS), post r S2 → QV k (xw a cI cZ) S2 lv (pc + 3) (.int r :: rest)) : QV k (xw a cI cZ) S lv pc st := by
  rw [hs]
  exact qv_callI hk hM hG.1 hG.2.1 hG.2.2.1 hG.2.2.2.1 hG.2.2.2.2 hR hn (w := xw a cI cZ) rfl rfl rfl (List.range 12) [] (wr := []) rfl rfl (by decide) (by decide) (fun _ h => by cases h) id (List.range 12) (fun _ => rfl) (by decide) hst hdg kk
theorem callXN {post : QS → Prop} (hk : QK k cc R_X nL R l D tys) (hM : MetN l y ws rm D tys (xw a cI cZ) S (.ref (a 0) :: As) post) (hG : GoodIn lw_ok (wsV R_X index R_X y ws) ∧ (ws = Cond.code y bytes maxL ret :: lw_ok) ∧ rm.cells = 0 ∧ rm.slots = 0 ∧ (y.cls = R_X ∧ y.cls ≠ "java/lang/invoke/MethodHandle" ∧ y.cls ≠ "java/lang/invoke/VarHandle" ∧ (parseMethodDescriptor y.desc).map (fun d => d.parameters.length) = some n)) (hR : rm.frames + 1 ≤ R.frames ∧ 8 + (maxL + 11) + rm.locals ≤ R.locals) (hn : As.length = n) (hs : st = As.reverse ++ .ref (a 0) :: rest) (hst : (rest.map fun v => v.category).sum ≤ 8) (hdg : decode cc pc = .ok (.invokevirtual index, 3)) (kk : ∀ (S2 : QS), post S2 → QV k (xw a cI cZ) S2 lv (pc + 3) rest) : QV k (xw a cI cZ) S lv pc st := by
  rw [hs]
  exact qv_callN hk hM hG.1 hG.2.1 hG.2.2.1 hG.2.2.2.1 hG.2.2.2.2 hR hn (w := xw a cI cZ) rfl rfl rfl (List.range 12) [] (wr := []) rfl rfl (by decide) (by decide) (fun _ h => by cases h) id (List.range 12) (fun _ => rfl) (by decide) hst hdg kk
theorem callMI {post : Int32 → QS → Prop} (hk : QK k cc R_M nL R l D tys) (hM : MetI l y ws rm D tys (mw a cI cZ) S (.ref (a 0) :: As) post) (hG : GoodIn lw_ok (wsV R_M index R_M y ws) ∧ (ws = Cond.code y bytes maxL ret :: lw_ok) ∧ rm.cells = 0 ∧ rm.slots = 0 ∧ (y.cls = R_M ∧ y.cls ≠ "java/lang/invoke/MethodHandle" ∧ y.cls ≠ "java/lang/invoke/VarHandle" ∧ (parseMethodDescriptor y.desc).map (fun d => d.parameters.length) = some n)) (hR : rm.frames + 1 ≤ R.frames ∧ 8 + (maxL + 11) + rm.locals ≤ R.locals) (hn : As.length = n) (hs : st = As.reverse ++ .ref (a 0) :: rest) (hst : (rest.map fun v => v.category).sum ≤ 8) (hdg : decode cc pc = .ok (.invokevirtual index, 3)) (kk : ∀ (r : Int32) (S2 : QS), post r S2 → QV k (mw a cI cZ) S2 lv (pc + 3) (.int r :: rest)) : QV k (mw a cI cZ) S lv pc st := by
  rw [hs]
  exact qv_callI hk hM hG.1 hG.2.1 hG.2.2.1 hG.2.2.2.1 hG.2.2.2.2 hR hn (w := mw a cI cZ) rfl rfl rfl (List.range 10) [] (wr := []) rfl rfl (by decide) (by decide) (fun _ h => by cases h) id (List.range 10) (fun _ => rfl) (by decide) hst hdg kk
theorem callMN {post : QS → Prop} (hk : QK k cc R_M nL R l D tys) (hM : MetN l y ws rm D tys (mw a cI cZ) S (.ref (a 0) :: As) post) (hG : GoodIn lw_ok (wsV R_M index R_M y ws) ∧ (ws = Cond.code y bytes maxL ret :: lw_ok) ∧ rm.cells = 0 ∧ rm.slots = 0 ∧ (y.cls = R_M ∧ y.cls ≠ "java/lang/invoke/MethodHandle" ∧ y.cls ≠ "java/lang/invoke/VarHandle" ∧ (parseMethodDescriptor y.desc).map (fun d => d.parameters.length) = some n)) (hR : rm.frames + 1 ≤ R.frames ∧ 8 + (maxL + 11) + rm.locals ≤ R.locals) (hn : As.length = n) (hs : st = As.reverse ++ .ref (a 0) :: rest) (hst : (rest.map fun v => v.category).sum ≤ 8) (hdg : decode cc pc = .ok (.invokevirtual index, 3)) (kk : ∀ (S2 : QS), post S2 → QV k (mw a cI cZ) S2 lv (pc + 3) rest) : QV k (mw a cI cZ) S lv pc st := by
  rw [hs]
  exact qv_callN hk hM hG.1 hG.2.1 hG.2.2.1 hG.2.2.2.1 hG.2.2.2.2 hR hn (w := mw a cI cZ) rfl rfl rfl (List.range 10) [] (wr := []) rfl rfl (by decide) (by decide) (fun _ h => by cases h) id (List.range 10) (fun _ => rfl) (by decide) hst hdg kk
theorem callSX {σ : Type} {w : σ → va_W} {S : σ} {post : Int32 → Unit → Prop} (hk : QK k cc R_X nL R l D tys) (hM : MetI l y ws rm D tys (fun _ : Unit => []) () As post) (hG : GoodIn lw_ok (wsS R_X index y ws) ∧ (ws = Cond.code y bytes maxL ret :: lw_ok) ∧ rm.cells = 0 ∧ rm.slots = 0 ∧ (y.cls = R_X ∧ y.cls ≠ "java/lang/invoke/MethodHandle" ∧ y.cls ≠ "java/lang/invoke/VarHandle" ∧ (parseMethodDescriptor y.desc).map (fun d => d.parameters.length) = some n)) (hR : rm.frames + 1 ≤ R.frames ∧ 8 + (maxL + 11) + rm.locals ≤ R.locals) (hn : As.length = n) (hs : st = As.reverse ++ rest) (hst : (rest.map fun v => v.category).sum ≤ 8) (hdg : decode cc pc = .ok (.invokestatic index, 3)) (kk : ∀ (r : Int32), post r () → QV k w S lv (pc + 3) (.int r :: rest)) : QV k w S lv pc st := by
  rw [hs]
  exact qv_callS hk hM hG.1 hG.2.1 hG.2.2.1 hG.2.2.2.1 hG.2.2.2.2 hR hn hst hdg kk
end QCall2
abbrev rX_init : Room := { frames := 1, cells := 11, slots := 340, locals := 12 }
abbrev rX_feed : Room := { frames := 1, cells := 0, slots := 0, locals := 27 }
abbrev rX_retract : Room := { frames := 1, cells := 0, slots := 0, locals := 27 }
abbrev rX_close : Room := { frames := 3, cells := 0, slots := 0, locals := 72 }
abbrev rX_held : Room := { frames := 1, cells := 0, slots := 0, locals := 20 }
abbrev rX_heldWith : Room := { frames := 1, cells := 0, slots := 0, locals := 22 }
abbrev rX_closed : Room := { frames := 1, cells := 0, slots := 0, locals := 20 }
abbrev rX_results : Room := { frames := 0, cells := 0, slots := 0, locals := 0 }
abbrev rX_resultKey : Room := { frames := 1, cells := 0, slots := 0, locals := 21 }
abbrev rX_resultPairs : Room := { frames := 1, cells := 0, slots := 0, locals := 21 }
abbrev rX_resultSum : Room := { frames := 1, cells := 0, slots := 0, locals := 21 }
abbrev rX_resultLeast : Room := { frames := 1, cells := 0, slots := 0, locals := 21 }
abbrev rX_resultGreatest : Room := { frames := 1, cells := 0, slots := 0, locals := 21 }
abbrev rX_pairs : Room := { frames := 2, cells := 0, slots := 0, locals := 43 }
abbrev rX_sum : Room := { frames := 1, cells := 0, slots := 0, locals := 20 }
abbrev rX_least : Room := { frames := 2, cells := 0, slots := 0, locals := 46 }
abbrev rX_greatest : Room := { frames := 2, cells := 0, slots := 0, locals := 46 }
abbrev rX_pairsFrom : Room := { frames := 2, cells := 0, slots := 0, locals := 56 }
abbrev rX_bandsFinished : Room := { frames := 1, cells := 0, slots := 0, locals := 22 }
abbrev rX_bandSum : Room := { frames := 1, cells := 0, slots := 0, locals := 22 }
abbrev rX_isStream : Room := { frames := 0, cells := 0, slots := 0, locals := 0 }
abbrev rX_isKey : Room := { frames := 0, cells := 0, slots := 0, locals := 0 }
abbrev rX_isResult : Room := { frames := 0, cells := 0, slots := 0, locals := 0 }
abbrev rX_countOf : Room := { frames := 0, cells := 0, slots := 0, locals := 0 }
abbrev rX_pairsOf : Room := { frames := 1, cells := 0, slots := 0, locals := 22 }
abbrev rX_shiftBegins : Room := { frames := 0, cells := 0, slots := 0, locals := 0 }
abbrev rX_place : Room := { frames := 0, cells := 0, slots := 0, locals := 0 }
abbrev rX_extremes : Room := { frames := 1, cells := 0, slots := 0, locals := 21 }
abbrev rX_spread : Room := { frames := 0, cells := 0, slots := 0, locals := 0 }
abbrev rX_partnersFrom : Room := { frames := 1, cells := 0, slots := 0, locals := 27 }
abbrev rX_isBandFinished : Room := { frames := 0, cells := 0, slots := 0, locals := 0 }
abbrev rX_finish : Room := { frames := 2, cells := 0, slots := 0, locals := 50 }
abbrev rX_drop : Room := { frames := 1, cells := 0, slots := 0, locals := 24 }
abbrev rM_init : Room := { frames := 1, cells := 9, slots := 274, locals := 12 }
abbrev rM_badStream : Room := { frames := 0, cells := 0, slots := 0, locals := 0 }
abbrev rM_badKey : Room := { frames := 0, cells := 0, slots := 0, locals := 0 }
abbrev rM_feed : Room := { frames := 1, cells := 0, slots := 0, locals := 21 }
abbrev rM_takeOut : Room := { frames := 0, cells := 0, slots := 0, locals := 0 }
abbrev rM_retract : Room := { frames := 1, cells := 0, slots := 0, locals := 23 }
abbrev rM_look : Room := { frames := 0, cells := 0, slots := 0, locals := 0 }
abbrev rM_dropAll : Room := { frames := 1, cells := 0, slots := 0, locals := 23 }
abbrev rM_finish : Room := { frames := 2, cells := 0, slots := 0, locals := 46 }
abbrev rM_finished : Room := { frames := 0, cells := 0, slots := 0, locals := 0 }
abbrev rM_close : Room := { frames := 3, cells := 0, slots := 0, locals := 67 }
abbrev rM_held : Room := { frames := 1, cells := 0, slots := 0, locals := 21 }
abbrev rM_heldWith : Room := { frames := 1, cells := 0, slots := 0, locals := 21 }
abbrev rM_closed : Room := { frames := 1, cells := 0, slots := 0, locals := 21 }
abbrev rM_noResult : Room := { frames := 0, cells := 0, slots := 0, locals := 0 }
abbrev rM_results : Room := { frames := 0, cells := 0, slots := 0, locals := 0 }
abbrev rM_resultKey : Room := { frames := 1, cells := 0, slots := 0, locals := 21 }
abbrev rM_resultPairs : Room := { frames := 1, cells := 0, slots := 0, locals := 21 }
abbrev rM_resultSum : Room := { frames := 1, cells := 0, slots := 0, locals := 21 }
abbrev rM_resultLeast : Room := { frames := 1, cells := 0, slots := 0, locals := 21 }
abbrev rM_resultGreatest : Room := { frames := 1, cells := 0, slots := 0, locals := 21 }
abbrev rM_pairs : Room := { frames := 1, cells := 0, slots := 0, locals := 24 }
abbrev rM_sum : Room := { frames := 1, cells := 0, slots := 0, locals := 24 }
abbrev rM_least : Room := { frames := 1, cells := 0, slots := 0, locals := 24 }
abbrev rM_greatest : Room := { frames := 1, cells := 0, slots := 0, locals := 24 }
abbrev rM_pairsFrom : Room := { frames := 0, cells := 0, slots := 0, locals := 0 }
abbrev rM_bandDone : Room := { frames := 1, cells := 0, slots := 0, locals := 21 }
abbrev rM_bandsFinished : Room := { frames := 2, cells := 0, slots := 0, locals := 43 }
abbrev rM_bandSum : Room := { frames := 2, cells := 0, slots := 0, locals := 43 }
theorem gLX_feed : GoodIn lw_ok (wsV R_law 13 R_X yX_feed wX_feed) ∧ (wX_feed = Cond.code yX_feed bX_feed 7 (some .int) :: lw_ok) ∧ rX_feed.cells = 0 ∧ rX_feed.slots = 0 ∧ (yX_feed.cls = R_X ∧ yX_feed.cls ≠ "java/lang/invoke/MethodHandle" ∧ yX_feed.cls ≠ "java/lang/invoke/VarHandle" ∧ (parseMethodDescriptor yX_feed.desc).map (fun d => d.parameters.length) = some 3) :=
  ⟨q_gV k_ml_L_13 k_im_yX_feed k_se_yX_feed k_in_X k_co_yX_feed, rfl, rfl, rfl, by decide +kernel⟩
theorem gX_isStream : GoodIn lw_ok (wsS R_X 48 yX_isStream wX_isStream) ∧ (wX_isStream = Cond.code yX_isStream bX_isStream 1 (some .boolean) :: lw_ok) ∧ rX_isStream.cells = 0 ∧ rX_isStream.slots = 0 ∧ (yX_isStream.cls = R_X ∧ yX_isStream.cls ≠ "java/lang/invoke/MethodHandle" ∧ yX_isStream.cls ≠ "java/lang/invoke/VarHandle" ∧ (parseMethodDescriptor yX_isStream.desc).map (fun d => d.parameters.length) = some 1) :=
  ⟨q_gS k_ml_X_48 k_st_yX_isStream k_in_X k_co_yX_isStream, rfl, rfl, rfl, by decide +kernel⟩
theorem gX_isKey : GoodIn lw_ok (wsS R_X 52 yX_isKey wX_isKey) ∧ (wX_isKey = Cond.code yX_isKey bX_isKey 1 (some .boolean) :: lw_ok) ∧ rX_isKey.cells = 0 ∧ rX_isKey.slots = 0 ∧ (yX_isKey.cls = R_X ∧ yX_isKey.cls ≠ "java/lang/invoke/MethodHandle" ∧ yX_isKey.cls ≠ "java/lang/invoke/VarHandle" ∧ (parseMethodDescriptor yX_isKey.desc).map (fun d => d.parameters.length) = some 1) :=
  ⟨q_gS k_ml_X_52 k_st_yX_isKey k_in_X k_co_yX_isKey, rfl, rfl, rfl, by decide +kernel⟩
theorem gX_place : GoodIn lw_ok (wsV R_X 55 R_X yX_place wX_place) ∧ (wX_place = Cond.code yX_place bX_place 8 (some .int) :: lw_ok) ∧ rX_place.cells = 0 ∧ rX_place.slots = 0 ∧ (yX_place.cls = R_X ∧ yX_place.cls ≠ "java/lang/invoke/MethodHandle" ∧ yX_place.cls ≠ "java/lang/invoke/VarHandle" ∧ (parseMethodDescriptor yX_place.desc).map (fun d => d.parameters.length) = some 3) :=
  ⟨q_gV k_ml_X_55 k_im_yX_place k_se_yX_place k_in_X k_co_yX_place, rfl, rfl, rfl, by decide +kernel⟩
theorem gX_shiftBegins : GoodIn lw_ok (wsV R_X 59 R_X yX_shiftBegins wX_shiftBegins) ∧ (wX_shiftBegins = Cond.code yX_shiftBegins bX_shiftBegins 5 none :: lw_ok) ∧ rX_shiftBegins.cells = 0 ∧ rX_shiftBegins.slots = 0 ∧ (yX_shiftBegins.cls = R_X ∧ yX_shiftBegins.cls ≠ "java/lang/invoke/MethodHandle" ∧ yX_shiftBegins.cls ≠ "java/lang/invoke/VarHandle" ∧ (parseMethodDescriptor yX_shiftBegins.desc).map (fun d => d.parameters.length) = some 3) :=
  ⟨q_gV k_ml_X_59 k_im_yX_shiftBegins k_se_yX_shiftBegins k_in_X k_co_yX_shiftBegins, rfl, rfl, rfl, by decide +kernel⟩
theorem gLX_retract : GoodIn lw_ok (wsV R_law 18 R_X yX_retract wX_retract) ∧ (wX_retract = Cond.code yX_retract bX_retract 7 (some .int) :: lw_ok) ∧ rX_retract.cells = 0 ∧ rX_retract.slots = 0 ∧ (yX_retract.cls = R_X ∧ yX_retract.cls ≠ "java/lang/invoke/MethodHandle" ∧ yX_retract.cls ≠ "java/lang/invoke/VarHandle" ∧ (parseMethodDescriptor yX_retract.desc).map (fun d => d.parameters.length) = some 3) :=
  ⟨q_gV k_ml_L_18 k_im_yX_retract k_se_yX_retract k_in_X k_co_yX_retract, rfl, rfl, rfl, by decide +kernel⟩
theorem gLX_close : GoodIn lw_ok (wsV R_law 22 R_X yX_close wX_close) ∧ (wX_close = Cond.code yX_close bX_close 6 (some .int) :: lw_ok) ∧ rX_close.cells = 0 ∧ rX_close.slots = 0 ∧ (yX_close.cls = R_X ∧ yX_close.cls ≠ "java/lang/invoke/MethodHandle" ∧ yX_close.cls ≠ "java/lang/invoke/VarHandle" ∧ (parseMethodDescriptor yX_close.desc).map (fun d => d.parameters.length) = some 3) :=
  ⟨q_gV k_ml_L_22 k_im_yX_close k_se_yX_close k_in_X k_co_yX_close, rfl, rfl, rfl, by decide +kernel⟩
theorem gX_finish : GoodIn lw_ok (wsV R_X 63 R_X yX_finish wX_finish) ∧ (wX_finish = Cond.code yX_finish bX_finish 3 none :: lw_ok) ∧ rX_finish.cells = 0 ∧ rX_finish.slots = 0 ∧ (yX_finish.cls = R_X ∧ yX_finish.cls ≠ "java/lang/invoke/MethodHandle" ∧ yX_finish.cls ≠ "java/lang/invoke/VarHandle" ∧ (parseMethodDescriptor yX_finish.desc).map (fun d => d.parameters.length) = some 1) :=
  ⟨q_gV k_ml_X_63 k_im_yX_finish k_se_yX_finish k_in_X k_co_yX_finish, rfl, rfl, rfl, by decide +kernel⟩
theorem gX_pairsOf : GoodIn lw_ok (wsV R_X 74 R_X yX_pairsOf wX_pairsOf) ∧ (wX_pairsOf = Cond.code yX_pairsOf bX_pairsOf 2 (some .int) :: lw_ok) ∧ rX_pairsOf.cells = 0 ∧ rX_pairsOf.slots = 0 ∧ (yX_pairsOf.cls = R_X ∧ yX_pairsOf.cls ≠ "java/lang/invoke/MethodHandle" ∧ yX_pairsOf.cls ≠ "java/lang/invoke/VarHandle" ∧ (parseMethodDescriptor yX_pairsOf.desc).map (fun d => d.parameters.length) = some 1) :=
  ⟨q_gV k_ml_X_74 k_im_yX_pairsOf k_se_yX_pairsOf k_in_X k_co_yX_pairsOf, rfl, rfl, rfl, by decide +kernel⟩
theorem gX_countOf : GoodIn lw_ok (wsV R_X 67 R_X yX_countOf wX_countOf) ∧ (wX_countOf = Cond.code yX_countOf bX_countOf 3 (some .int) :: lw_ok) ∧ rX_countOf.cells = 0 ∧ rX_countOf.slots = 0 ∧ (yX_countOf.cls = R_X ∧ yX_countOf.cls ≠ "java/lang/invoke/MethodHandle" ∧ yX_countOf.cls ≠ "java/lang/invoke/VarHandle" ∧ (parseMethodDescriptor yX_countOf.desc).map (fun d => d.parameters.length) = some 2) :=
  ⟨q_gV k_ml_X_67 k_im_yX_countOf k_se_yX_countOf k_in_X k_co_yX_countOf, rfl, rfl, rfl, by decide +kernel⟩
theorem gX_extremes : GoodIn lw_ok (wsV R_X 78 R_X yX_extremes wX_extremes) ∧ (wX_extremes = Cond.code yX_extremes bX_extremes 6 none :: lw_ok) ∧ rX_extremes.cells = 0 ∧ rX_extremes.slots = 0 ∧ (yX_extremes.cls = R_X ∧ yX_extremes.cls ≠ "java/lang/invoke/MethodHandle" ∧ yX_extremes.cls ≠ "java/lang/invoke/VarHandle" ∧ (parseMethodDescriptor yX_extremes.desc).map (fun d => d.parameters.length) = some 1) :=
  ⟨q_gV k_ml_X_78 k_im_yX_extremes k_se_yX_extremes k_in_X k_co_yX_extremes, rfl, rfl, rfl, by decide +kernel⟩
theorem gX_spread : GoodIn lw_ok (wsV R_X 95 R_X yX_spread wX_spread) ∧ (wX_spread = Cond.code yX_spread bX_spread 2 none :: lw_ok) ∧ rX_spread.cells = 0 ∧ rX_spread.slots = 0 ∧ (yX_spread.cls = R_X ∧ yX_spread.cls ≠ "java/lang/invoke/MethodHandle" ∧ yX_spread.cls ≠ "java/lang/invoke/VarHandle" ∧ (parseMethodDescriptor yX_spread.desc).map (fun d => d.parameters.length) = some 1) :=
  ⟨q_gV k_ml_X_95 k_im_yX_spread k_se_yX_spread k_in_X k_co_yX_spread, rfl, rfl, rfl, by decide +kernel⟩
theorem gX_drop : GoodIn lw_ok (wsV R_X 98 R_X yX_drop wX_drop) ∧ (wX_drop = Cond.code yX_drop bX_drop 7 none :: lw_ok) ∧ rX_drop.cells = 0 ∧ rX_drop.slots = 0 ∧ (yX_drop.cls = R_X ∧ yX_drop.cls ≠ "java/lang/invoke/MethodHandle" ∧ yX_drop.cls ≠ "java/lang/invoke/VarHandle" ∧ (parseMethodDescriptor yX_drop.desc).map (fun d => d.parameters.length) = some 2) :=
  ⟨q_gV k_ml_X_98 k_im_yX_drop k_se_yX_drop k_in_X k_co_yX_drop, rfl, rfl, rfl, by decide +kernel⟩
theorem gLX_held : GoodIn lw_ok (wsV R_law 26 R_X yX_held wX_held) ∧ (wX_held = Cond.code yX_held bX_held 2 (some .int) :: lw_ok) ∧ rX_held.cells = 0 ∧ rX_held.slots = 0 ∧ (yX_held.cls = R_X ∧ yX_held.cls ≠ "java/lang/invoke/MethodHandle" ∧ yX_held.cls ≠ "java/lang/invoke/VarHandle" ∧ (parseMethodDescriptor yX_held.desc).map (fun d => d.parameters.length) = some 1) :=
  ⟨q_gV k_ml_L_26 k_im_yX_held k_se_yX_held k_in_X k_co_yX_held, rfl, rfl, rfl, by decide +kernel⟩
theorem gLX_heldWith : GoodIn lw_ok (wsV R_law 31 R_X yX_heldWith wX_heldWith) ∧ (wX_heldWith = Cond.code yX_heldWith bX_heldWith 3 (some .int) :: lw_ok) ∧ rX_heldWith.cells = 0 ∧ rX_heldWith.slots = 0 ∧ (yX_heldWith.cls = R_X ∧ yX_heldWith.cls ≠ "java/lang/invoke/MethodHandle" ∧ yX_heldWith.cls ≠ "java/lang/invoke/VarHandle" ∧ (parseMethodDescriptor yX_heldWith.desc).map (fun d => d.parameters.length) = some 2) :=
  ⟨q_gV k_ml_L_31 k_im_yX_heldWith k_se_yX_heldWith k_in_X k_co_yX_heldWith, rfl, rfl, rfl, by decide +kernel⟩
theorem gLX_closed : GoodIn lw_ok (wsV R_law 36 R_X yX_closed wX_closed) ∧ (wX_closed = Cond.code yX_closed bX_closed 3 (some .int) :: lw_ok) ∧ rX_closed.cells = 0 ∧ rX_closed.slots = 0 ∧ (yX_closed.cls = R_X ∧ yX_closed.cls ≠ "java/lang/invoke/MethodHandle" ∧ yX_closed.cls ≠ "java/lang/invoke/VarHandle" ∧ (parseMethodDescriptor yX_closed.desc).map (fun d => d.parameters.length) = some 2) :=
  ⟨q_gV k_ml_L_36 k_im_yX_closed k_se_yX_closed k_in_X k_co_yX_closed, rfl, rfl, rfl, by decide +kernel⟩
theorem gLX_results : GoodIn lw_ok (wsV R_law 40 R_X yX_results wX_results) ∧ (wX_results = Cond.code yX_results bX_results 1 (some .int) :: lw_ok) ∧ rX_results.cells = 0 ∧ rX_results.slots = 0 ∧ (yX_results.cls = R_X ∧ yX_results.cls ≠ "java/lang/invoke/MethodHandle" ∧ yX_results.cls ≠ "java/lang/invoke/VarHandle" ∧ (parseMethodDescriptor yX_results.desc).map (fun d => d.parameters.length) = some 0) :=
  ⟨q_gV k_ml_L_40 k_im_yX_results k_se_yX_results k_in_X k_co_yX_results, rfl, rfl, rfl, by decide +kernel⟩
theorem gLX_resultKey : GoodIn lw_ok (wsV R_law 45 R_X yX_resultKey wX_resultKey) ∧ (wX_resultKey = Cond.code yX_resultKey bX_resultKey 2 (some .int) :: lw_ok) ∧ rX_resultKey.cells = 0 ∧ rX_resultKey.slots = 0 ∧ (yX_resultKey.cls = R_X ∧ yX_resultKey.cls ≠ "java/lang/invoke/MethodHandle" ∧ yX_resultKey.cls ≠ "java/lang/invoke/VarHandle" ∧ (parseMethodDescriptor yX_resultKey.desc).map (fun d => d.parameters.length) = some 1) :=
  ⟨q_gV k_ml_L_45 k_im_yX_resultKey k_se_yX_resultKey k_in_X k_co_yX_resultKey, rfl, rfl, rfl, by decide +kernel⟩
theorem gX_isResult : GoodIn lw_ok (wsV R_X 71 R_X yX_isResult wX_isResult) ∧ (wX_isResult = Cond.code yX_isResult bX_isResult 2 (some .boolean) :: lw_ok) ∧ rX_isResult.cells = 0 ∧ rX_isResult.slots = 0 ∧ (yX_isResult.cls = R_X ∧ yX_isResult.cls ≠ "java/lang/invoke/MethodHandle" ∧ yX_isResult.cls ≠ "java/lang/invoke/VarHandle" ∧ (parseMethodDescriptor yX_isResult.desc).map (fun d => d.parameters.length) = some 1) :=
  ⟨q_gV k_ml_X_71 k_im_yX_isResult k_se_yX_isResult k_in_X k_co_yX_isResult, rfl, rfl, rfl, by decide +kernel⟩
theorem gLX_resultPairs : GoodIn lw_ok (wsV R_law 49 R_X yX_resultPairs wX_resultPairs) ∧ (wX_resultPairs = Cond.code yX_resultPairs bX_resultPairs 2 (some .int) :: lw_ok) ∧ rX_resultPairs.cells = 0 ∧ rX_resultPairs.slots = 0 ∧ (yX_resultPairs.cls = R_X ∧ yX_resultPairs.cls ≠ "java/lang/invoke/MethodHandle" ∧ yX_resultPairs.cls ≠ "java/lang/invoke/VarHandle" ∧ (parseMethodDescriptor yX_resultPairs.desc).map (fun d => d.parameters.length) = some 1) :=
  ⟨q_gV k_ml_L_49 k_im_yX_resultPairs k_se_yX_resultPairs k_in_X k_co_yX_resultPairs, rfl, rfl, rfl, by decide +kernel⟩
theorem gLX_resultSum : GoodIn lw_ok (wsV R_law 53 R_X yX_resultSum wX_resultSum) ∧ (wX_resultSum = Cond.code yX_resultSum bX_resultSum 2 (some .int) :: lw_ok) ∧ rX_resultSum.cells = 0 ∧ rX_resultSum.slots = 0 ∧ (yX_resultSum.cls = R_X ∧ yX_resultSum.cls ≠ "java/lang/invoke/MethodHandle" ∧ yX_resultSum.cls ≠ "java/lang/invoke/VarHandle" ∧ (parseMethodDescriptor yX_resultSum.desc).map (fun d => d.parameters.length) = some 1) :=
  ⟨q_gV k_ml_L_53 k_im_yX_resultSum k_se_yX_resultSum k_in_X k_co_yX_resultSum, rfl, rfl, rfl, by decide +kernel⟩
theorem gLX_resultLeast : GoodIn lw_ok (wsV R_law 57 R_X yX_resultLeast wX_resultLeast) ∧ (wX_resultLeast = Cond.code yX_resultLeast bX_resultLeast 2 (some .int) :: lw_ok) ∧ rX_resultLeast.cells = 0 ∧ rX_resultLeast.slots = 0 ∧ (yX_resultLeast.cls = R_X ∧ yX_resultLeast.cls ≠ "java/lang/invoke/MethodHandle" ∧ yX_resultLeast.cls ≠ "java/lang/invoke/VarHandle" ∧ (parseMethodDescriptor yX_resultLeast.desc).map (fun d => d.parameters.length) = some 1) :=
  ⟨q_gV k_ml_L_57 k_im_yX_resultLeast k_se_yX_resultLeast k_in_X k_co_yX_resultLeast, rfl, rfl, rfl, by decide +kernel⟩
theorem gLX_resultGreatest : GoodIn lw_ok (wsV R_law 61 R_X yX_resultGreatest wX_resultGreatest) ∧ (wX_resultGreatest = Cond.code yX_resultGreatest bX_resultGreatest 2 (some .int) :: lw_ok) ∧ rX_resultGreatest.cells = 0 ∧ rX_resultGreatest.slots = 0 ∧ (yX_resultGreatest.cls = R_X ∧ yX_resultGreatest.cls ≠ "java/lang/invoke/MethodHandle" ∧ yX_resultGreatest.cls ≠ "java/lang/invoke/VarHandle" ∧ (parseMethodDescriptor yX_resultGreatest.desc).map (fun d => d.parameters.length) = some 1) :=
  ⟨q_gV k_ml_L_61 k_im_yX_resultGreatest k_se_yX_resultGreatest k_in_X k_co_yX_resultGreatest, rfl, rfl, rfl, by decide +kernel⟩
theorem gLX_pairs : GoodIn lw_ok (wsV R_law 65 R_X yX_pairs wX_pairs) ∧ (wX_pairs = Cond.code yX_pairs bX_pairs 2 (some .int) :: lw_ok) ∧ rX_pairs.cells = 0 ∧ rX_pairs.slots = 0 ∧ (yX_pairs.cls = R_X ∧ yX_pairs.cls ≠ "java/lang/invoke/MethodHandle" ∧ yX_pairs.cls ≠ "java/lang/invoke/VarHandle" ∧ (parseMethodDescriptor yX_pairs.desc).map (fun d => d.parameters.length) = some 1) :=
  ⟨q_gV k_ml_L_65 k_im_yX_pairs k_se_yX_pairs k_in_X k_co_yX_pairs, rfl, rfl, rfl, by decide +kernel⟩
theorem gLX_sum : GoodIn lw_ok (wsV R_law 69 R_X yX_sum wX_sum) ∧ (wX_sum = Cond.code yX_sum bX_sum 2 (some .int) :: lw_ok) ∧ rX_sum.cells = 0 ∧ rX_sum.slots = 0 ∧ (yX_sum.cls = R_X ∧ yX_sum.cls ≠ "java/lang/invoke/MethodHandle" ∧ yX_sum.cls ≠ "java/lang/invoke/VarHandle" ∧ (parseMethodDescriptor yX_sum.desc).map (fun d => d.parameters.length) = some 1) :=
  ⟨q_gV k_ml_L_69 k_im_yX_sum k_se_yX_sum k_in_X k_co_yX_sum, rfl, rfl, rfl, by decide +kernel⟩
theorem gLX_least : GoodIn lw_ok (wsV R_law 73 R_X yX_least wX_least) ∧ (wX_least = Cond.code yX_least bX_least 2 (some .int) :: lw_ok) ∧ rX_least.cells = 0 ∧ rX_least.slots = 0 ∧ (yX_least.cls = R_X ∧ yX_least.cls ≠ "java/lang/invoke/MethodHandle" ∧ yX_least.cls ≠ "java/lang/invoke/VarHandle" ∧ (parseMethodDescriptor yX_least.desc).map (fun d => d.parameters.length) = some 1) :=
  ⟨q_gV k_ml_L_73 k_im_yX_least k_se_yX_least k_in_X k_co_yX_least, rfl, rfl, rfl, by decide +kernel⟩
theorem gLX_greatest : GoodIn lw_ok (wsV R_law 77 R_X yX_greatest wX_greatest) ∧ (wX_greatest = Cond.code yX_greatest bX_greatest 2 (some .int) :: lw_ok) ∧ rX_greatest.cells = 0 ∧ rX_greatest.slots = 0 ∧ (yX_greatest.cls = R_X ∧ yX_greatest.cls ≠ "java/lang/invoke/MethodHandle" ∧ yX_greatest.cls ≠ "java/lang/invoke/VarHandle" ∧ (parseMethodDescriptor yX_greatest.desc).map (fun d => d.parameters.length) = some 1) :=
  ⟨q_gV k_ml_L_77 k_im_yX_greatest k_se_yX_greatest k_in_X k_co_yX_greatest, rfl, rfl, rfl, by decide +kernel⟩
theorem gLX_pairsFrom : GoodIn lw_ok (wsV R_law 81 R_X yX_pairsFrom wX_pairsFrom) ∧ (wX_pairsFrom = Cond.code yX_pairsFrom bX_pairsFrom 4 (some .int) :: lw_ok) ∧ rX_pairsFrom.cells = 0 ∧ rX_pairsFrom.slots = 0 ∧ (yX_pairsFrom.cls = R_X ∧ yX_pairsFrom.cls ≠ "java/lang/invoke/MethodHandle" ∧ yX_pairsFrom.cls ≠ "java/lang/invoke/VarHandle" ∧ (parseMethodDescriptor yX_pairsFrom.desc).map (fun d => d.parameters.length) = some 1) :=
  ⟨q_gV k_ml_L_81 k_im_yX_pairsFrom k_se_yX_pairsFrom k_in_X k_co_yX_pairsFrom, rfl, rfl, rfl, by decide +kernel⟩
theorem gX_partnersFrom : GoodIn lw_ok (wsV R_X 87 R_X yX_partnersFrom wX_partnersFrom) ∧ (wX_partnersFrom = Cond.code yX_partnersFrom bX_partnersFrom 10 (some .int) :: lw_ok) ∧ rX_partnersFrom.cells = 0 ∧ rX_partnersFrom.slots = 0 ∧ (yX_partnersFrom.cls = R_X ∧ yX_partnersFrom.cls ≠ "java/lang/invoke/MethodHandle" ∧ yX_partnersFrom.cls ≠ "java/lang/invoke/VarHandle" ∧ (parseMethodDescriptor yX_partnersFrom.desc).map (fun d => d.parameters.length) = some 3) :=
  ⟨q_gV k_ml_X_87 k_im_yX_partnersFrom k_se_yX_partnersFrom k_in_X k_co_yX_partnersFrom, rfl, rfl, rfl, by decide +kernel⟩
theorem gLX_bandsFinished : GoodIn lw_ok (wsV R_law 85 R_X yX_bandsFinished wX_bandsFinished) ∧ (wX_bandsFinished = Cond.code yX_bandsFinished bX_bandsFinished 3 (some .int) :: lw_ok) ∧ rX_bandsFinished.cells = 0 ∧ rX_bandsFinished.slots = 0 ∧ (yX_bandsFinished.cls = R_X ∧ yX_bandsFinished.cls ≠ "java/lang/invoke/MethodHandle" ∧ yX_bandsFinished.cls ≠ "java/lang/invoke/VarHandle" ∧ (parseMethodDescriptor yX_bandsFinished.desc).map (fun d => d.parameters.length) = some 0) :=
  ⟨q_gV k_ml_L_85 k_im_yX_bandsFinished k_se_yX_bandsFinished k_in_X k_co_yX_bandsFinished, rfl, rfl, rfl, by decide +kernel⟩
theorem gX_isBandFinished : GoodIn lw_ok (wsV R_X 90 R_X yX_isBandFinished wX_isBandFinished) ∧ (wX_isBandFinished = Cond.code yX_isBandFinished bX_isBandFinished 3 (some .boolean) :: lw_ok) ∧ rX_isBandFinished.cells = 0 ∧ rX_isBandFinished.slots = 0 ∧ (yX_isBandFinished.cls = R_X ∧ yX_isBandFinished.cls ≠ "java/lang/invoke/MethodHandle" ∧ yX_isBandFinished.cls ≠ "java/lang/invoke/VarHandle" ∧ (parseMethodDescriptor yX_isBandFinished.desc).map (fun d => d.parameters.length) = some 1) :=
  ⟨q_gV k_ml_X_90 k_im_yX_isBandFinished k_se_yX_isBandFinished k_in_X k_co_yX_isBandFinished, rfl, rfl, rfl, by decide +kernel⟩
theorem gLX_bandSum : GoodIn lw_ok (wsV R_law 89 R_X yX_bandSum wX_bandSum) ∧ (wX_bandSum = Cond.code yX_bandSum bX_bandSum 4 (some .int) :: lw_ok) ∧ rX_bandSum.cells = 0 ∧ rX_bandSum.slots = 0 ∧ (yX_bandSum.cls = R_X ∧ yX_bandSum.cls ≠ "java/lang/invoke/MethodHandle" ∧ yX_bandSum.cls ≠ "java/lang/invoke/VarHandle" ∧ (parseMethodDescriptor yX_bandSum.desc).map (fun d => d.parameters.length) = some 1) :=
  ⟨q_gV k_ml_L_89 k_im_yX_bandSum k_se_yX_bandSum k_in_X k_co_yX_bandSum, rfl, rfl, rfl, by decide +kernel⟩
theorem gLM_feed : GoodIn lw_ok (wsV R_law 17 R_M yM_feed wM_feed) ∧ (wM_feed = Cond.code yM_feed bM_feed 5 (some .int) :: lw_ok) ∧ rM_feed.cells = 0 ∧ rM_feed.slots = 0 ∧ (yM_feed.cls = R_M ∧ yM_feed.cls ≠ "java/lang/invoke/MethodHandle" ∧ yM_feed.cls ≠ "java/lang/invoke/VarHandle" ∧ (parseMethodDescriptor yM_feed.desc).map (fun d => d.parameters.length) = some 3) :=
  ⟨q_gV k_ml_L_17 k_im_yM_feed k_se_yM_feed k_in_M k_co_yM_feed, rfl, rfl, rfl, by decide +kernel⟩
theorem gM_badStream : GoodIn lw_ok (wsV R_M 38 R_M yM_badStream wM_badStream) ∧ (wM_badStream = Cond.code yM_badStream bM_badStream 2 (some .boolean) :: lw_ok) ∧ rM_badStream.cells = 0 ∧ rM_badStream.slots = 0 ∧ (yM_badStream.cls = R_M ∧ yM_badStream.cls ≠ "java/lang/invoke/MethodHandle" ∧ yM_badStream.cls ≠ "java/lang/invoke/VarHandle" ∧ (parseMethodDescriptor yM_badStream.desc).map (fun d => d.parameters.length) = some 1) :=
  ⟨q_gV k_ml_M_38 k_im_yM_badStream k_se_yM_badStream k_in_M k_co_yM_badStream, rfl, rfl, rfl, by decide +kernel⟩
theorem gM_badKey : GoodIn lw_ok (wsV R_M 42 R_M yM_badKey wM_badKey) ∧ (wM_badKey = Cond.code yM_badKey bM_badKey 2 (some .boolean) :: lw_ok) ∧ rM_badKey.cells = 0 ∧ rM_badKey.slots = 0 ∧ (yM_badKey.cls = R_M ∧ yM_badKey.cls ≠ "java/lang/invoke/MethodHandle" ∧ yM_badKey.cls ≠ "java/lang/invoke/VarHandle" ∧ (parseMethodDescriptor yM_badKey.desc).map (fun d => d.parameters.length) = some 1) :=
  ⟨q_gV k_ml_M_42 k_im_yM_badKey k_se_yM_badKey k_in_M k_co_yM_badKey, rfl, rfl, rfl, by decide +kernel⟩
theorem gLM_retract : GoodIn lw_ok (wsV R_law 21 R_M yM_retract wM_retract) ∧ (wM_retract = Cond.code yM_retract bM_retract 5 (some .int) :: lw_ok) ∧ rM_retract.cells = 0 ∧ rM_retract.slots = 0 ∧ (yM_retract.cls = R_M ∧ yM_retract.cls ≠ "java/lang/invoke/MethodHandle" ∧ yM_retract.cls ≠ "java/lang/invoke/VarHandle" ∧ (parseMethodDescriptor yM_retract.desc).map (fun d => d.parameters.length) = some 3) :=
  ⟨q_gV k_ml_L_21 k_im_yM_retract k_se_yM_retract k_in_M k_co_yM_retract, rfl, rfl, rfl, by decide +kernel⟩
theorem gM_takeOut : GoodIn lw_ok (wsV R_M 45 R_M yM_takeOut wM_takeOut) ∧ (wM_takeOut = Cond.code yM_takeOut bM_takeOut 4 none :: lw_ok) ∧ rM_takeOut.cells = 0 ∧ rM_takeOut.slots = 0 ∧ (yM_takeOut.cls = R_M ∧ yM_takeOut.cls ≠ "java/lang/invoke/MethodHandle" ∧ yM_takeOut.cls ≠ "java/lang/invoke/VarHandle" ∧ (parseMethodDescriptor yM_takeOut.desc).map (fun d => d.parameters.length) = some 2) :=
  ⟨q_gV k_ml_M_45 k_im_yM_takeOut k_se_yM_takeOut k_in_M k_co_yM_takeOut, rfl, rfl, rfl, by decide +kernel⟩
theorem gLM_close : GoodIn lw_ok (wsV R_law 25 R_M yM_close wM_close) ∧ (wM_close = Cond.code yM_close bM_close 7 (some .int) :: lw_ok) ∧ rM_close.cells = 0 ∧ rM_close.slots = 0 ∧ (yM_close.cls = R_M ∧ yM_close.cls ≠ "java/lang/invoke/MethodHandle" ∧ yM_close.cls ≠ "java/lang/invoke/VarHandle" ∧ (parseMethodDescriptor yM_close.desc).map (fun d => d.parameters.length) = some 3) :=
  ⟨q_gV k_ml_L_25 k_im_yM_close k_se_yM_close k_in_M k_co_yM_close, rfl, rfl, rfl, by decide +kernel⟩
theorem gM_finished : GoodIn lw_ok (wsV R_M 72 R_M yM_finished wM_finished) ∧ (wM_finished = Cond.code yM_finished bM_finished 2 (some .boolean) :: lw_ok) ∧ rM_finished.cells = 0 ∧ rM_finished.slots = 0 ∧ (yM_finished.cls = R_M ∧ yM_finished.cls ≠ "java/lang/invoke/MethodHandle" ∧ yM_finished.cls ≠ "java/lang/invoke/VarHandle" ∧ (parseMethodDescriptor yM_finished.desc).map (fun d => d.parameters.length) = some 1) :=
  ⟨q_gV k_ml_M_72 k_im_yM_finished k_se_yM_finished k_in_M k_co_yM_finished, rfl, rfl, rfl, by decide +kernel⟩
theorem gM_finish : GoodIn lw_ok (wsV R_M 75 R_M yM_finish wM_finish) ∧ (wM_finish = Cond.code yM_finish bM_finish 2 none :: lw_ok) ∧ rM_finish.cells = 0 ∧ rM_finish.slots = 0 ∧ (yM_finish.cls = R_M ∧ yM_finish.cls ≠ "java/lang/invoke/MethodHandle" ∧ yM_finish.cls ≠ "java/lang/invoke/VarHandle" ∧ (parseMethodDescriptor yM_finish.desc).map (fun d => d.parameters.length) = some 1) :=
  ⟨q_gV k_ml_M_75 k_im_yM_finish k_se_yM_finish k_in_M k_co_yM_finish, rfl, rfl, rfl, by decide +kernel⟩
theorem gM_look : GoodIn lw_ok (wsV R_M 62 R_M yM_look wM_look) ∧ (wM_look = Cond.code yM_look bM_look 5 none :: lw_ok) ∧ rM_look.cells = 0 ∧ rM_look.slots = 0 ∧ (yM_look.cls = R_M ∧ yM_look.cls ≠ "java/lang/invoke/MethodHandle" ∧ yM_look.cls ≠ "java/lang/invoke/VarHandle" ∧ (parseMethodDescriptor yM_look.desc).map (fun d => d.parameters.length) = some 1) :=
  ⟨q_gV k_ml_M_62 k_im_yM_look k_se_yM_look k_in_M k_co_yM_look, rfl, rfl, rfl, by decide +kernel⟩
theorem gM_dropAll : GoodIn lw_ok (wsV R_M 69 R_M yM_dropAll wM_dropAll) ∧ (wM_dropAll = Cond.code yM_dropAll bM_dropAll 4 none :: lw_ok) ∧ rM_dropAll.cells = 0 ∧ rM_dropAll.slots = 0 ∧ (yM_dropAll.cls = R_M ∧ yM_dropAll.cls ≠ "java/lang/invoke/MethodHandle" ∧ yM_dropAll.cls ≠ "java/lang/invoke/VarHandle" ∧ (parseMethodDescriptor yM_dropAll.desc).map (fun d => d.parameters.length) = some 2) :=
  ⟨q_gV k_ml_M_69 k_im_yM_dropAll k_se_yM_dropAll k_in_M k_co_yM_dropAll, rfl, rfl, rfl, by decide +kernel⟩
theorem gLM_held : GoodIn lw_ok (wsV R_law 30 R_M yM_held wM_held) ∧ (wM_held = Cond.code yM_held bM_held 2 (some .int) :: lw_ok) ∧ rM_held.cells = 0 ∧ rM_held.slots = 0 ∧ (yM_held.cls = R_M ∧ yM_held.cls ≠ "java/lang/invoke/MethodHandle" ∧ yM_held.cls ≠ "java/lang/invoke/VarHandle" ∧ (parseMethodDescriptor yM_held.desc).map (fun d => d.parameters.length) = some 1) :=
  ⟨q_gV k_ml_L_30 k_im_yM_held k_se_yM_held k_in_M k_co_yM_held, rfl, rfl, rfl, by decide +kernel⟩
theorem gLM_heldWith : GoodIn lw_ok (wsV R_law 35 R_M yM_heldWith wM_heldWith) ∧ (wM_heldWith = Cond.code yM_heldWith bM_heldWith 5 (some .int) :: lw_ok) ∧ rM_heldWith.cells = 0 ∧ rM_heldWith.slots = 0 ∧ (yM_heldWith.cls = R_M ∧ yM_heldWith.cls ≠ "java/lang/invoke/MethodHandle" ∧ yM_heldWith.cls ≠ "java/lang/invoke/VarHandle" ∧ (parseMethodDescriptor yM_heldWith.desc).map (fun d => d.parameters.length) = some 2) :=
  ⟨q_gV k_ml_L_35 k_im_yM_heldWith k_se_yM_heldWith k_in_M k_co_yM_heldWith, rfl, rfl, rfl, by decide +kernel⟩
theorem gLM_closed : GoodIn lw_ok (wsV R_law 39 R_M yM_closed wM_closed) ∧ (wM_closed = Cond.code yM_closed bM_closed 3 (some .int) :: lw_ok) ∧ rM_closed.cells = 0 ∧ rM_closed.slots = 0 ∧ (yM_closed.cls = R_M ∧ yM_closed.cls ≠ "java/lang/invoke/MethodHandle" ∧ yM_closed.cls ≠ "java/lang/invoke/VarHandle" ∧ (parseMethodDescriptor yM_closed.desc).map (fun d => d.parameters.length) = some 2) :=
  ⟨q_gV k_ml_L_39 k_im_yM_closed k_se_yM_closed k_in_M k_co_yM_closed, rfl, rfl, rfl, by decide +kernel⟩
theorem gLM_results : GoodIn lw_ok (wsV R_law 44 R_M yM_results wM_results) ∧ (wM_results = Cond.code yM_results bM_results 1 (some .int) :: lw_ok) ∧ rM_results.cells = 0 ∧ rM_results.slots = 0 ∧ (yM_results.cls = R_M ∧ yM_results.cls ≠ "java/lang/invoke/MethodHandle" ∧ yM_results.cls ≠ "java/lang/invoke/VarHandle" ∧ (parseMethodDescriptor yM_results.desc).map (fun d => d.parameters.length) = some 0) :=
  ⟨q_gV k_ml_L_44 k_im_yM_results k_se_yM_results k_in_M k_co_yM_results, rfl, rfl, rfl, by decide +kernel⟩
theorem gLM_resultKey : GoodIn lw_ok (wsV R_law 48 R_M yM_resultKey wM_resultKey) ∧ (wM_resultKey = Cond.code yM_resultKey bM_resultKey 2 (some .int) :: lw_ok) ∧ rM_resultKey.cells = 0 ∧ rM_resultKey.slots = 0 ∧ (yM_resultKey.cls = R_M ∧ yM_resultKey.cls ≠ "java/lang/invoke/MethodHandle" ∧ yM_resultKey.cls ≠ "java/lang/invoke/VarHandle" ∧ (parseMethodDescriptor yM_resultKey.desc).map (fun d => d.parameters.length) = some 1) :=
  ⟨q_gV k_ml_L_48 k_im_yM_resultKey k_se_yM_resultKey k_in_M k_co_yM_resultKey, rfl, rfl, rfl, by decide +kernel⟩
theorem gM_noResult : GoodIn lw_ok (wsV R_M 78 R_M yM_noResult wM_noResult) ∧ (wM_noResult = Cond.code yM_noResult bM_noResult 2 (some .boolean) :: lw_ok) ∧ rM_noResult.cells = 0 ∧ rM_noResult.slots = 0 ∧ (yM_noResult.cls = R_M ∧ yM_noResult.cls ≠ "java/lang/invoke/MethodHandle" ∧ yM_noResult.cls ≠ "java/lang/invoke/VarHandle" ∧ (parseMethodDescriptor yM_noResult.desc).map (fun d => d.parameters.length) = some 1) :=
  ⟨q_gV k_ml_M_78 k_im_yM_noResult k_se_yM_noResult k_in_M k_co_yM_noResult, rfl, rfl, rfl, by decide +kernel⟩
theorem gLM_resultPairs : GoodIn lw_ok (wsV R_law 52 R_M yM_resultPairs wM_resultPairs) ∧ (wM_resultPairs = Cond.code yM_resultPairs bM_resultPairs 2 (some .int) :: lw_ok) ∧ rM_resultPairs.cells = 0 ∧ rM_resultPairs.slots = 0 ∧ (yM_resultPairs.cls = R_M ∧ yM_resultPairs.cls ≠ "java/lang/invoke/MethodHandle" ∧ yM_resultPairs.cls ≠ "java/lang/invoke/VarHandle" ∧ (parseMethodDescriptor yM_resultPairs.desc).map (fun d => d.parameters.length) = some 1) :=
  ⟨q_gV k_ml_L_52 k_im_yM_resultPairs k_se_yM_resultPairs k_in_M k_co_yM_resultPairs, rfl, rfl, rfl, by decide +kernel⟩
theorem gLM_resultSum : GoodIn lw_ok (wsV R_law 56 R_M yM_resultSum wM_resultSum) ∧ (wM_resultSum = Cond.code yM_resultSum bM_resultSum 2 (some .int) :: lw_ok) ∧ rM_resultSum.cells = 0 ∧ rM_resultSum.slots = 0 ∧ (yM_resultSum.cls = R_M ∧ yM_resultSum.cls ≠ "java/lang/invoke/MethodHandle" ∧ yM_resultSum.cls ≠ "java/lang/invoke/VarHandle" ∧ (parseMethodDescriptor yM_resultSum.desc).map (fun d => d.parameters.length) = some 1) :=
  ⟨q_gV k_ml_L_56 k_im_yM_resultSum k_se_yM_resultSum k_in_M k_co_yM_resultSum, rfl, rfl, rfl, by decide +kernel⟩
theorem gLM_resultLeast : GoodIn lw_ok (wsV R_law 60 R_M yM_resultLeast wM_resultLeast) ∧ (wM_resultLeast = Cond.code yM_resultLeast bM_resultLeast 2 (some .int) :: lw_ok) ∧ rM_resultLeast.cells = 0 ∧ rM_resultLeast.slots = 0 ∧ (yM_resultLeast.cls = R_M ∧ yM_resultLeast.cls ≠ "java/lang/invoke/MethodHandle" ∧ yM_resultLeast.cls ≠ "java/lang/invoke/VarHandle" ∧ (parseMethodDescriptor yM_resultLeast.desc).map (fun d => d.parameters.length) = some 1) :=
  ⟨q_gV k_ml_L_60 k_im_yM_resultLeast k_se_yM_resultLeast k_in_M k_co_yM_resultLeast, rfl, rfl, rfl, by decide +kernel⟩
theorem gLM_resultGreatest : GoodIn lw_ok (wsV R_law 64 R_M yM_resultGreatest wM_resultGreatest) ∧ (wM_resultGreatest = Cond.code yM_resultGreatest bM_resultGreatest 2 (some .int) :: lw_ok) ∧ rM_resultGreatest.cells = 0 ∧ rM_resultGreatest.slots = 0 ∧ (yM_resultGreatest.cls = R_M ∧ yM_resultGreatest.cls ≠ "java/lang/invoke/MethodHandle" ∧ yM_resultGreatest.cls ≠ "java/lang/invoke/VarHandle" ∧ (parseMethodDescriptor yM_resultGreatest.desc).map (fun d => d.parameters.length) = some 1) :=
  ⟨q_gV k_ml_L_64 k_im_yM_resultGreatest k_se_yM_resultGreatest k_in_M k_co_yM_resultGreatest, rfl, rfl, rfl, by decide +kernel⟩
theorem gLM_pairs : GoodIn lw_ok (wsV R_law 68 R_M yM_pairs wM_pairs) ∧ (wM_pairs = Cond.code yM_pairs bM_pairs 2 (some .int) :: lw_ok) ∧ rM_pairs.cells = 0 ∧ rM_pairs.slots = 0 ∧ (yM_pairs.cls = R_M ∧ yM_pairs.cls ≠ "java/lang/invoke/MethodHandle" ∧ yM_pairs.cls ≠ "java/lang/invoke/VarHandle" ∧ (parseMethodDescriptor yM_pairs.desc).map (fun d => d.parameters.length) = some 1) :=
  ⟨q_gV k_ml_L_68 k_im_yM_pairs k_se_yM_pairs k_in_M k_co_yM_pairs, rfl, rfl, rfl, by decide +kernel⟩
theorem gLM_sum : GoodIn lw_ok (wsV R_law 72 R_M yM_sum wM_sum) ∧ (wM_sum = Cond.code yM_sum bM_sum 2 (some .int) :: lw_ok) ∧ rM_sum.cells = 0 ∧ rM_sum.slots = 0 ∧ (yM_sum.cls = R_M ∧ yM_sum.cls ≠ "java/lang/invoke/MethodHandle" ∧ yM_sum.cls ≠ "java/lang/invoke/VarHandle" ∧ (parseMethodDescriptor yM_sum.desc).map (fun d => d.parameters.length) = some 1) :=
  ⟨q_gV k_ml_L_72 k_im_yM_sum k_se_yM_sum k_in_M k_co_yM_sum, rfl, rfl, rfl, by decide +kernel⟩
theorem gLM_least : GoodIn lw_ok (wsV R_law 76 R_M yM_least wM_least) ∧ (wM_least = Cond.code yM_least bM_least 2 (some .int) :: lw_ok) ∧ rM_least.cells = 0 ∧ rM_least.slots = 0 ∧ (yM_least.cls = R_M ∧ yM_least.cls ≠ "java/lang/invoke/MethodHandle" ∧ yM_least.cls ≠ "java/lang/invoke/VarHandle" ∧ (parseMethodDescriptor yM_least.desc).map (fun d => d.parameters.length) = some 1) :=
  ⟨q_gV k_ml_L_76 k_im_yM_least k_se_yM_least k_in_M k_co_yM_least, rfl, rfl, rfl, by decide +kernel⟩
theorem gLM_greatest : GoodIn lw_ok (wsV R_law 80 R_M yM_greatest wM_greatest) ∧ (wM_greatest = Cond.code yM_greatest bM_greatest 2 (some .int) :: lw_ok) ∧ rM_greatest.cells = 0 ∧ rM_greatest.slots = 0 ∧ (yM_greatest.cls = R_M ∧ yM_greatest.cls ≠ "java/lang/invoke/MethodHandle" ∧ yM_greatest.cls ≠ "java/lang/invoke/VarHandle" ∧ (parseMethodDescriptor yM_greatest.desc).map (fun d => d.parameters.length) = some 1) :=
  ⟨q_gV k_ml_L_80 k_im_yM_greatest k_se_yM_greatest k_in_M k_co_yM_greatest, rfl, rfl, rfl, by decide +kernel⟩
theorem gLM_pairsFrom : GoodIn lw_ok (wsV R_law 84 R_M yM_pairsFrom wM_pairsFrom) ∧ (wM_pairsFrom = Cond.code yM_pairsFrom bM_pairsFrom 5 (some .int) :: lw_ok) ∧ rM_pairsFrom.cells = 0 ∧ rM_pairsFrom.slots = 0 ∧ (yM_pairsFrom.cls = R_M ∧ yM_pairsFrom.cls ≠ "java/lang/invoke/MethodHandle" ∧ yM_pairsFrom.cls ≠ "java/lang/invoke/VarHandle" ∧ (parseMethodDescriptor yM_pairsFrom.desc).map (fun d => d.parameters.length) = some 1) :=
  ⟨q_gV k_ml_L_84 k_im_yM_pairsFrom k_se_yM_pairsFrom k_in_M k_co_yM_pairsFrom, rfl, rfl, rfl, by decide +kernel⟩
theorem gLM_bandsFinished : GoodIn lw_ok (wsV R_law 88 R_M yM_bandsFinished wM_bandsFinished) ∧ (wM_bandsFinished = Cond.code yM_bandsFinished bM_bandsFinished 3 (some .int) :: lw_ok) ∧ rM_bandsFinished.cells = 0 ∧ rM_bandsFinished.slots = 0 ∧ (yM_bandsFinished.cls = R_M ∧ yM_bandsFinished.cls ≠ "java/lang/invoke/MethodHandle" ∧ yM_bandsFinished.cls ≠ "java/lang/invoke/VarHandle" ∧ (parseMethodDescriptor yM_bandsFinished.desc).map (fun d => d.parameters.length) = some 0) :=
  ⟨q_gV k_ml_L_88 k_im_yM_bandsFinished k_se_yM_bandsFinished k_in_M k_co_yM_bandsFinished, rfl, rfl, rfl, by decide +kernel⟩
theorem gM_bandDone : GoodIn lw_ok (wsV R_M 81 R_M yM_bandDone wM_bandDone) ∧ (wM_bandDone = Cond.code yM_bandDone bM_bandDone 3 (some .boolean) :: lw_ok) ∧ rM_bandDone.cells = 0 ∧ rM_bandDone.slots = 0 ∧ (yM_bandDone.cls = R_M ∧ yM_bandDone.cls ≠ "java/lang/invoke/MethodHandle" ∧ yM_bandDone.cls ≠ "java/lang/invoke/VarHandle" ∧ (parseMethodDescriptor yM_bandDone.desc).map (fun d => d.parameters.length) = some 1) :=
  ⟨q_gV k_ml_M_81 k_im_yM_bandDone k_se_yM_bandDone k_in_M k_co_yM_bandDone, rfl, rfl, rfl, by decide +kernel⟩
theorem gLM_bandSum : GoodIn lw_ok (wsV R_law 92 R_M yM_bandSum wM_bandSum) ∧ (wM_bandSum = Cond.code yM_bandSum bM_bandSum 4 (some .int) :: lw_ok) ∧ rM_bandSum.cells = 0 ∧ rM_bandSum.slots = 0 ∧ (yM_bandSum.cls = R_M ∧ yM_bandSum.cls ≠ "java/lang/invoke/MethodHandle" ∧ yM_bandSum.cls ≠ "java/lang/invoke/VarHandle" ∧ (parseMethodDescriptor yM_bandSum.desc).map (fun d => d.parameters.length) = some 1) :=
  ⟨q_gV k_ml_L_92 k_im_yM_bandSum k_se_yM_bandSum k_in_M k_co_yM_bandSum, rfl, rfl, rfl, by decide +kernel⟩
end
section
/-! plain lists: a tuple is a key and a value -/
abbrev QT : Type := Nat × Int32
abbrev QL : Type := Nat → List QT
abbrev QE : Type := Nat × Int32 × Int32 × Int32 × Int32
def isN (x : Int32) (m : Nat) : Prop := ∃ n : Nat, n < m ∧ x = nI n
def okT (t : QT) : Prop := t.1 < 16 ∧ -50 ≤ t.2.toInt ∧ t.2.toInt ≤ 50
def lst (K V : Nat → Int32) (b : Nat) (L : List QT) : Prop := ∀ (i : Nat) (t : QT), L[i]? = some t → K (b + i) = nI t.1 ∧ V (b + i) = t.2
def cK (k : Nat) (L : List QT) : Nat := L.countP (fun t => t.1 == k)
def cL (k : Nat) (L : List QT) : Nat := L.countP (fun t => decide (t.1 < k))
def cP (k : Nat) (v : Int32) (L : List QT) : Nat := L.countP (fun t => decide (t.1 < k) || (t.1 == k && decide (t.2.toInt < v.toInt)))
def sK (k : Nat) : List QT → Int32
  | [] => 0
  | t :: L => (if t.1 = k then t.2 else 0) + sK k L
def oT (t u : QT) : Prop := t.1 < u.1 ∨ (t.1 = u.1 ∧ t.2.toInt ≤ u.2.toInt)
def srt (L : List QT) : Prop := L.Pairwise oT
def xr (S : QS) (st : Nat) (L : List QT) : Prop := L.length ≤ 40 ∧ S 2 st = nI L.length ∧ lst (S 0) (S 1) (40 * st) L ∧ (∀ t ∈ L, okT t) ∧ srt L ∧ (∀ k, k ≤ 16 → S 3 (17 * st + k) = nI (cL k L)) ∧ ∀ k, k < 16 → S 4 (16 * st + k) = sK k L
def XR (S : QS) (L : QL) : Prop := ∀ st, st < 2 → xr S st (L st)
def mr (T : QS) (st : Nat) (L : List QT) : Prop := L.length ≤ 40 ∧ T 0 st = nI L.length ∧ lst (T 1) (T 2) (40 * st) L ∧ ∀ t ∈ L, okT t
def MR (T : QS) (L : QL) : Prop := ∀ st, st < 2 → mr T st (L st)
theorem isN_2 {x : Int32} : isN x 2 ↔ x = 0 ∨ x = 1 := by
  constructor
  · rintro ⟨n, hn, rfl⟩
    rcases (show n = 0 ∨ n = 1 by omega) with rfl | rfl
    · exact Or.inl rfl
    · exact Or.inr rfl
  · rintro (rfl | rfl)
    · exact ⟨0, by omega, rfl⟩
    · exact ⟨1, by omega, rfl⟩
theorem isN_of {x : Int32} {m : Nat} (hm : m < 2 ^ 31) : isN x m ↔ ¬ x < 0 ∧ ¬ nI m ≤ x := by
  constructor
  · rintro ⟨n, hn, rfl⟩
    exact ⟨nI_pos (by omega), fun h => by rw [nI_leI hm (by omega)] at h; omega⟩
  · rintro ⟨h1, h2⟩
    rcases pk_ix x hm with h | h | ⟨j, hj, h⟩
    · exact absurd h h1
    · exact absurd h h2
    · exact ⟨j, hj, h⟩
theorem isN_uniq {n m : Nat} (hn : n < 2 ^ 31) (hm : m < 2 ^ 31) (h : nI n = nI m) : n = m := (nI_eq hn hm).mp h
/-- a predicate that goes down along the order holds for a first stretch -/
theorem cnt_idx {α : Type} {r : α → α → Prop} {p : α → Bool} (hr : ∀ t u, r t u → p u = true → p t = true) : ∀ {L : List α}, L.Pairwise r → ∀ (i : Nat) (t : α), L[i]? = some t → (p t = true ↔ i < L.countP p)
  | [], _, i, t, h => by simp at h
  | a :: L, hp, i, t, h => by
    obtain ⟨h1, h2⟩ := List.pairwise_cons.mp hp
    by_cases hpa : p a = true
    · rw [List.countP_cons_of_pos hpa]
      cases i with
      | zero =>
        simp at h
        subst h
        simp [hpa]
      | succ i =>
        rw [List.getElem?_cons_succ] at h
        rw [cnt_idx hr h2 i t h]
        omega
    · have hall : ∀ u ∈ L, ¬ p u = true := fun u hu q => hpa (hr a u (h1 u hu) q)
      have hz : L.countP p = 0 := by
        rw [List.countP_eq_zero]
        exact hall
      rw [List.countP_cons_of_neg hpa, hz]
      constructor
      · intro q
        cases i with
        | zero =>
          simp at h
          subst h
          exact absurd q hpa
        | succ i =>
          rw [List.getElem?_cons_succ] at h
          exact absurd q (hall t (List.mem_of_getElem? h))
      · intro q
        omega
theorem cL_idx {L : List QT} (hs : srt L) (k : Nat) {i : Nat} {t : QT} (h : L[i]? = some t) : t.1 < k ↔ i < cL k L := by
  have := cnt_idx (r := oT) (p := fun t : QT => decide (t.1 < k)) (fun t u h q => by
    simp only [decide_eq_true_eq] at q ⊢
    rcases h with h | ⟨h, -⟩ <;> omega) hs i t h
  simpa [cL] using this
theorem cP_idx {L : List QT} (hs : srt L) (k : Nat) (v : Int32) {i : Nat} {t : QT} (h : L[i]? = some t) : (t.1 < k ∨ (t.1 = k ∧ t.2.toInt < v.toInt)) ↔ i < cP k v L := by
  have := cnt_idx (r := oT) (p := fun t : QT => decide (t.1 < k) || (t.1 == k && decide (t.2.toInt < v.toInt))) (fun t u h q => by
    simp only [Bool.or_eq_true, decide_eq_true_eq, Bool.and_eq_true, beq_iff_eq] at q ⊢
    rcases h with h | ⟨h, h'⟩ <;> omega) hs i t h
  simpa [cP] using this
theorem cL_le (k : Nat) (L : List QT) : cL k L ≤ L.length := List.countP_le_length
theorem cP_le (k : Nat) (v : Int32) (L : List QT) : cP k v L ≤ L.length := List.countP_le_length
theorem cL_succ (k : Nat) : ∀ L : List QT, cL (k + 1) L = cL k L + cK k L
  | [] => rfl
  | t :: L => by
    have ih := cL_succ k L
    unfold cL cK at *
    rw [List.countP_cons, List.countP_cons, List.countP_cons, ih]
    simp only [decide_eq_true_eq, beq_iff_eq]
    split <;> split <;> split <;> omega
theorem cL_0 : ∀ L : List QT, cL 0 L = 0 := fun L => by simp [cL]
theorem cL_mono {j k : Nat} (h : j ≤ k) : ∀ L : List QT, cL j L ≤ cL k L := fun L => by
  unfold cL
  refine List.countP_mono_left (fun t _ q => ?_)
  simp only [decide_eq_true_eq] at q ⊢
  omega
theorem cL_16 {L : List QT} (h : ∀ t ∈ L, okT t) : cL 16 L = L.length := by
  unfold cL
  rw [List.countP_eq_length]
  intro t ht
  simpa using (h t ht).1
theorem cP_lo (k : Nat) (v : Int32) : ∀ L : List QT, cL k L ≤ cP k v L := fun L => by
  unfold cL cP
  refine List.countP_mono_left (fun t _ q => ?_)
  simp only [decide_eq_true_eq] at q
  simp [q]
theorem cP_hi (k : Nat) (v : Int32) : ∀ L : List QT, cP k v L ≤ cL (k + 1) L := fun L => by
  unfold cL cP
  refine List.countP_mono_left (fun t _ q => ?_)
  simp only [Bool.or_eq_true, decide_eq_true_eq, Bool.and_eq_true, beq_iff_eq] at q ⊢
  omega
theorem cK_le (k : Nat) (L : List QT) : cK k L ≤ L.length := List.countP_le_length
/-- the key's stretch -/
theorem str_idx {L : List QT} (hs : srt L) (k : Nat) {i : Nat} {t : QT} (h : L[i]? = some t) : t.1 = k ↔ cL k L ≤ i ∧ i < cL (k + 1) L := by
  have h1 := cL_idx hs k h
  have h2 := cL_idx hs (k + 1) h
  constructor
  · intro q
    exact ⟨Nat.not_lt.mp (fun z => by have := h1.mpr z; omega), h2.mp (by omega)⟩
  · rintro ⟨q1, q2⟩
    have := h2.mpr q2
    have : ¬ t.1 < k := fun z => by have := h1.mp z; omega
    omega
theorem getq {α : Type} {L : List α} {i : Nat} (h : i < L.length) : ∃ t, L[i]? = some t := ⟨L[i], List.getElem?_eq_getElem h⟩
theorem iv_lt {x y : Int32} : x < y ↔ x.toInt < y.toInt := Int32.lt_iff_toInt_lt
theorem iv_le {x y : Int32} : x ≤ y ↔ x.toInt ≤ y.toInt := Int32.le_iff_toInt_le
/-- one step of the search: a place of the key's stretch -/
theorem srch {S : QS} {st : Nat} {L : List QT} (h : xr S st L) {k : Nat} (v : Int32) {i : Nat} (h1 : cL k L ≤ i) (h2 : i < cL (k + 1) L) : S 1 (40 * st + i) < v ↔ i < cP k v L := by
  obtain ⟨hl, -, hlst, -, hs, -⟩ := h
  have := cL_le (k + 1) L
  obtain ⟨t, ht⟩ := getq (L := L) (i := i) (by omega)
  have hk := (str_idx hs k ht).mpr ⟨h1, h2⟩
  rw [(hlst i t ht).2, iv_lt, ← cP_idx hs k v ht]
  constructor
  · exact fun q => Or.inr ⟨hk, q⟩
  · rintro (q | q)
    · omega
    · exact q.2
theorem shr1 {n : Nat} (h : n < 2 ^ 31) : nI n >>> (nI 1 &&& 31) = nI (n / 2) := pk_shrN h (nI 1 &&& 31) 1 (by decide)
end
section
/-! answers, and what the small loops do -/
def qans (x : Int32) (m : Nat) (d : Int32) (f : Nat → Int32) (r : Int32) : Prop := (¬ isN x m ∧ r = d) ∨ ∃ n : Nat, n < m ∧ x = nI n ∧ r = f n
def qans2 (x1 x2 : Int32) (f : Nat → Nat → Int32) (r : Int32) : Prop := (¬ isN x1 2 ∧ r = -1) ∨ (isN x1 2 ∧ ¬ isN x2 16 ∧ r = -2) ∨ ∃ st q : Nat, st < 2 ∧ q < 16 ∧ x1 = nI st ∧ x2 = nI q ∧ r = f st q
theorem qans_eq {x : Int32} {m : Nat} {d : Int32} {f g : Nat → Int32} {r r' : Int32} (hm : m < 2 ^ 31) (h : qans x m d f r) (h' : qans x m d g r') (hfg : ∀ n, n < m → f n = g n) : r = r' := by
  rcases h with ⟨h1, h2⟩ | ⟨n, hn, hx, hr⟩
  · rcases h' with ⟨h1', h2'⟩ | ⟨n, hn, hx, hr⟩
    · rw [h2, h2']
    · exact absurd ⟨n, hn, hx⟩ h1
  · rcases h' with ⟨h1', h2'⟩ | ⟨n', hn', hx', hr'⟩
    · exact absurd ⟨n, hn, hx⟩ h1'
    · have := isN_uniq (by omega) (by omega) (hx.symm.trans hx')
      subst this
      rw [hr, hr', hfg n hn]
theorem qans2_eq {x1 x2 : Int32} {f g : Nat → Nat → Int32} {r r' : Int32} (h : qans2 x1 x2 f r) (h' : qans2 x1 x2 g r') (hfg : ∀ st q, st < 2 → q < 16 → f st q = g st q) : r = r' := by
  rcases h with ⟨h1, h2⟩ | ⟨h1, h2, h3⟩ | ⟨st, q, hst, hq, hx1, hx2, hr⟩
  · rcases h' with ⟨h1', h2'⟩ | ⟨h1', h2', h3'⟩ | ⟨st', q', hst', hq', hx1', hx2', hr'⟩
    · rw [h2, h2']
    · exact absurd h1' h1
    · exact absurd ⟨st', hst', hx1'⟩ h1
  · rcases h' with ⟨h1', h2'⟩ | ⟨h1', h2', h3'⟩ | ⟨st', q', hst', hq', hx1', hx2', hr'⟩
    · exact absurd h1 h1'
    · rw [h3, h3']
    · exact absurd ⟨q', hq', hx2'⟩ h2
  · rcases h' with ⟨h1', h2'⟩ | ⟨h1', h2', h3'⟩ | ⟨st', q', hst', hq', hx1', hx2', hr'⟩
    · exact absurd ⟨st, hst, hx1⟩ h1'
    · exact absurd ⟨q, hq, hx2⟩ h2'
    · have e1 := isN_uniq (by omega) (by omega) (hx1.symm.trans hx1')
      have e2 := isN_uniq (by omega) (by omega) (hx2.symm.trans hx2')
      subst e1; subst e2
      rw [hr, hr', hfg st q hst hq]
def bD (Z : Nat → Int32) (g : Nat) : Bool := (List.range 4).all (fun i => decide (Z (4 * g + i) ≠ 0 ∧ Z (16 + (4 * g + i)) ≠ 0))
theorem bD_iff {Z : Nat → Int32} {g : Nat} : bD Z g = true ↔ ∀ i, i < 4 → Z (4 * g + i) ≠ 0 ∧ Z (16 + (4 * g + i)) ≠ 0 := by
  unfold bD
  rw [List.all_eq_true]
  constructor
  · intro h i hi
    exact of_decide_eq_true (h i (List.mem_range.mpr hi))
  · intro h i hi
    exact decide_eq_true (h i (List.mem_range.mp hi))
theorem bD_not {Z : Nat → Int32} {g i : Nat} (hi : i < 4) (h : Z (4 * g + i) = 0 ∨ Z (16 + (4 * g + i)) = 0) : bD Z g = false := by
  cases hb : bD Z g with
  | false => rfl
  | true =>
    have := bD_iff.mp hb i hi
    rcases h with h | h
    · exact absurd h this.1
    · exact absurd h this.2
def bC (Z : Nat → Int32) : Nat → Nat
  | 0 => 0
  | n + 1 => bC Z n + (if bD Z n = true then 1 else 0)
theorem bC_le (Z : Nat → Int32) : ∀ n, bC Z n ≤ n
  | 0 => Nat.le_refl 0
  | n + 1 => by
    have := bC_le Z n
    unfold bC
    split <;> omega
def shB (S : QS) (st q : Nat) (d : Int32) (j : Nat) : QS := fun c => if c = 3 then (fun x => if 17 * st + q < x ∧ x < 17 * st + j then S 3 x + d else S 3 x) else S c
theorem shB_0 (S : QS) (st q : Nat) (d : Int32) : S = shB S st q d (q + 1) := by
  funext c x
  unfold shB
  by_cases h : c = 3
  · subst h
    rw [if_pos rfl, if_neg (by omega)]
  · rw [if_neg h]
theorem shB_step (S : QS) (st q : Nat) (d : Int32) {j : Nat} (h : q + 1 ≤ j) : up2 (shB S st q d j) 3 (17 * st + j) (shB S st q d j 3 (17 * st + j) + d) = shB S st q d (j + 1) := by
  funext c x
  by_cases hc : c = 3
  · subst hc
    simp only [up2, upd, shB, if_true]
    by_cases hx : x = 17 * st + j
    · subst hx
      rw [if_pos rfl, if_neg (by omega), if_pos (by omega)]
    · rw [if_neg hx]
      by_cases h1 : 17 * st + q < x ∧ x < 17 * st + j
      · rw [if_pos h1, if_pos (by omega)]
      · rw [if_neg h1, if_neg (by omega)]
  · simp only [up2, shB, if_neg hc]
theorem halve {i f t : Nat} (hi : i < 8) (h : t - f < 2 ^ (8 - i)) : (f + t) / 2 - f < 2 ^ (8 - (i + 1)) ∧ t - ((f + t) / 2 + 1) < 2 ^ (8 - (i + 1)) := by
  have e : 2 ^ (8 - i) = 2 * 2 ^ (8 - (i + 1)) := by
    rw [← Nat.pow_succ']
    congr 1
    omega
  omega
end
section
set_option maxHeartbeats 4000000 in
set_option maxRecDepth 100000 in
theorem qx_isStream (l : Launch) (D : va_G) (a : Nat → Nat) (cI cZ : ClassId) (x : Int32) : MetI l yX_isStream wX_isStream rX_isStream D (qty cI cZ) (fun _ : Unit => []) () [.int x] (fun r _ => (r = 1 ∧ isN x 2) ∨ (r = 0 ∧ ¬ isN x 2)) := by
  refine MetI.of (cc := bX_isStream) (maxL := 1) (own := R_X) (by decide) rfl rfl (Nat.le_of_ble_eq_true rfl) (fun k hk hret => ?_)
  have hk : QK k bX_isStream R_X 1 rX_isStream l D (qty cI cZ) := hk
  show QV k (fun _ : Unit => []) () [(0, .int x)] 0 []
  refine qv_iload_n hk 0 rfl dX_isStream_0 rfl ?_
  refine qv_if_eq (tgt := 9) hk dX_isStream_1 (by decide) (fun h1 => ?_) (fun h1 => ?_)
  · refine qv_iconst (v := nI 1) hk dX_isStream_9 (by decide) ?_
    refine qv_goto (tgt := 14) hk dX_isStream_10 (by decide) ?_
    exact hret (nI 1) (()) [(0, .int x)] 14 (Or.inl ⟨rfl, isN_2.mpr (Or.inl h1)⟩) rfl dX_isStream_14
  · refine qv_iload_n hk 0 rfl dX_isStream_4 rfl ?_
    refine qv_iconst (v := nI 1) hk dX_isStream_5 (by decide) ?_
    refine qv_icmp_ne (tgt := 13) hk dX_isStream_6 (by decide) (fun h6 => ?_) (fun h6 => ?_)
    · refine qv_iconst (v := nI 0) hk dX_isStream_13 (by decide) ?_
      exact hret (nI 0) (()) [(0, .int x)] 14 (Or.inr ⟨rfl, fun q => (isN_2.mp q).elim h1 h6⟩) rfl dX_isStream_14
    · refine qv_iconst (v := nI 1) hk dX_isStream_9 (by decide) ?_
      refine qv_goto (tgt := 14) hk dX_isStream_10 (by decide) ?_
      exact hret (nI 1) (()) [(0, .int x)] 14 (Or.inl ⟨rfl, isN_2.mpr (Or.inr h6)⟩) rfl dX_isStream_14

set_option maxHeartbeats 4000000 in
set_option maxRecDepth 100000 in
theorem qx_isKey (l : Launch) (D : va_G) (a : Nat → Nat) (cI cZ : ClassId) (x : Int32) : MetI l yX_isKey wX_isKey rX_isKey D (qty cI cZ) (fun _ : Unit => []) () [.int x] (fun r _ => (r = 1 ∧ isN x 16) ∨ (r = 0 ∧ ¬ isN x 16)) := by
  refine MetI.of (cc := bX_isKey) (maxL := 1) (own := R_X) (by decide) rfl rfl (Nat.le_of_ble_eq_true rfl) (fun k hk hret => ?_)
  have hk : QK k bX_isKey R_X 1 rX_isKey l D (qty cI cZ) := hk
  show QV k (fun _ : Unit => []) () [(0, .int x)] 0 []
  refine qv_iload_n hk 0 rfl dX_isKey_0 rfl ?_
  refine qv_if_lt (tgt := 14) hk dX_isKey_1 (by decide) (fun h1 => ?_) (fun h1 => ?_)
  · refine qv_iconst (v := nI 0) hk dX_isKey_14 (by decide) ?_
    exact hret (nI 0) (()) [(0, .int x)] 15 (Or.inr ⟨rfl, fun q => ((isN_of (by decide)).mp q).1 h1⟩) rfl dX_isKey_15
  · refine qv_iload_n hk 0 rfl dX_isKey_4 rfl ?_
    refine qv_bipush (v := nI 16) hk dX_isKey_5 (by decide) ?_
    refine qv_icmp_ge (tgt := 14) hk dX_isKey_7 (by decide) (fun h7 => ?_) (fun h7 => ?_)
    · refine qv_iconst (v := nI 0) hk dX_isKey_14 (by decide) ?_
      exact hret (nI 0) (()) [(0, .int x)] 15 (Or.inr ⟨rfl, fun q => ((isN_of (by decide)).mp q).2 h7⟩) rfl dX_isKey_15
    · refine qv_iconst (v := nI 1) hk dX_isKey_10 (by decide) ?_
      refine qv_goto (tgt := 15) hk dX_isKey_11 (by decide) ?_
      exact hret (nI 1) (()) [(0, .int x)] 15 (Or.inl ⟨rfl, (isN_of (by decide)).mpr ⟨h1, h7⟩⟩) rfl dX_isKey_15

set_option maxHeartbeats 4000000 in
set_option maxRecDepth 100000 in
theorem qx_countOf (l : Launch) (D : va_G) (a : Nat → Nat) (cI cZ : ClassId) (S : QS) (L : QL) (hL : XR S L) (st q : Nat) (hst : st < 2) (hq : q < 16) : MetI l yX_countOf wX_countOf rX_countOf D (qty cI cZ) (xw a cI cZ) S [.ref (a 0), .int (nI st), .int (nI q)] (fun r S2 => r = nI (cK q (L st)) ∧ S2 = S) := by
  refine MetI.of (cc := bX_countOf) (maxL := 3) (own := R_X) (by decide) rfl rfl (Nat.le_of_ble_eq_true rfl) (fun k hk hret => ?_)
  have hk : QK k bX_countOf R_X 3 rX_countOf l D (qty cI cZ) := hk
  have hB := (hL st hst).2.2.2.2.2.1
  have hm := cL_succ q (L st)
  show QV k (xw a cI cZ) S [(0, .ref (a 0)), (1, .int (nI st)), (2, .int (nI q))] 0 []
  refine qv_aload_n hk 0 rfl dX_countOf_0 rfl ?_
  refine gX_begin hk dX_countOf_1 ?_
  refine qv_bipush (v := nI 17) hk dX_countOf_4 (by decide) ?_
  refine qv_iload_n hk 1 rfl dX_countOf_6 rfl ?_
  refine qn_imul hk dX_countOf_7 ?_
  refine qv_iload_n hk 2 rfl dX_countOf_8 rfl ?_
  refine qn_iadd hk dX_countOf_9 ?_
  refine qv_iconst (v := nI 1) hk dX_countOf_10 (by decide) ?_
  refine qn_iadd hk dX_countOf_11 ?_
  refine aX_begin hk (by omega) dX_countOf_12 ?_
  refine qv_top (y := nI (cL (q + 1) (L st))) (hB (q + 1) (by omega)) ?_
  refine qv_aload_n hk 0 rfl dX_countOf_13 rfl ?_
  refine gX_begin hk dX_countOf_14 ?_
  refine qv_bipush (v := nI 17) hk dX_countOf_17 (by decide) ?_
  refine qv_iload_n hk 1 rfl dX_countOf_19 rfl ?_
  refine qn_imul hk dX_countOf_20 ?_
  refine qv_iload_n hk 2 rfl dX_countOf_21 rfl ?_
  refine qn_iadd hk dX_countOf_22 ?_
  refine aX_begin hk (by omega) dX_countOf_23 ?_
  refine qv_top (y := nI (cL q (L st))) (hB q (by omega)) ?_
  refine qn_isub hk (by omega) dX_countOf_24 ?_
  exact hret (nI ((cL (q + 1) (L st)) - (cL q (L st)))) S [(0, .ref (a 0)), (1, .int (nI st)), (2, .int (nI q))] 25 (⟨by rw [hm, Nat.add_sub_cancel_left], rfl⟩) rfl dX_countOf_25

set_option maxHeartbeats 4000000 in
set_option maxRecDepth 100000 in
theorem qx_pairsOf (l : Launch) (D : va_G) (a : Nat → Nat) (cI cZ : ClassId) (S : QS) (L : QL) (hL : XR S L) (q : Nat) (hq : q < 16) : MetI l yX_pairsOf wX_pairsOf rX_pairsOf D (qty cI cZ) (xw a cI cZ) S [.ref (a 0), .int (nI q)] (fun r S2 => r = nI (cK q (L 0) * cK q (L 1)) ∧ S2 = S) := by
  refine MetI.of (cc := bX_pairsOf) (maxL := 2) (own := R_X) (by decide) rfl rfl (Nat.le_of_ble_eq_true rfl) (fun k hk hret => ?_)
  have hk : QK k bX_pairsOf R_X 2 rX_pairsOf l D (qty cI cZ) := hk
  show QV k (xw a cI cZ) S [(0, .ref (a 0)), (1, .int (nI q))] 0 []
  refine qv_aload_n hk 0 rfl dX_pairsOf_0 rfl ?_
  refine qv_iconst (v := nI 0) hk dX_pairsOf_1 (by decide) ?_
  refine qv_iload_n hk 1 rfl dX_pairsOf_2 rfl ?_
  refine callXI (As := [.int (nI 0), .int (nI q)]) (rest := []) hk (qx_countOf l D a cI cZ S L hL 0 q (by omega) hq) gX_countOf (by decide) rfl rfl (Nat.le_of_ble_eq_true rfl) dX_pairsOf_3 (fun r3 S3 hw => ?_)
  obtain ⟨e1, e2⟩ := hw
  subst e1
  refine qv_state e2 ?_
  refine qv_aload_n hk 0 rfl dX_pairsOf_6 rfl ?_
  refine qv_iconst (v := nI 1) hk dX_pairsOf_7 (by decide) ?_
  refine qv_iload_n hk 1 rfl dX_pairsOf_8 rfl ?_
  refine callXI (As := [.int (nI 1), .int (nI q)]) (rest := [.int (nI (cK q (L 0)))]) hk (qx_countOf l D a cI cZ S L hL 1 q (by omega) hq) gX_countOf (by decide) rfl rfl (Nat.le_of_ble_eq_true rfl) dX_pairsOf_9 (fun r9 S9 hw => ?_)
  obtain ⟨e1, e2⟩ := hw
  subst e1
  refine qv_state e2 ?_
  refine qn_imul hk dX_pairsOf_12 ?_
  exact hret (nI ((cK q (L 0)) * (cK q (L 1)))) S [(0, .ref (a 0)), (1, .int (nI q))] 13 (⟨rfl, rfl⟩) rfl dX_pairsOf_13

set_option maxHeartbeats 4000000 in
set_option maxRecDepth 100000 in
theorem qx_isResult (l : Launch) (D : va_G) (a : Nat → Nat) (cI cZ : ClassId) (S : QS) (o : Nat) (hO : S 11 0 = nI o) (ho : o ≤ 16) (x : Int32) : MetI l yX_isResult wX_isResult rX_isResult D (qty cI cZ) (xw a cI cZ) S [.ref (a 0), .int x] (fun r S2 => ((r = 1 ∧ isN x o) ∨ (r = 0 ∧ ¬ isN x o)) ∧ S2 = S) := by
  refine MetI.of (cc := bX_isResult) (maxL := 2) (own := R_X) (by decide) rfl rfl (Nat.le_of_ble_eq_true rfl) (fun k hk hret => ?_)
  have hk : QK k bX_isResult R_X 2 rX_isResult l D (qty cI cZ) := hk
  show QV k (xw a cI cZ) S [(0, .ref (a 0)), (1, .int x)] 0 []
  refine qv_iload_n hk 1 rfl dX_isResult_0 rfl ?_
  refine qv_if_lt (tgt := 16) hk dX_isResult_1 (by decide) (fun h1 => ?_) (fun h1 => ?_)
  · refine qv_iconst (v := nI 0) hk dX_isResult_16 (by decide) ?_
    exact hret (nI 0) S [(0, .ref (a 0)), (1, .int x)] 17 (⟨Or.inr ⟨rfl, fun q => ((isN_of (by omega)).mp q).1 h1⟩, rfl⟩) rfl dX_isResult_17
  · refine qv_iload_n hk 1 rfl dX_isResult_4 rfl ?_
    refine qv_aload_n hk 0 rfl dX_isResult_5 rfl ?_
    refine gX_outputs hk dX_isResult_6 ?_
    refine qv_top (y := nI o) (hO) ?_
    refine qv_icmp_ge (tgt := 16) hk dX_isResult_9 (by decide) (fun h9 => ?_) (fun h9 => ?_)
    · refine qv_iconst (v := nI 0) hk dX_isResult_16 (by decide) ?_
      exact hret (nI 0) S [(0, .ref (a 0)), (1, .int x)] 17 (⟨Or.inr ⟨rfl, fun q => ((isN_of (by omega)).mp q).2 h9⟩, rfl⟩) rfl dX_isResult_17
    · refine qv_iconst (v := nI 1) hk dX_isResult_12 (by decide) ?_
      refine qv_goto (tgt := 17) hk dX_isResult_13 (by decide) ?_
      exact hret (nI 1) S [(0, .ref (a 0)), (1, .int x)] 17 (⟨Or.inl ⟨rfl, (isN_of (by omega)).mpr ⟨h1, h9⟩⟩, rfl⟩) rfl dX_isResult_17

set_option maxHeartbeats 4000000 in
set_option maxRecDepth 100000 in
theorem qx_resultKey (l : Launch) (D : va_G) (a : Nat → Nat) (cI cZ : ClassId) (S : QS) (o : Nat) (hO : S 11 0 = nI o) (ho : o ≤ 16) (x : Int32) : MetI l yX_resultKey wX_resultKey rX_resultKey D (qty cI cZ) (xw a cI cZ) S [.ref (a 0), .int x] (fun r S2 => qans x o (-1) (S 6) r ∧ S2 = S) := by
  refine MetI.of (cc := bX_resultKey) (maxL := 2) (own := R_X) (by decide) rfl rfl (Nat.le_of_ble_eq_true rfl) (fun k hk hret => ?_)
  have hk : QK k bX_resultKey R_X 2 rX_resultKey l D (qty cI cZ) := hk
  show QV k (xw a cI cZ) S [(0, .ref (a 0)), (1, .int x)] 0 []
  refine qv_aload_n hk 0 rfl dX_resultKey_0 rfl ?_
  refine qv_iload_n hk 1 rfl dX_resultKey_1 rfl ?_
  refine callXI (As := [.int x]) (rest := []) hk (qx_isResult l D a cI cZ S o hO ho x) gX_isResult (by decide) rfl rfl (Nat.le_of_ble_eq_true rfl) dX_resultKey_2 (fun r2 S2 hw => ?_)
  obtain ⟨hw, e2⟩ := hw
  refine qv_state e2 ?_
  rcases hw with ⟨rfl, i, hi, rfl⟩ | ⟨rfl, hi⟩
  · refine qv_if_eq (tgt := 17) hk dX_resultKey_5 (by decide) (fun h => absurd h (by decide)) (fun _ => ?_)
    refine qv_aload_n hk 0 rfl dX_resultKey_8 rfl ?_
    refine gX_outKey hk dX_resultKey_9 ?_
    refine qv_iload_n hk 1 rfl dX_resultKey_12 rfl ?_
    refine aX_outKey hk (by omega) dX_resultKey_13 ?_
    refine qv_goto (tgt := 18) hk dX_resultKey_14 (by decide) ?_
    exact hret (S 6 i) S [(0, .ref (a 0)), (1, .int (nI i))] 18 (⟨Or.inr ⟨i, hi, rfl, rfl⟩, rfl⟩) rfl dX_resultKey_18
  · refine qv_if_eq (tgt := 17) hk dX_resultKey_5 (by decide) (fun _ => ?_) (fun h => absurd h (by decide))
    refine qv_iconst (v := -1) hk dX_resultKey_17 (by decide) ?_
    exact hret ((-1)) S [(0, .ref (a 0)), (1, .int x)] 18 (⟨Or.inl ⟨hi, rfl⟩, rfl⟩) rfl dX_resultKey_18

set_option maxHeartbeats 4000000 in
set_option maxRecDepth 100000 in
theorem qx_resultPairs (l : Launch) (D : va_G) (a : Nat → Nat) (cI cZ : ClassId) (S : QS) (o : Nat) (hO : S 11 0 = nI o) (ho : o ≤ 16) (x : Int32) : MetI l yX_resultPairs wX_resultPairs rX_resultPairs D (qty cI cZ) (xw a cI cZ) S [.ref (a 0), .int x] (fun r S2 => qans x o (-1) (S 7) r ∧ S2 = S) := by
  refine MetI.of (cc := bX_resultPairs) (maxL := 2) (own := R_X) (by decide) rfl rfl (Nat.le_of_ble_eq_true rfl) (fun k hk hret => ?_)
  have hk : QK k bX_resultPairs R_X 2 rX_resultPairs l D (qty cI cZ) := hk
  show QV k (xw a cI cZ) S [(0, .ref (a 0)), (1, .int x)] 0 []
  refine qv_aload_n hk 0 rfl dX_resultPairs_0 rfl ?_
  refine qv_iload_n hk 1 rfl dX_resultPairs_1 rfl ?_
  refine callXI (As := [.int x]) (rest := []) hk (qx_isResult l D a cI cZ S o hO ho x) gX_isResult (by decide) rfl rfl (Nat.le_of_ble_eq_true rfl) dX_resultPairs_2 (fun r2 S2 hw => ?_)
  obtain ⟨hw, e2⟩ := hw
  refine qv_state e2 ?_
  rcases hw with ⟨rfl, i, hi, rfl⟩ | ⟨rfl, hi⟩
  · refine qv_if_eq (tgt := 17) hk dX_resultPairs_5 (by decide) (fun h => absurd h (by decide)) (fun _ => ?_)
    refine qv_aload_n hk 0 rfl dX_resultPairs_8 rfl ?_
    refine gX_outPairs hk dX_resultPairs_9 ?_
    refine qv_iload_n hk 1 rfl dX_resultPairs_12 rfl ?_
    refine aX_outPairs hk (by omega) dX_resultPairs_13 ?_
    refine qv_goto (tgt := 18) hk dX_resultPairs_14 (by decide) ?_
    exact hret (S 7 i) S [(0, .ref (a 0)), (1, .int (nI i))] 18 (⟨Or.inr ⟨i, hi, rfl, rfl⟩, rfl⟩) rfl dX_resultPairs_18
  · refine qv_if_eq (tgt := 17) hk dX_resultPairs_5 (by decide) (fun _ => ?_) (fun h => absurd h (by decide))
    refine qv_iconst (v := -1) hk dX_resultPairs_17 (by decide) ?_
    exact hret ((-1)) S [(0, .ref (a 0)), (1, .int x)] 18 (⟨Or.inl ⟨hi, rfl⟩, rfl⟩) rfl dX_resultPairs_18

set_option maxHeartbeats 4000000 in
set_option maxRecDepth 100000 in
theorem qx_resultSum (l : Launch) (D : va_G) (a : Nat → Nat) (cI cZ : ClassId) (S : QS) (o : Nat) (hO : S 11 0 = nI o) (ho : o ≤ 16) (x : Int32) : MetI l yX_resultSum wX_resultSum rX_resultSum D (qty cI cZ) (xw a cI cZ) S [.ref (a 0), .int x] (fun r S2 => qans x o (0) (S 8) r ∧ S2 = S) := by
  refine MetI.of (cc := bX_resultSum) (maxL := 2) (own := R_X) (by decide) rfl rfl (Nat.le_of_ble_eq_true rfl) (fun k hk hret => ?_)
  have hk : QK k bX_resultSum R_X 2 rX_resultSum l D (qty cI cZ) := hk
  show QV k (xw a cI cZ) S [(0, .ref (a 0)), (1, .int x)] 0 []
  refine qv_aload_n hk 0 rfl dX_resultSum_0 rfl ?_
  refine qv_iload_n hk 1 rfl dX_resultSum_1 rfl ?_
  refine callXI (As := [.int x]) (rest := []) hk (qx_isResult l D a cI cZ S o hO ho x) gX_isResult (by decide) rfl rfl (Nat.le_of_ble_eq_true rfl) dX_resultSum_2 (fun r2 S2 hw => ?_)
  obtain ⟨hw, e2⟩ := hw
  refine qv_state e2 ?_
  rcases hw with ⟨rfl, i, hi, rfl⟩ | ⟨rfl, hi⟩
  · refine qv_if_eq (tgt := 17) hk dX_resultSum_5 (by decide) (fun h => absurd h (by decide)) (fun _ => ?_)
    refine qv_aload_n hk 0 rfl dX_resultSum_8 rfl ?_
    refine gX_outSum hk dX_resultSum_9 ?_
    refine qv_iload_n hk 1 rfl dX_resultSum_12 rfl ?_
    refine aX_outSum hk (by omega) dX_resultSum_13 ?_
    refine qv_goto (tgt := 18) hk dX_resultSum_14 (by decide) ?_
    exact hret (S 8 i) S [(0, .ref (a 0)), (1, .int (nI i))] 18 (⟨Or.inr ⟨i, hi, rfl, rfl⟩, rfl⟩) rfl dX_resultSum_18
  · refine qv_if_eq (tgt := 17) hk dX_resultSum_5 (by decide) (fun _ => ?_) (fun h => absurd h (by decide))
    refine qv_iconst (v := nI 0) hk dX_resultSum_17 (by decide) ?_
    exact hret (nI 0) S [(0, .ref (a 0)), (1, .int x)] 18 (⟨Or.inl ⟨hi, rfl⟩, rfl⟩) rfl dX_resultSum_18

set_option maxHeartbeats 4000000 in
set_option maxRecDepth 100000 in
theorem qx_resultLeast (l : Launch) (D : va_G) (a : Nat → Nat) (cI cZ : ClassId) (S : QS) (o : Nat) (hO : S 11 0 = nI o) (ho : o ≤ 16) (x : Int32) : MetI l yX_resultLeast wX_resultLeast rX_resultLeast D (qty cI cZ) (xw a cI cZ) S [.ref (a 0), .int x] (fun r S2 => qans x o (0) (S 9) r ∧ S2 = S) := by
  refine MetI.of (cc := bX_resultLeast) (maxL := 2) (own := R_X) (by decide) rfl rfl (Nat.le_of_ble_eq_true rfl) (fun k hk hret => ?_)
  have hk : QK k bX_resultLeast R_X 2 rX_resultLeast l D (qty cI cZ) := hk
  show QV k (xw a cI cZ) S [(0, .ref (a 0)), (1, .int x)] 0 []
  refine qv_aload_n hk 0 rfl dX_resultLeast_0 rfl ?_
  refine qv_iload_n hk 1 rfl dX_resultLeast_1 rfl ?_
  refine callXI (As := [.int x]) (rest := []) hk (qx_isResult l D a cI cZ S o hO ho x) gX_isResult (by decide) rfl rfl (Nat.le_of_ble_eq_true rfl) dX_resultLeast_2 (fun r2 S2 hw => ?_)
  obtain ⟨hw, e2⟩ := hw
  refine qv_state e2 ?_
  rcases hw with ⟨rfl, i, hi, rfl⟩ | ⟨rfl, hi⟩
  · refine qv_if_eq (tgt := 17) hk dX_resultLeast_5 (by decide) (fun h => absurd h (by decide)) (fun _ => ?_)
    refine qv_aload_n hk 0 rfl dX_resultLeast_8 rfl ?_
    refine gX_outLeast hk dX_resultLeast_9 ?_
    refine qv_iload_n hk 1 rfl dX_resultLeast_12 rfl ?_
    refine aX_outLeast hk (by omega) dX_resultLeast_13 ?_
    refine qv_goto (tgt := 18) hk dX_resultLeast_14 (by decide) ?_
    exact hret (S 9 i) S [(0, .ref (a 0)), (1, .int (nI i))] 18 (⟨Or.inr ⟨i, hi, rfl, rfl⟩, rfl⟩) rfl dX_resultLeast_18
  · refine qv_if_eq (tgt := 17) hk dX_resultLeast_5 (by decide) (fun _ => ?_) (fun h => absurd h (by decide))
    refine qv_iconst (v := nI 0) hk dX_resultLeast_17 (by decide) ?_
    exact hret (nI 0) S [(0, .ref (a 0)), (1, .int x)] 18 (⟨Or.inl ⟨hi, rfl⟩, rfl⟩) rfl dX_resultLeast_18

set_option maxHeartbeats 4000000 in
set_option maxRecDepth 100000 in
theorem qx_resultGreatest (l : Launch) (D : va_G) (a : Nat → Nat) (cI cZ : ClassId) (S : QS) (o : Nat) (hO : S 11 0 = nI o) (ho : o ≤ 16) (x : Int32) : MetI l yX_resultGreatest wX_resultGreatest rX_resultGreatest D (qty cI cZ) (xw a cI cZ) S [.ref (a 0), .int x] (fun r S2 => qans x o (0) (S 10) r ∧ S2 = S) := by
  refine MetI.of (cc := bX_resultGreatest) (maxL := 2) (own := R_X) (by decide) rfl rfl (Nat.le_of_ble_eq_true rfl) (fun k hk hret => ?_)
  have hk : QK k bX_resultGreatest R_X 2 rX_resultGreatest l D (qty cI cZ) := hk
  show QV k (xw a cI cZ) S [(0, .ref (a 0)), (1, .int x)] 0 []
  refine qv_aload_n hk 0 rfl dX_resultGreatest_0 rfl ?_
  refine qv_iload_n hk 1 rfl dX_resultGreatest_1 rfl ?_
  refine callXI (As := [.int x]) (rest := []) hk (qx_isResult l D a cI cZ S o hO ho x) gX_isResult (by decide) rfl rfl (Nat.le_of_ble_eq_true rfl) dX_resultGreatest_2 (fun r2 S2 hw => ?_)
  obtain ⟨hw, e2⟩ := hw
  refine qv_state e2 ?_
  rcases hw with ⟨rfl, i, hi, rfl⟩ | ⟨rfl, hi⟩
  · refine qv_if_eq (tgt := 17) hk dX_resultGreatest_5 (by decide) (fun h => absurd h (by decide)) (fun _ => ?_)
    refine qv_aload_n hk 0 rfl dX_resultGreatest_8 rfl ?_
    refine gX_outGreatest hk dX_resultGreatest_9 ?_
    refine qv_iload_n hk 1 rfl dX_resultGreatest_12 rfl ?_
    refine aX_outGreatest hk (by omega) dX_resultGreatest_13 ?_
    refine qv_goto (tgt := 18) hk dX_resultGreatest_14 (by decide) ?_
    exact hret (S 10 i) S [(0, .ref (a 0)), (1, .int (nI i))] 18 (⟨Or.inr ⟨i, hi, rfl, rfl⟩, rfl⟩) rfl dX_resultGreatest_18
  · refine qv_if_eq (tgt := 17) hk dX_resultGreatest_5 (by decide) (fun _ => ?_) (fun h => absurd h (by decide))
    refine qv_iconst (v := nI 0) hk dX_resultGreatest_17 (by decide) ?_
    exact hret (nI 0) S [(0, .ref (a 0)), (1, .int x)] 18 (⟨Or.inl ⟨hi, rfl⟩, rfl⟩) rfl dX_resultGreatest_18

set_option maxHeartbeats 4000000 in
set_option maxRecDepth 100000 in
theorem qx_results (l : Launch) (D : va_G) (a : Nat → Nat) (cI cZ : ClassId) (S : QS) : MetI l yX_results wX_results rX_results D (qty cI cZ) (xw a cI cZ) S [.ref (a 0)] (fun r S2 => r = S 11 0 ∧ S2 = S) := by
  refine MetI.of (cc := bX_results) (maxL := 1) (own := R_X) (by decide) rfl rfl (Nat.le_of_ble_eq_true rfl) (fun k hk hret => ?_)
  have hk : QK k bX_results R_X 1 rX_results l D (qty cI cZ) := hk
  show QV k (xw a cI cZ) S [(0, .ref (a 0))] 0 []
  refine qv_aload_n hk 0 rfl dX_results_0 rfl ?_
  refine gX_outputs hk dX_results_1 ?_
  exact hret (S 11 0) S [(0, .ref (a 0))] 4 (⟨rfl, rfl⟩) rfl dX_results_4

set_option maxHeartbeats 4000000 in
set_option maxRecDepth 100000 in
theorem qx_held (l : Launch) (D : va_G) (a : Nat → Nat) (cI cZ : ClassId) (S : QS) (L : QL) (hL : XR S L) (x1 : Int32) : MetI l yX_held wX_held rX_held D (qty cI cZ) (xw a cI cZ) S [.ref (a 0), .int x1] (fun r S2 => qans x1 2 (-1) (fun st => nI (L st).length) r ∧ S2 = S) := by
  refine MetI.of (cc := bX_held) (maxL := 2) (own := R_X) (by decide) rfl rfl (Nat.le_of_ble_eq_true rfl) (fun k hk hret => ?_)
  have hk : QK k bX_held R_X 2 rX_held l D (qty cI cZ) := hk
  show QV k (xw a cI cZ) S [(0, .ref (a 0)), (1, .int x1)] 0 []
  refine qv_iload_n hk 1 rfl dX_held_0 rfl ?_
  refine callSX (As := [.int x1]) (rest := []) hk (qx_isStream l D a cI cZ x1) gX_isStream (by decide) rfl rfl (Nat.le_of_ble_eq_true rfl) dX_held_1 (fun r1 hw1 => ?_)
  rcases hw1 with ⟨rfl, st, hst, rfl⟩ | ⟨rfl, hst⟩
  · refine qv_if_eq (tgt := 16) hk dX_held_4 (by decide) (fun h => absurd h (by decide)) (fun _ => ?_)
    refine qv_aload_n hk 0 rfl dX_held_7 rfl ?_
    refine gX_sizes hk dX_held_8 ?_
    refine qv_iload_n hk 1 rfl dX_held_11 rfl ?_
    refine aX_sizes hk (by omega) dX_held_12 ?_
    refine qv_top (y := nI ((L st).length)) ((hL st hst).2.1) ?_
    refine qv_goto (tgt := 17) hk dX_held_13 (by decide) ?_
    exact hret (nI ((L st).length)) S [(0, .ref (a 0)), (1, .int (nI st))] 17 (⟨Or.inr ⟨st, hst, rfl, rfl⟩, rfl⟩) rfl dX_held_17
  · refine qv_if_eq (tgt := 16) hk dX_held_4 (by decide) (fun _ => ?_) (fun h => absurd h (by decide))
    refine qv_iconst (v := -1) hk dX_held_16 (by decide) ?_
    exact hret ((-1)) S [(0, .ref (a 0)), (1, .int x1)] 17 (⟨Or.inl ⟨hst, rfl⟩, rfl⟩) rfl dX_held_17

set_option maxHeartbeats 4000000 in
set_option maxRecDepth 100000 in
theorem qx_heldWith (l : Launch) (D : va_G) (a : Nat → Nat) (cI cZ : ClassId) (S : QS) (L : QL) (hL : XR S L) (x1 x2 : Int32) : MetI l yX_heldWith wX_heldWith rX_heldWith D (qty cI cZ) (xw a cI cZ) S [.ref (a 0), .int x1, .int x2] (fun r S2 => qans2 x1 x2 (fun st q => nI (cK q (L st))) r ∧ S2 = S) := by
  refine MetI.of (cc := bX_heldWith) (maxL := 3) (own := R_X) (by decide) rfl rfl (Nat.le_of_ble_eq_true rfl) (fun k hk hret => ?_)
  have hk : QK k bX_heldWith R_X 3 rX_heldWith l D (qty cI cZ) := hk
  show QV k (xw a cI cZ) S [(0, .ref (a 0)), (1, .int x1), (2, .int x2)] 0 []
  refine qv_iload_n hk 1 rfl dX_heldWith_0 rfl ?_
  refine callSX (As := [.int x1]) (rest := []) hk (qx_isStream l D a cI cZ x1) gX_isStream (by decide) rfl rfl (Nat.le_of_ble_eq_true rfl) dX_heldWith_1 (fun r1 hw1 => ?_)
  rcases hw1 with ⟨rfl, st, hst, rfl⟩ | ⟨rfl, hst⟩
  · refine qv_if_ne (tgt := 9) hk dX_heldWith_4 (by decide) (fun _ => ?_) (fun h => absurd h (by decide))
    refine qv_iload_n hk 2 rfl dX_heldWith_9 rfl ?_
    refine callSX (As := [.int x2]) (rest := []) hk (qx_isKey l D a cI cZ x2) gX_isKey (by decide) rfl rfl (Nat.le_of_ble_eq_true rfl) dX_heldWith_10 (fun r10 hw10 => ?_)
    rcases hw10 with ⟨rfl, q, hq, rfl⟩ | ⟨rfl, hq⟩
    · refine qv_if_eq (tgt := 25) hk dX_heldWith_13 (by decide) (fun h => absurd h (by decide)) (fun _ => ?_)
      refine qv_aload_n hk 0 rfl dX_heldWith_16 rfl ?_
      refine qv_iload_n hk 1 rfl dX_heldWith_17 rfl ?_
      refine qv_iload_n hk 2 rfl dX_heldWith_18 rfl ?_
      refine callXI (As := [.int (nI st), .int (nI q)]) (rest := []) hk (qx_countOf l D a cI cZ S L hL st q hst hq) gX_countOf (by decide) rfl rfl (Nat.le_of_ble_eq_true rfl) dX_heldWith_19 (fun r19 S19 hw => ?_)
      obtain ⟨e1, e2⟩ := hw
      subst e1
      refine qv_state e2 ?_
      refine qv_goto (tgt := 27) hk dX_heldWith_22 (by decide) ?_
      exact hret (nI (cK q (L st))) S [(0, .ref (a 0)), (1, .int (nI st)), (2, .int (nI q))] 27 (⟨Or.inr (Or.inr ⟨st, q, hst, hq, rfl, rfl, rfl⟩), rfl⟩) rfl dX_heldWith_27
    · refine qv_if_eq (tgt := 25) hk dX_heldWith_13 (by decide) (fun _ => ?_) (fun h => absurd h (by decide))
      refine qv_bipush (v := -2) hk dX_heldWith_25 (by decide) ?_
      exact hret ((-2)) S [(0, .ref (a 0)), (1, .int (nI st)), (2, .int x2)] 27 (⟨Or.inr (Or.inl ⟨⟨st, hst, rfl⟩, hq, rfl⟩), rfl⟩) rfl dX_heldWith_27
  · refine qv_if_ne (tgt := 9) hk dX_heldWith_4 (by decide) (fun h => absurd h (by decide)) (fun _ => ?_)
    refine qv_iconst (v := -1) hk dX_heldWith_7 (by decide) ?_
    exact hret ((-1)) S [(0, .ref (a 0)), (1, .int x1), (2, .int x2)] 8 (⟨Or.inl ⟨hst, rfl⟩, rfl⟩) rfl dX_heldWith_8

set_option maxHeartbeats 4000000 in
set_option maxRecDepth 100000 in
theorem qx_closed (l : Launch) (D : va_G) (a : Nat → Nat) (cI cZ : ClassId) (S : QS) (x1 x2 : Int32) : MetI l yX_closed wX_closed rX_closed D (qty cI cZ) (xw a cI cZ) S [.ref (a 0), .int x1, .int x2] (fun r S2 => qans2 x1 x2 (fun st q => if S 5 (16 * st + q) = 0 then 0 else 1) r ∧ S2 = S) := by
  refine MetI.of (cc := bX_closed) (maxL := 3) (own := R_X) (by decide) rfl rfl (Nat.le_of_ble_eq_true rfl) (fun k hk hret => ?_)
  have hk : QK k bX_closed R_X 3 rX_closed l D (qty cI cZ) := hk
  show QV k (xw a cI cZ) S [(0, .ref (a 0)), (1, .int x1), (2, .int x2)] 0 []
  refine qv_iload_n hk 1 rfl dX_closed_0 rfl ?_
  refine callSX (As := [.int x1]) (rest := []) hk (qx_isStream l D a cI cZ x1) gX_isStream (by decide) rfl rfl (Nat.le_of_ble_eq_true rfl) dX_closed_1 (fun r1 hw1 => ?_)
  rcases hw1 with ⟨rfl, st, hst, rfl⟩ | ⟨rfl, hst⟩
  · refine qv_if_ne (tgt := 9) hk dX_closed_4 (by decide) (fun _ => ?_) (fun h => absurd h (by decide))
    refine qv_iload_n hk 2 rfl dX_closed_9 rfl ?_
    refine callSX (As := [.int x2]) (rest := []) hk (qx_isKey l D a cI cZ x2) gX_isKey (by decide) rfl rfl (Nat.le_of_ble_eq_true rfl) dX_closed_10 (fun r10 hw10 => ?_)
    rcases hw10 with ⟨rfl, q, hq, rfl⟩ | ⟨rfl, hq⟩
    · refine qv_if_ne (tgt := 19) hk dX_closed_13 (by decide) (fun _ => ?_) (fun h => absurd h (by decide))
      refine qv_aload_n hk 0 rfl dX_closed_19 rfl ?_
      refine gX_shut hk dX_closed_20 ?_
      refine qv_bipush (v := nI 16) hk dX_closed_23 (by decide) ?_
      refine qv_iload_n hk 1 rfl dX_closed_25 rfl ?_
      refine qn_imul hk dX_closed_26 ?_
      refine qv_iload_n hk 2 rfl dX_closed_27 rfl ?_
      refine qn_iadd hk dX_closed_28 ?_
      refine aX_shut hk (by omega) dX_closed_29 ?_
      refine qv_if_eq (tgt := 37) hk dX_closed_30 (by decide) (fun h30 => ?_) (fun h30 => ?_)
      · refine qv_iconst (v := nI 0) hk dX_closed_37 (by decide) ?_
        exact hret (nI 0) S [(0, .ref (a 0)), (1, .int (nI st)), (2, .int (nI q))] 38 (⟨Or.inr (Or.inr ⟨st, q, hst, hq, rfl, rfl, (if_pos h30).symm⟩), rfl⟩) rfl dX_closed_38
      · refine qv_iconst (v := nI 1) hk dX_closed_33 (by decide) ?_
        refine qv_goto (tgt := 38) hk dX_closed_34 (by decide) ?_
        exact hret (nI 1) S [(0, .ref (a 0)), (1, .int (nI st)), (2, .int (nI q))] 38 (⟨Or.inr (Or.inr ⟨st, q, hst, hq, rfl, rfl, (if_neg h30).symm⟩), rfl⟩) rfl dX_closed_38
    · refine qv_if_ne (tgt := 19) hk dX_closed_13 (by decide) (fun h => absurd h (by decide)) (fun _ => ?_)
      refine qv_bipush (v := -2) hk dX_closed_16 (by decide) ?_
      exact hret ((-2)) S [(0, .ref (a 0)), (1, .int (nI st)), (2, .int x2)] 18 (⟨Or.inr (Or.inl ⟨⟨st, hst, rfl⟩, hq, rfl⟩), rfl⟩) rfl dX_closed_18
  · refine qv_if_ne (tgt := 9) hk dX_closed_4 (by decide) (fun h => absurd h (by decide)) (fun _ => ?_)
    refine qv_iconst (v := -1) hk dX_closed_7 (by decide) ?_
    exact hret ((-1)) S [(0, .ref (a 0)), (1, .int x1), (2, .int x2)] 8 (⟨Or.inl ⟨hst, rfl⟩, rfl⟩) rfl dX_closed_8

set_option maxHeartbeats 4000000 in
set_option maxRecDepth 100000 in
theorem qx_pairs (l : Launch) (D : va_G) (a : Nat → Nat) (cI cZ : ClassId) (S : QS) (L : QL) (hL : XR S L) (x : Int32) : MetI l yX_pairs wX_pairs rX_pairs D (qty cI cZ) (xw a cI cZ) S [.ref (a 0), .int x] (fun r S2 => qans x 16 (-1) (fun q => nI (cK q (L 0) * cK q (L 1))) r ∧ S2 = S) := by
  refine MetI.of (cc := bX_pairs) (maxL := 2) (own := R_X) (by decide) rfl rfl (Nat.le_of_ble_eq_true rfl) (fun k hk hret => ?_)
  have hk : QK k bX_pairs R_X 2 rX_pairs l D (qty cI cZ) := hk
  show QV k (xw a cI cZ) S [(0, .ref (a 0)), (1, .int x)] 0 []
  refine qv_iload_n hk 1 rfl dX_pairs_0 rfl ?_
  refine callSX (As := [.int x]) (rest := []) hk (qx_isKey l D a cI cZ x) gX_isKey (by decide) rfl rfl (Nat.le_of_ble_eq_true rfl) dX_pairs_1 (fun r1 hw1 => ?_)
  rcases hw1 with ⟨rfl, q, hq, rfl⟩ | ⟨rfl, hq⟩
  · refine qv_if_eq (tgt := 15) hk dX_pairs_4 (by decide) (fun h => absurd h (by decide)) (fun _ => ?_)
    refine qv_aload_n hk 0 rfl dX_pairs_7 rfl ?_
    refine qv_iload_n hk 1 rfl dX_pairs_8 rfl ?_
    refine callXI (As := [.int (nI q)]) (rest := []) hk (qx_pairsOf l D a cI cZ S L hL q hq) gX_pairsOf (by decide) rfl rfl (Nat.le_of_ble_eq_true rfl) dX_pairs_9 (fun r9 S9 hw => ?_)
    obtain ⟨e1, e2⟩ := hw
    subst e1
    refine qv_state e2 ?_
    refine qv_goto (tgt := 16) hk dX_pairs_12 (by decide) ?_
    exact hret (nI (cK q (L 0) * cK q (L 1))) S [(0, .ref (a 0)), (1, .int (nI q))] 16 (⟨Or.inr ⟨q, hq, rfl, rfl⟩, rfl⟩) rfl dX_pairs_16
  · refine qv_if_eq (tgt := 15) hk dX_pairs_4 (by decide) (fun _ => ?_) (fun h => absurd h (by decide))
    refine qv_iconst (v := -1) hk dX_pairs_15 (by decide) ?_
    exact hret ((-1)) S [(0, .ref (a 0)), (1, .int x)] 16 (⟨Or.inl ⟨hq, rfl⟩, rfl⟩) rfl dX_pairs_16

set_option maxHeartbeats 4000000 in
set_option maxRecDepth 100000 in
theorem qx_sum (l : Launch) (D : va_G) (a : Nat → Nat) (cI cZ : ClassId) (S : QS) (L : QL) (hL : XR S L) (x : Int32) : MetI l yX_sum wX_sum rX_sum D (qty cI cZ) (xw a cI cZ) S [.ref (a 0), .int x] (fun r S2 => qans x 16 0 (fun q => sK q (L 0) * sK q (L 1)) r ∧ S2 = S) := by
  refine MetI.of (cc := bX_sum) (maxL := 2) (own := R_X) (by decide) rfl rfl (Nat.le_of_ble_eq_true rfl) (fun k hk hret => ?_)
  have hk : QK k bX_sum R_X 2 rX_sum l D (qty cI cZ) := hk
  show QV k (xw a cI cZ) S [(0, .ref (a 0)), (1, .int x)] 0 []
  refine qv_iload_n hk 1 rfl dX_sum_0 rfl ?_
  refine callSX (As := [.int x]) (rest := []) hk (qx_isKey l D a cI cZ x) gX_isKey (by decide) rfl rfl (Nat.le_of_ble_eq_true rfl) dX_sum_1 (fun r1 hw1 => ?_)
  rcases hw1 with ⟨rfl, q, hq, rfl⟩ | ⟨rfl, hq⟩
  · refine qv_if_eq (tgt := 26) hk dX_sum_4 (by decide) (fun h => absurd h (by decide)) (fun _ => ?_)
    refine qv_aload_n hk 0 rfl dX_sum_7 rfl ?_
    refine gX_sums hk dX_sum_8 ?_
    refine qv_iload_n hk 1 rfl dX_sum_11 rfl ?_
    refine aX_sums hk (by omega) dX_sum_12 ?_
    refine qv_top (y := sK q (L 0)) (by simpa using (hL 0 (by omega)).2.2.2.2.2.2 q hq) ?_
    refine qv_aload_n hk 0 rfl dX_sum_13 rfl ?_
    refine gX_sums hk dX_sum_14 ?_
    refine qv_bipush (v := nI 16) hk dX_sum_17 (by decide) ?_
    refine qv_iload_n hk 1 rfl dX_sum_19 rfl ?_
    refine qn_iadd hk dX_sum_20 ?_
    refine aX_sums hk (by omega) dX_sum_21 ?_
    refine qv_top (y := sK q (L 1)) (by simpa using (hL 1 (by omega)).2.2.2.2.2.2 q hq) ?_
    refine qv_imul hk dX_sum_22 ?_
    refine qv_goto (tgt := 27) hk dX_sum_23 (by decide) ?_
    exact hret ((sK q (L 0)) * (sK q (L 1))) S [(0, .ref (a 0)), (1, .int (nI q))] 27 (⟨Or.inr ⟨q, hq, rfl, rfl⟩, rfl⟩) rfl dX_sum_27
  · refine qv_if_eq (tgt := 26) hk dX_sum_4 (by decide) (fun _ => ?_) (fun h => absurd h (by decide))
    refine qv_iconst (v := nI 0) hk dX_sum_26 (by decide) ?_
    exact hret (nI 0) S [(0, .ref (a 0)), (1, .int x)] 27 (⟨Or.inl ⟨hq, rfl⟩, rfl⟩) rfl dX_sum_27

set_option maxHeartbeats 4000000 in
set_option maxRecDepth 100000 in
theorem qx_shiftBegins (l : Launch) (D : va_G) (a : Nat → Nat) (cI cZ : ClassId) (S : QS) (st q : Nat) (hst : st < 2) (hq : q < 16) (d : Int32) : MetN l yX_shiftBegins wX_shiftBegins rX_shiftBegins D (qty cI cZ) (xw a cI cZ) S [.ref (a 0), .int (nI st), .int (nI q), .int d] (fun S2 => S2 = shB S st q d 17) := by
  refine MetN.of (cc := bX_shiftBegins) (maxL := 5) (own := R_X) (by decide) rfl rfl (Nat.le_of_ble_eq_true rfl) (fun k hk hret => ?_)
  have hk : QK k bX_shiftBegins R_X 5 rX_shiftBegins l D (qty cI cZ) := hk
  show QV k (xw a cI cZ) S [(0, .ref (a 0)), (1, .int (nI st)), (2, .int (nI q)), (3, .int d)] 0 []
  refine qv_iload_n hk 2 rfl dX_shiftBegins_0 rfl ?_
  refine qv_iconst (v := nI 1) hk dX_shiftBegins_1 (by decide) ?_
  refine qn_iadd hk dX_shiftBegins_2 ?_
  refine qv_istore (lv' := [(4, .int (nI (q + 1))), (0, .ref (a 0)), (1, .int (nI st)), (2, .int (nI q)), (3, .int d)]) hk dX_shiftBegins_3 (by decide) rfl ?_
  have L5 : ∀ (n5 : Nat) (j : Nat) (S1 : QS), 17 - j < n5 → (q + 1 ≤ j) → (j ≤ 17) → (S1 = shB S st q d j) → QV k (xw a cI cZ) (S1) [(0, .ref (a 0)), (1, .int (nI st)), (3, .int d), (4, .int (nI j))] 5 [] := by
    intro n5
    induction n5 with
    | zero => intro j S1 hm; exact absurd hm (Nat.not_lt_zero _)
    | succ n5 ih5 =>
      intro j S1 hm5 hj1 hj2 hS1
      refine qv_iload hk 3 rfl dX_shiftBegins_5 ?_
      refine qv_bipush (v := nI 16) hk dX_shiftBegins_7 (by decide) ?_
      refine qn_icmp_gt (tgt := 34) hk (by omega) (by omega) dX_shiftBegins_9 (by decide) (fun h9 => ?_) (fun h9 => ?_)
      · exact hret S1 [(0, .ref (a 0)), (1, .int (nI st)), (3, .int d), (4, .int (nI j))] 34 (by rw [hS1, show j = 17 by omega]) dX_shiftBegins_34
      · refine qv_aload_n hk 0 rfl dX_shiftBegins_12 rfl ?_
        refine gX_begin hk dX_shiftBegins_13 ?_
        refine qv_bipush (v := nI 17) hk dX_shiftBegins_16 (by decide) ?_
        refine qv_iload_n hk 1 rfl dX_shiftBegins_18 rfl ?_
        refine qn_imul hk dX_shiftBegins_19 ?_
        refine qv_iload hk 3 rfl dX_shiftBegins_20 ?_
        refine qn_iadd hk dX_shiftBegins_22 ?_
        refine qv_dup2 hk dX_shiftBegins_23 rfl rfl ?_
        refine aX_begin hk (by omega) dX_shiftBegins_24 ?_
        refine qv_iload_n hk 2 rfl dX_shiftBegins_25 rfl ?_
        refine qv_iadd hk dX_shiftBegins_26 ?_
        refine sX_begin hk (by omega) dX_shiftBegins_27 ?_
        refine qv_iinc (v := nI (j + 1)) (lv' := [(4, .int (nI (j + 1))), (0, .ref (a 0)), (1, .int (nI st)), (3, .int d)]) hk 3 rfl dX_shiftBegins_28 (qn_inc _) (by decide) rfl ?_
        refine qv_goto (tgt := 5) hk dX_shiftBegins_31 (by decide) ?_
        refine qv_sub [1, 2, 3, 0] rfl ?_
        exact ih5 (j + 1) ((up2 S1 3 ((17 * st) + j) ((S1 3 ((17 * st) + j)) + d))) (by omega) (by omega) (by omega) (by rw [hS1]; exact shB_step S st q d hj1)
  refine qv_sub [1, 2, 4, 0] rfl ?_
  exact L5 _ (q + 1) S (Nat.lt_succ_self _) (Nat.le_refl _) (by omega) (shB_0 S st q d)

set_option maxHeartbeats 4000000 in
set_option maxRecDepth 100000 in
theorem qx_place (l : Launch) (D : va_G) (a : Nat → Nat) (cI cZ : ClassId) (S : QS) (L : QL) (hL : XR S L) (st q : Nat) (hst : st < 2) (hq : q < 16) (v : Int32) : MetI l yX_place wX_place rX_place D (qty cI cZ) (xw a cI cZ) S [.ref (a 0), .int (nI st), .int (nI q), .int v] (fun r S2 => r = nI (40 * st + cP q v (L st)) ∧ S2 = S) := by
  refine MetI.of (cc := bX_place) (maxL := 8) (own := R_X) (by decide) rfl rfl (Nat.le_of_ble_eq_true rfl) (fun k hk hret => ?_)
  have hk : QK k bX_place R_X 8 rX_place l D (qty cI cZ) := hk
  have hx := hL st hst
  have hB := hx.2.2.2.2.2.1
  have h40 := hx.1
  have c1 := cL_le (q + 1) (L st)
  have c2 := cP_lo q v (L st)
  have c3 := cP_hi q v (L st)
  show QV k (xw a cI cZ) S [(0, .ref (a 0)), (1, .int (nI st)), (2, .int (nI q)), (3, .int v)] 0 []
  refine qv_bipush (v := nI 40) hk dX_place_0 (by decide) ?_
  refine qv_iload_n hk 1 rfl dX_place_2 rfl ?_
  refine qn_imul hk dX_place_3 ?_
  refine qv_aload_n hk 0 rfl dX_place_4 rfl ?_
  refine gX_begin hk dX_place_5 ?_
  refine qv_bipush (v := nI 17) hk dX_place_8 (by decide) ?_
  refine qv_iload_n hk 1 rfl dX_place_10 rfl ?_
  refine qn_imul hk dX_place_11 ?_
  refine qv_iload_n hk 2 rfl dX_place_12 rfl ?_
  refine qn_iadd hk dX_place_13 ?_
  refine aX_begin hk (by omega) dX_place_14 ?_
  refine qv_top (y := nI (cL q (L st))) (hB q (by omega)) ?_
  refine qn_iadd hk dX_place_15 ?_
  refine qv_istore (lv' := [(4, .int (nI ((40 * st) + (cL q (L st))))), (0, .ref (a 0)), (1, .int (nI st)), (2, .int (nI q)), (3, .int v)]) hk dX_place_16 (by decide) rfl ?_
  refine qv_bipush (v := nI 40) hk dX_place_18 (by decide) ?_
  refine qv_iload_n hk 2 rfl dX_place_20 rfl ?_
  refine qn_imul hk dX_place_21 ?_
  refine qv_aload_n hk 1 rfl dX_place_22 rfl ?_
  refine gX_begin hk dX_place_23 ?_
  refine qv_bipush (v := nI 17) hk dX_place_26 (by decide) ?_
  refine qv_iload_n hk 2 rfl dX_place_28 rfl ?_
  refine qn_imul hk dX_place_29 ?_
  refine qv_iload_n hk 3 rfl dX_place_30 rfl ?_
  refine qn_iadd hk dX_place_31 ?_
  refine qv_iconst (v := nI 1) hk dX_place_32 (by decide) ?_
  refine qn_iadd hk dX_place_33 ?_
  refine aX_begin hk (by omega) dX_place_34 ?_
  refine qv_top (y := nI (cL (q + 1) (L st))) (hB (q + 1) (by omega)) ?_
  refine qn_iadd hk dX_place_35 ?_
  refine qv_istore (lv' := [(5, .int (nI ((40 * st) + (cL (q + 1) (L st))))), (4, .int (nI ((40 * st) + (cL q (L st))))), (0, .ref (a 0)), (1, .int (nI st)), (2, .int (nI q)), (3, .int v)]) hk dX_place_36 (by decide) rfl ?_
  refine qv_iconst (v := nI 0) hk dX_place_38 (by decide) ?_
  refine qv_istore (lv' := [(6, .int (nI 0)), (5, .int (nI ((40 * st) + (cL (q + 1) (L st))))), (4, .int (nI ((40 * st) + (cL q (L st))))), (0, .ref (a 0)), (1, .int (nI st)), (2, .int (nI q)), (3, .int v)]) hk dX_place_39 (by decide) rfl ?_
  have L41 : ∀ (n41 : Nat) (i : Nat) (f : Nat) (t : Nat), 8 - i < n41 → (i ≤ 8) → (cL q (L st) ≤ f) → (f ≤ cP q v (L st)) → (cP q v (L st) ≤ t) → (t ≤ cL (q + 1) (L st)) → (t - f < 2 ^ (8 - i)) → QV k (xw a cI cZ) (S) [(0, .ref (a 0)), (1, .int (nI st)), (2, .int (nI q)), (3, .int v), (4, .int (nI (40 * st + f))), (5, .int (nI (40 * st + t))), (6, .int (nI i))] 41 [] := by
    intro n41
    induction n41 with
    | zero => intro i f t hm; exact absurd hm (Nat.not_lt_zero _)
    | succ n41 ih41 =>
      intro i f t hm41 hi hf hft htt ht hw
      refine qv_iload hk 6 rfl dX_place_41 ?_
      refine qv_bipush (v := nI 8) hk dX_place_43 (by decide) ?_
      refine qn_icmp_ge (tgt := 94) hk (by omega) (by omega) dX_place_45 (by decide) (fun h45 => ?_) (fun h45 => ?_)
      · refine qv_iload hk 4 rfl dX_place_94 ?_
        exact hret (nI (40 * st + f)) S [(0, .ref (a 0)), (1, .int (nI st)), (2, .int (nI q)), (3, .int v), (4, .int (nI (40 * st + f))), (5, .int (nI (40 * st + t))), (6, .int (nI i))] 96 (⟨by rw [show f = cP q v (L st) by rw [show i = 8 by omega] at hw; omega], rfl⟩) rfl dX_place_96
      · refine qv_iload hk 4 rfl dX_place_48 ?_
        refine qv_iload hk 5 rfl dX_place_50 ?_
        refine qn_icmp_ge (tgt := 94) hk (by omega) (by omega) dX_place_52 (by decide) (fun h52 => ?_) (fun h52 => ?_)
        · refine qv_iload hk 4 rfl dX_place_94 ?_
          exact hret (nI (40 * st + f)) S [(0, .ref (a 0)), (1, .int (nI st)), (2, .int (nI q)), (3, .int v), (4, .int (nI (40 * st + f))), (5, .int (nI (40 * st + t))), (6, .int (nI i))] 96 (⟨by rw [show f = cP q v (L st) by omega], rfl⟩) rfl dX_place_96
        · refine qv_iload hk 4 rfl dX_place_55 ?_
          refine qv_iload hk 5 rfl dX_place_57 ?_
          refine qn_iadd hk dX_place_59 ?_
          refine qv_iconst (v := nI 1) hk dX_place_60 (by decide) ?_
          refine qv_ishr hk dX_place_61 ?_
          refine qv_top (y := nI (40 * st + (f + t) / 2)) (by rw [shr1 (by omega)]; congr 1; omega) ?_
          refine qv_istore (lv' := [(7, .int (nI (40 * st + (f + t) / 2))), (0, .ref (a 0)), (1, .int (nI st)), (2, .int (nI q)), (3, .int v), (4, .int (nI (40 * st + f))), (5, .int (nI (40 * st + t))), (6, .int (nI i))]) hk dX_place_62 (by decide) rfl ?_
          refine qv_aload_n hk 1 rfl dX_place_64 rfl ?_
          refine gX_values hk dX_place_65 ?_
          refine qv_iload hk 0 rfl dX_place_68 ?_
          refine aX_values hk (by omega) dX_place_70 ?_
          refine qv_iload_n hk 4 rfl dX_place_71 rfl ?_
          refine qv_icmp_ge (tgt := 84) hk dX_place_72 (by decide) (fun h72 => ?_) (fun h72 => ?_)
          · have hm : ¬ (f + t) / 2 < cP q v (L st) := fun z => absurd h72 (Int32.not_le.mpr ((srch hx v (by omega) (by omega)).mpr z))
            refine qv_iload hk 0 rfl dX_place_84 ?_
            refine qv_istore (lv' := [(5, .int (nI (40 * st + (f + t) / 2))), (7, .int (nI (40 * st + (f + t) / 2))), (0, .ref (a 0)), (1, .int (nI st)), (2, .int (nI q)), (3, .int v), (4, .int (nI (40 * st + f))), (6, .int (nI i))]) hk dX_place_86 (by decide) rfl ?_
            refine qv_iinc (v := nI (i + 1)) (lv' := [(6, .int (nI (i + 1))), (5, .int (nI (40 * st + (f + t) / 2))), (7, .int (nI (40 * st + (f + t) / 2))), (0, .ref (a 0)), (1, .int (nI st)), (2, .int (nI q)), (3, .int v), (4, .int (nI (40 * st + f)))]) hk 7 rfl dX_place_88 (qn_inc _) (by decide) rfl ?_
            refine qv_goto (tgt := 41) hk dX_place_91 (by decide) ?_
            refine qv_sub [3, 4, 5, 6, 7, 1, 0] rfl ?_
            exact ih41 (i + 1) f ((f + t) / 2) (by omega) (by omega) hf hft (by omega) (by omega) (halve (by omega) hw).1
          · have hm : (f + t) / 2 < cP q v (L st) := (srch hx v (by omega) (by omega)).mp (Int32.not_le.mp h72)
            refine qv_iload hk 0 rfl dX_place_75 ?_
            refine qv_iconst (v := nI 1) hk dX_place_77 (by decide) ?_
            refine qn_iadd hk dX_place_78 ?_
            refine qv_istore (lv' := [(4, .int (nI ((40 * st + (f + t) / 2) + 1))), (7, .int (nI (40 * st + (f + t) / 2))), (0, .ref (a 0)), (1, .int (nI st)), (2, .int (nI q)), (3, .int v), (5, .int (nI (40 * st + t))), (6, .int (nI i))]) hk dX_place_79 (by decide) rfl ?_
            refine qv_goto (tgt := 88) hk dX_place_81 (by decide) ?_
            refine qv_iinc (v := nI (i + 1)) (lv' := [(6, .int (nI (i + 1))), (4, .int (nI ((40 * st + (f + t) / 2) + 1))), (7, .int (nI (40 * st + (f + t) / 2))), (0, .ref (a 0)), (1, .int (nI st)), (2, .int (nI q)), (3, .int v), (5, .int (nI (40 * st + t)))]) hk 7 rfl dX_place_88 (qn_inc _) (by decide) rfl ?_
            refine qv_goto (tgt := 41) hk dX_place_91 (by decide) ?_
            refine qv_sub [3, 4, 5, 6, 1, 7, 0] rfl ?_
            exact ih41 (i + 1) ((f + t) / 2 + 1) t (by omega) (by omega) (by omega) (by omega) htt ht (halve (by omega) hw).2
  refine qv_sub [3, 4, 5, 6, 2, 1, 0] rfl ?_
  exact L41 _ 0 (cL q (L st)) (cL (q + 1) (L st)) (Nat.lt_succ_self _) (by omega) (Nat.le_refl _) c2 c3 (Nat.le_refl _) (by omega)

set_option maxHeartbeats 4000000 in
set_option maxRecDepth 100000 in
theorem qx_spread (l : Launch) (D : va_G) (a : Nat → Nat) (cI cZ : ClassId) (S : QS) (p : Int32) : MetN l yX_spread wX_spread rX_spread D (qty cI cZ) (xw a cI cZ) S [.ref (a 0), .int p] (fun S2 => S2 = up2 (up2 S 11 1 (if p < S 11 1 then p else S 11 1)) 11 2 (if S 11 2 < p then p else S 11 2)) := by
  refine MetN.of (cc := bX_spread) (maxL := 2) (own := R_X) (by decide) rfl rfl (Nat.le_of_ble_eq_true rfl) (fun k hk hret => ?_)
  have hk : QK k bX_spread R_X 2 rX_spread l D (qty cI cZ) := hk
  show QV k (xw a cI cZ) S [(0, .ref (a 0)), (1, .int p)] 0 []
  refine qv_aload_n hk 0 rfl dX_spread_0 rfl ?_
  refine qv_iload_n hk 1 rfl dX_spread_1 rfl ?_
  refine qv_aload_n hk 0 rfl dX_spread_2 rfl ?_
  refine gX_low hk dX_spread_3 ?_
  refine qv_icmp_ge (tgt := 13) hk dX_spread_6 (by decide) (fun h6 => ?_) (fun h6 => ?_)
  · refine qv_aload_n hk 0 rfl dX_spread_13 rfl ?_
    refine gX_low hk dX_spread_14 ?_
    refine qv_top (y := (if p < S 11 1 then p else S 11 1)) ((if_neg (fun z => absurd h6 (Int32.not_le.mpr z))).symm) ?_
    refine pX_low hk dX_spread_17 ?_
    refine qv_aload_n hk 0 rfl dX_spread_20 rfl ?_
    refine qv_iload_n hk 1 rfl dX_spread_21 rfl ?_
    refine qv_aload_n hk 0 rfl dX_spread_22 rfl ?_
    refine gX_high hk dX_spread_23 ?_
    refine qv_top (y := S 11 2) (rfl) ?_
    refine qv_icmp_le (tgt := 33) hk dX_spread_26 (by decide) (fun h26 => ?_) (fun h26 => ?_)
    · refine qv_aload_n hk 0 rfl dX_spread_33 rfl ?_
      refine gX_high hk dX_spread_34 ?_
      refine qv_top (y := (if S 11 2 < p then p else S 11 2)) ((if_neg (fun z => absurd h26 (Int32.not_le.mpr z))).symm) ?_
      refine pX_high hk dX_spread_37 ?_
      exact hret (up2 (up2 S 11 1 ((if p < S 11 1 then p else S 11 1))) 11 2 ((if S 11 2 < p then p else S 11 2))) [(0, .ref (a 0)), (1, .int p)] 40 (rfl) dX_spread_40
    · refine qv_iload_n hk 1 rfl dX_spread_29 rfl ?_
      refine qv_top (y := (if S 11 2 < p then p else S 11 2)) ((if_pos (Int32.not_le.mp h26)).symm) ?_
      refine qv_goto (tgt := 37) hk dX_spread_30 (by decide) ?_
      refine pX_high hk dX_spread_37 ?_
      exact hret (up2 (up2 S 11 1 ((if p < S 11 1 then p else S 11 1))) 11 2 ((if S 11 2 < p then p else S 11 2))) [(0, .ref (a 0)), (1, .int p)] 40 (rfl) dX_spread_40
  · refine qv_iload_n hk 1 rfl dX_spread_9 rfl ?_
    refine qv_top (y := (if p < S 11 1 then p else S 11 1)) ((if_pos (Int32.not_le.mp h6)).symm) ?_
    refine qv_goto (tgt := 17) hk dX_spread_10 (by decide) ?_
    refine pX_low hk dX_spread_17 ?_
    refine qv_aload_n hk 0 rfl dX_spread_20 rfl ?_
    refine qv_iload_n hk 1 rfl dX_spread_21 rfl ?_
    refine qv_aload_n hk 0 rfl dX_spread_22 rfl ?_
    refine gX_high hk dX_spread_23 ?_
    refine qv_top (y := S 11 2) (rfl) ?_
    refine qv_icmp_le (tgt := 33) hk dX_spread_26 (by decide) (fun h26 => ?_) (fun h26 => ?_)
    · refine qv_aload_n hk 0 rfl dX_spread_33 rfl ?_
      refine gX_high hk dX_spread_34 ?_
      refine qv_top (y := (if S 11 2 < p then p else S 11 2)) ((if_neg (fun z => absurd h26 (Int32.not_le.mpr z))).symm) ?_
      refine pX_high hk dX_spread_37 ?_
      exact hret (up2 (up2 S 11 1 ((if p < S 11 1 then p else S 11 1))) 11 2 ((if S 11 2 < p then p else S 11 2))) [(0, .ref (a 0)), (1, .int p)] 40 (rfl) dX_spread_40
    · refine qv_iload_n hk 1 rfl dX_spread_29 rfl ?_
      refine qv_top (y := (if S 11 2 < p then p else S 11 2)) ((if_pos (Int32.not_le.mp h26)).symm) ?_
      refine qv_goto (tgt := 37) hk dX_spread_30 (by decide) ?_
      refine pX_high hk dX_spread_37 ?_
      exact hret (up2 (up2 S 11 1 ((if p < S 11 1 then p else S 11 1))) 11 2 ((if S 11 2 < p then p else S 11 2))) [(0, .ref (a 0)), (1, .int p)] 40 (rfl) dX_spread_40

set_option maxHeartbeats 4000000 in
set_option maxRecDepth 100000 in
theorem qx_isBandFinished (l : Launch) (D : va_G) (a : Nat → Nat) (cI cZ : ClassId) (S : QS) (g : Nat) (hg : g < 4) : MetI l yX_isBandFinished wX_isBandFinished rX_isBandFinished D (qty cI cZ) (xw a cI cZ) S [.ref (a 0), .int (nI g)] (fun r S2 => ((r = 1 ∧ bD (S 5) g = true) ∨ (r = 0 ∧ bD (S 5) g = false)) ∧ S2 = S) := by
  refine MetI.of (cc := bX_isBandFinished) (maxL := 3) (own := R_X) (by decide) rfl rfl (Nat.le_of_ble_eq_true rfl) (fun k hk hret => ?_)
  have hk : QK k bX_isBandFinished R_X 3 rX_isBandFinished l D (qty cI cZ) := hk
  show QV k (xw a cI cZ) S [(0, .ref (a 0)), (1, .int (nI g))] 0 []
  refine qv_iconst (v := nI 4) hk dX_isBandFinished_0 (by decide) ?_
  refine qv_iload_n hk 1 rfl dX_isBandFinished_1 rfl ?_
  refine qn_imul hk dX_isBandFinished_2 ?_
  refine qv_istore_n (lv' := [(2, .int (nI (4 * g))), (0, .ref (a 0)), (1, .int (nI g))]) hk dX_isBandFinished_3 rfl (by decide) rfl ?_
  have L4 : ∀ (n4 : Nat) (i : Nat), 4 - i < n4 → (i ≤ 4) → (∀ j, j < i → S 5 (4 * g + j) ≠ 0 ∧ S 5 (16 + (4 * g + j)) ≠ 0) → QV k (xw a cI cZ) (S) [(0, .ref (a 0)), (1, .int (nI g)), (2, .int (nI (4 * g + i)))] 4 [] := by
    intro n4
    induction n4 with
    | zero => intro i hm; exact absurd hm (Nat.not_lt_zero _)
    | succ n4 ih4 =>
      intro i hm4 hi hall
      refine qv_iload_n hk 2 rfl dX_isBandFinished_4 rfl ?_
      refine qv_iconst (v := nI 4) hk dX_isBandFinished_5 (by decide) ?_
      refine qv_iload_n hk 1 rfl dX_isBandFinished_6 rfl ?_
      refine qn_imul hk dX_isBandFinished_7 ?_
      refine qv_iconst (v := nI 4) hk dX_isBandFinished_8 (by decide) ?_
      refine qn_iadd hk dX_isBandFinished_9 ?_
      refine qn_icmp_ge (tgt := 42) hk (by omega) (by omega) dX_isBandFinished_10 (by decide) (fun h10 => ?_) (fun h10 => ?_)
      · refine qv_iconst (v := nI 1) hk dX_isBandFinished_42 (by decide) ?_
        exact hret (nI 1) S [(0, .ref (a 0)), (1, .int (nI g)), (2, .int (nI (4 * g + i)))] 43 (⟨Or.inl ⟨rfl, bD_iff.mpr (fun j hj => hall j (by omega))⟩, rfl⟩) rfl dX_isBandFinished_43
      · refine qv_aload_n hk 0 rfl dX_isBandFinished_13 rfl ?_
        refine gX_shut hk dX_isBandFinished_14 ?_
        refine qv_iload_n hk 2 rfl dX_isBandFinished_17 rfl ?_
        refine aX_shut hk (by omega) dX_isBandFinished_18 ?_
        refine qv_if_eq (tgt := 34) hk dX_isBandFinished_19 (by decide) (fun h19 => ?_) (fun h19 => ?_)
        · refine qv_iconst (v := nI 0) hk dX_isBandFinished_34 (by decide) ?_
          exact hret (nI 0) S [(0, .ref (a 0)), (1, .int (nI g)), (2, .int (nI (4 * g + i)))] 35 (⟨Or.inr ⟨rfl, bD_not (i := i) (by omega) (Or.inl h19)⟩, rfl⟩) rfl dX_isBandFinished_35
        · refine qv_aload_n hk 0 rfl dX_isBandFinished_22 rfl ?_
          refine gX_shut hk dX_isBandFinished_23 ?_
          refine qv_bipush (v := nI 16) hk dX_isBandFinished_26 (by decide) ?_
          refine qv_iload_n hk 2 rfl dX_isBandFinished_28 rfl ?_
          refine qn_iadd hk dX_isBandFinished_29 ?_
          refine aX_shut hk (by omega) dX_isBandFinished_30 ?_
          refine qv_if_ne (tgt := 36) hk dX_isBandFinished_31 (by decide) (fun h31 => ?_) (fun h31 => ?_)
          · refine qv_iinc (v := nI ((4 * g + i) + 1)) (lv' := [(2, .int (nI ((4 * g + i) + 1))), (0, .ref (a 0)), (1, .int (nI g))]) hk 2 rfl dX_isBandFinished_36 (qn_inc _) (by decide) rfl ?_
            refine qv_goto (tgt := 4) hk dX_isBandFinished_39 (by decide) ?_
            refine qv_sub [1, 2, 0] rfl ?_
            exact ih4 (i + 1) (by omega) (by omega) (lt_s hall ⟨h19, h31⟩)
          · refine qv_iconst (v := nI 0) hk dX_isBandFinished_34 (by decide) ?_
            exact hret (nI 0) S [(0, .ref (a 0)), (1, .int (nI g)), (2, .int (nI (4 * g + i)))] 35 (⟨Or.inr ⟨rfl, bD_not (i := i) (by omega) (Or.inr h31)⟩, rfl⟩) rfl dX_isBandFinished_35
  refine qv_sub [1, 2, 0] rfl ?_
  exact L4 _ 0 (Nat.lt_succ_self _) (by omega) lt_0

set_option maxHeartbeats 4000000 in
set_option maxRecDepth 100000 in
theorem qx_bandsFinished (l : Launch) (D : va_G) (a : Nat → Nat) (cI cZ : ClassId) (S : QS) : MetI l yX_bandsFinished wX_bandsFinished rX_bandsFinished D (qty cI cZ) (xw a cI cZ) S [.ref (a 0)] (fun r S2 => r = nI (bC (S 5) 4) ∧ S2 = S) := by
  refine MetI.of (cc := bX_bandsFinished) (maxL := 3) (own := R_X) (by decide) rfl rfl (Nat.le_of_ble_eq_true rfl) (fun k hk hret => ?_)
  have hk : QK k bX_bandsFinished R_X 3 rX_bandsFinished l D (qty cI cZ) := hk
  show QV k (xw a cI cZ) S [(0, .ref (a 0))] 0 []
  refine qv_iconst (v := nI 0) hk dX_bandsFinished_0 (by decide) ?_
  refine qv_istore_n (lv' := [(1, .int (nI 0)), (0, .ref (a 0))]) hk dX_bandsFinished_1 rfl (by decide) rfl ?_
  refine qv_iconst (v := nI 0) hk dX_bandsFinished_2 (by decide) ?_
  refine qv_istore_n (lv' := [(2, .int (nI 0)), (1, .int (nI 0)), (0, .ref (a 0))]) hk dX_bandsFinished_3 rfl (by decide) rfl ?_
  have L4 : ∀ (n4 : Nat) (g : Nat) (b : Nat), 4 - g < n4 → (g ≤ 4) → (b = bC (S 5) g) → QV k (xw a cI cZ) (S) [(0, .ref (a 0)), (1, .int (nI b)), (2, .int (nI g))] 4 [] := by
    intro n4
    induction n4 with
    | zero => intro g b hm; exact absurd hm (Nat.not_lt_zero _)
    | succ n4 ih4 =>
      intro g b hm4 hg hb
      refine qv_iload_n hk 2 rfl dX_bandsFinished_4 rfl ?_
      refine qv_iconst (v := nI 4) hk dX_bandsFinished_5 (by decide) ?_
      refine qn_icmp_ge (tgt := 26) hk (by omega) (by omega) dX_bandsFinished_6 (by decide) (fun h6 => ?_) (fun h6 => ?_)
      · refine qv_iload_n hk 1 rfl dX_bandsFinished_26 rfl ?_
        exact hret (nI b) S [(0, .ref (a 0)), (1, .int (nI b)), (2, .int (nI g))] 27 (⟨by rw [hb, show g = 4 by omega], rfl⟩) rfl dX_bandsFinished_27
      · refine qv_aload_n hk 0 rfl dX_bandsFinished_9 rfl ?_
        refine qv_iload_n hk 2 rfl dX_bandsFinished_10 rfl ?_
        refine callXI (As := [.int (nI g)]) (rest := []) hk (qx_isBandFinished l D a cI cZ S g (by omega)) gX_isBandFinished (by decide) rfl rfl (Nat.le_of_ble_eq_true rfl) dX_bandsFinished_11 (fun r11 S11 hw => ?_)
        obtain ⟨hw, e2⟩ := hw
        refine qv_state e2 ?_
        rcases hw with ⟨rfl, hc⟩ | ⟨rfl, hc⟩
        · refine qv_if_eq (tgt := 20) hk dX_bandsFinished_14 (by decide) (fun h => absurd h (by decide)) (fun _ => ?_)
          refine qv_iinc (v := nI (b + 1)) (lv' := [(1, .int (nI (b + 1))), (0, .ref (a 0)), (2, .int (nI g))]) hk 1 rfl dX_bandsFinished_17 (qn_inc _) (by decide) rfl ?_
          refine qv_iinc (v := nI (g + 1)) (lv' := [(2, .int (nI (g + 1))), (1, .int (nI (b + 1))), (0, .ref (a 0))]) hk 2 rfl dX_bandsFinished_20 (qn_inc _) (by decide) rfl ?_
          refine qv_goto (tgt := 4) hk dX_bandsFinished_23 (by decide) ?_
          refine qv_sub [2, 1, 0] rfl ?_
          exact ih4 (g + 1) ((b + 1)) (by omega) (by omega) (by simp [bC, hc, hb])
        · refine qv_if_eq (tgt := 20) hk dX_bandsFinished_14 (by decide) (fun _ => ?_) (fun h => absurd h (by decide))
          refine qv_iinc (v := nI (g + 1)) (lv' := [(2, .int (nI (g + 1))), (0, .ref (a 0)), (1, .int (nI b))]) hk 2 rfl dX_bandsFinished_20 (qn_inc _) (by decide) rfl ?_
          refine qv_goto (tgt := 4) hk dX_bandsFinished_23 (by decide) ?_
          refine qv_sub [1, 2, 0] rfl ?_
          exact ih4 (g + 1) b (by omega) (by omega) (by simp [bC, hc, hb])
  refine qv_sub [2, 1, 0] rfl ?_
  exact L4 _ 0 0 (Nat.lt_succ_self _) (by omega) rfl
end
section
/-! products of a key's pairs -/
theorem bm {x : Int} (h : -2147483648 ≤ x) (h2 : x < 2147483648) : x.bmod (2 ^ 32) = x := by
  rw [Int.bmod_def]
  have e : ((2 ^ 32 : Nat) : Int) = 4294967296 := by decide
  rw [e]
  split <;> omega
theorem corner {a a1 a2 b : Int} (h1 : a1 ≤ a) (h2 : a ≤ a2) : a1 * b ≤ a * b ∨ a2 * b ≤ a * b := by
  by_cases hb : 0 ≤ b
  · exact Or.inl (Int.mul_le_mul_of_nonneg_right h1 hb)
  · exact Or.inr (Int.mul_le_mul_of_nonpos_right h2 (by omega))
theorem corner2 {a a1 a2 b : Int} (h1 : a1 ≤ a) (h2 : a ≤ a2) : a * b ≤ a1 * b ∨ a * b ≤ a2 * b := by
  by_cases hb : 0 ≤ b
  · exact Or.inr (Int.mul_le_mul_of_nonneg_right h2 hb)
  · exact Or.inl (Int.mul_le_mul_of_nonpos_right h1 (by omega))
theorem mulB {x y : Int} (hx : -50 ≤ x) (hx2 : x ≤ 50) (hy : -50 ≤ y) (hy2 : y ≤ 50) : -2500 ≤ x * y ∧ x * y ≤ 2500 := by
  have c1 := corner (b := y) hx hx2
  have c2 := corner2 (b := y) hx hx2
  omega
theorem mulI {x y : Int32} (hx : -50 ≤ x.toInt) (hx2 : x.toInt ≤ 50) (hy : -50 ≤ y.toInt) (hy2 : y.toInt ≤ 50) : (x * y).toInt = x.toInt * y.toInt := by
  have := mulB hx hx2 hy hy2
  rw [Int32.toInt_mul, bm (by omega) (by omega)]
def mn (m p : Int32) : Int32 := if p < m then p else m
def mx (m p : Int32) : Int32 := if m < p then p else m
theorem mn_fold : ∀ (P : List Int32) (m : Int32), (P.foldl mn m).toInt ≤ m.toInt ∧ (∀ p ∈ P, (P.foldl mn m).toInt ≤ p.toInt) ∧ (P.foldl mn m = m ∨ P.foldl mn m ∈ P)
  | [], m => ⟨Int.le_refl _, fun p h => (by cases h), Or.inl rfl⟩
  | q :: P, m => by
    obtain ⟨h1, h2, h3⟩ := mn_fold P (mn m q)
    have e : (mn m q).toInt ≤ m.toInt ∧ (mn m q).toInt ≤ q.toInt ∧ (mn m q = m ∨ mn m q = q) := by
      unfold mn
      by_cases h : q < m
      · rw [if_pos h]
        rw [iv_lt] at h
        exact ⟨by omega, by omega, Or.inr rfl⟩
      · rw [if_neg h]
        rw [iv_lt] at h
        exact ⟨by omega, by omega, Or.inl rfl⟩
    rw [List.foldl_cons]
    refine ⟨by omega, fun p hp => ?_, ?_⟩
    · rcases List.mem_cons.mp hp with rfl | hp
      · omega
      · exact h2 p hp
    · rcases h3 with h3 | h3
      · rcases e.2.2 with e2 | e2
        · exact Or.inl (h3.trans e2)
        · exact Or.inr (by rw [h3, e2]; exact List.mem_cons_self)
      · exact Or.inr (List.mem_cons_of_mem _ h3)
theorem mx_fold : ∀ (P : List Int32) (m : Int32), m.toInt ≤ (P.foldl mx m).toInt ∧ (∀ p ∈ P, p.toInt ≤ (P.foldl mx m).toInt) ∧ (P.foldl mx m = m ∨ P.foldl mx m ∈ P)
  | [], m => ⟨Int.le_refl _, fun p h => (by cases h), Or.inl rfl⟩
  | q :: P, m => by
    obtain ⟨h1, h2, h3⟩ := mx_fold P (mx m q)
    have e : m.toInt ≤ (mx m q).toInt ∧ q.toInt ≤ (mx m q).toInt ∧ (mx m q = m ∨ mx m q = q) := by
      unfold mx
      by_cases h : m < q
      · rw [if_pos h]
        rw [iv_lt] at h
        exact ⟨by omega, by omega, Or.inr rfl⟩
      · rw [if_neg h]
        rw [iv_lt] at h
        exact ⟨by omega, by omega, Or.inl rfl⟩
    rw [List.foldl_cons]
    refine ⟨by omega, fun p hp => ?_, ?_⟩
    · rcases List.mem_cons.mp hp with rfl | hp
      · omega
      · exact h2 p hp
    · rcases h3 with h3 | h3
      · rcases e.2.2 with e2 | e2
        · exact Or.inl (h3.trans e2)
        · exact Or.inr (by rw [h3, e2]; exact List.mem_cons_self)
      · exact Or.inr (List.mem_cons_of_mem _ h3)
theorem mn_uniq {P Q : List Int32} {m : Int32} (h : ∀ p, p ∈ P ↔ p ∈ Q) : P.foldl mn m = Q.foldl mn m := by
  obtain ⟨a1, a2, a3⟩ := mn_fold P m
  obtain ⟨b1, b2, b3⟩ := mn_fold Q m
  apply Int32.toInt_inj.mp
  apply Int.le_antisymm
  · rcases b3 with b3 | b3
    · rw [b3]; exact a1
    · exact a2 _ ((h _).mpr b3)
  · rcases a3 with a3 | a3
    · rw [a3]; exact b1
    · exact b2 _ ((h _).mp a3)
theorem mx_uniq {P Q : List Int32} {m : Int32} (h : ∀ p, p ∈ P ↔ p ∈ Q) : P.foldl mx m = Q.foldl mx m := by
  obtain ⟨a1, a2, a3⟩ := mx_fold P m
  obtain ⟨b1, b2, b3⟩ := mx_fold Q m
  apply Int32.toInt_inj.mp
  apply Int.le_antisymm
  · rcases a3 with a3 | a3
    · rw [a3]; exact b1
    · exact b2 _ ((h _).mp a3)
  · rcases b3 with b3 | b3
    · rw [b3]; exact a1
    · exact a2 _ ((h _).mpr b3)
def pl1 (k : Nat) (t : QT) (B : List QT) : List Int32 := if t.1 = k then (B.filter (fun u => u.1 == k)).map (fun u => t.2 * u.2) else []
def pl (k : Nat) (A B : List QT) : List Int32 := A.flatMap (fun t => pl1 k t B)
def loF (k : Nat) (A B : List QT) : Int32 := (pl k A B).foldl mn 10000
def hiF (k : Nat) (A B : List QT) : Int32 := (pl k A B).foldl mx (-10000)
theorem mem_pl1 {k : Nat} {t : QT} {B : List QT} {p : Int32} : p ∈ pl1 k t B ↔ t.1 = k ∧ ∃ u ∈ B, u.1 = k ∧ p = t.2 * u.2 := by
  unfold pl1
  by_cases h : t.1 = k
  · rw [if_pos h]
    simp only [List.mem_map, List.mem_filter, beq_iff_eq]
    constructor
    · rintro ⟨u, ⟨hu, hk⟩, rfl⟩
      exact ⟨h, u, hu, hk, rfl⟩
    · rintro ⟨-, u, hu, hk, rfl⟩
      exact ⟨u, ⟨hu, hk⟩, rfl⟩
  · rw [if_neg h]
    simp [h]
theorem mem_pl {k : Nat} {A B : List QT} {p : Int32} : p ∈ pl k A B ↔ ∃ t ∈ A, ∃ u ∈ B, t.1 = k ∧ u.1 = k ∧ p = t.2 * u.2 := by
  unfold pl
  rw [List.mem_flatMap]
  constructor
  · rintro ⟨t, ht, hp⟩
    obtain ⟨h1, u, hu, h2, h3⟩ := mem_pl1.mp hp
    exact ⟨t, ht, u, hu, h1, h2, h3⟩
  · rintro ⟨t, ht, u, hu, h1, h2, h3⟩
    exact ⟨t, ht, mem_pl1.mpr ⟨h1, u, hu, h2, h3⟩⟩
theorem cK_cons (k : Nat) (t : QT) (L : List QT) : cK k (t :: L) = cK k L + (if t.1 = k then 1 else 0) := by
  unfold cK
  rw [List.countP_cons]
  simp only [beq_iff_eq]
theorem pl1_len (k : Nat) (t : QT) (B : List QT) : (pl1 k t B).length = if t.1 = k then cK k B else 0 := by
  unfold pl1
  by_cases h : t.1 = k
  · rw [if_pos h, if_pos h, List.length_map, cK, List.countP_eq_length_filter]
  · rw [if_neg h, if_neg h]; rfl
theorem pl_len (k : Nat) (B : List QT) : ∀ A : List QT, (pl k A B).length = cK k A * cK k B
  | [] => by simp [pl, cK]
  | t :: A => by
    have ih := pl_len k B A
    unfold pl at *
    rw [List.flatMap_cons, List.length_append, ih, pl1_len, cK_cons]
    by_cases h : t.1 = k
    · rw [if_pos h, if_pos h, Nat.add_mul, Nat.one_mul, Nat.add_comm]
    · rw [if_neg h, if_neg h, Nat.zero_add, Nat.add_zero]
theorem fold_add : ∀ (P : List Int32) (a : Int32), P.foldl (fun x y => x + y) a = a + P.foldl (fun x y => x + y) 0
  | [], a => by simp
  | p :: P, a => by
    rw [List.foldl_cons, List.foldl_cons, fold_add P (a + p), fold_add P (0 + p), Int32.zero_add, Int32.add_assoc]
def smF (P : List Int32) : Int32 := P.foldl (fun x y => x + y) 0
theorem smF_app (P Q : List Int32) : smF (P ++ Q) = smF P + smF Q := by
  unfold smF
  rw [List.foldl_append, fold_add Q]
theorem pl1_sum (k : Nat) (t : QT) : ∀ B : List QT, smF (pl1 k t B) = (if t.1 = k then t.2 else 0) * sK k B := by
  intro B
  unfold pl1
  by_cases h : t.1 = k
  · rw [if_pos h, if_pos h]
    induction B with
    | nil => simp [smF, sK]
    | cons u B ih =>
      by_cases hu : u.1 = k
      · rw [List.filter_cons_of_pos (by simpa using hu), List.map_cons, show ∀ (x : Int32) (P : List Int32), x :: P = [x] ++ P from fun _ _ => rfl, smF_app, ih]
        rw [sK, if_pos hu, Int32.mul_add]
        simp [smF]
      · rw [List.filter_cons_of_neg (by simpa using hu), ih]
        rw [sK, if_neg hu, Int32.zero_add]
  · rw [if_neg h, if_neg h, Int32.zero_mul]
    rfl
theorem pl_sum (k : Nat) (B : List QT) : ∀ A : List QT, smF (pl k A B) = sK k A * sK k B
  | [] => by simp [pl, sK, smF]
  | t :: A => by
    have ih := pl_sum k B A
    unfold pl at *
    rw [List.flatMap_cons, smF_app, ih, pl1_sum, sK, Int32.add_mul]
theorem srt_get {L : List QT} (hs : srt L) {i j : Nat} {t u : QT} (hij : i < j) (hi : L[i]? = some t) (hj : L[j]? = some u) : oT t u := by
  obtain ⟨h1, rfl⟩ := List.getElem?_eq_some_iff.mp hi
  obtain ⟨h2, rfl⟩ := List.getElem?_eq_some_iff.mp hj
  exact List.pairwise_iff_getElem.mp hs i j h1 h2 hij
theorem srt_getle {L : List QT} (hs : srt L) {i j : Nat} {t u : QT} (hij : i ≤ j) (hi : L[i]? = some t) (hj : L[j]? = some u) (e : t.1 = u.1) : t.2.toInt ≤ u.2.toInt := by
  rcases Nat.lt_or_eq_of_le hij with h | h
  · rcases srt_get hs h hi hj with q | q
    · omega
    · exact q.2
  · subst h
    rw [hi] at hj
    cases hj
    exact Int.le_refl _
/-- the ends of a key's stretch -/
theorem strX {S : QS} {st : Nat} {L : List QT} (h : xr S st L) {q : Nat} (hn : 0 < cK q L) : ∃ fl fh : Int32, S 1 (40 * st + cL q L) = fl ∧ S 1 (40 * st + (cL (q + 1) L - 1)) = fh ∧ (q, fl) ∈ L ∧ (q, fh) ∈ L ∧ ∀ t ∈ L, t.1 = q → fl.toInt ≤ t.2.toInt ∧ t.2.toInt ≤ fh.toInt := by
  obtain ⟨hl, -, hlst, -, hs, -⟩ := h
  have e := cL_succ q L
  have hle := cL_le (q + 1) L
  obtain ⟨t0, h0⟩ := getq (L := L) (i := cL q L) (by omega)
  obtain ⟨t1, h1⟩ := getq (L := L) (i := cL (q + 1) L - 1) (by omega)
  have k0 := (str_idx hs q h0).mpr ⟨by omega, by omega⟩
  have k1 := (str_idx hs q h1).mpr ⟨by omega, by omega⟩
  refine ⟨t0.2, t1.2, (hlst _ _ h0).2, (hlst _ _ h1).2, ?_, ?_, ?_⟩
  · have := List.mem_of_getElem? h0
    rw [← k0]; exact this
  · have := List.mem_of_getElem? h1
    rw [← k1]; exact this
  · intro t ht hk
    obtain ⟨i, hi⟩ := List.getElem?_of_mem ht
    obtain ⟨a1, a2⟩ := (str_idx hs q hi).mp hk
    exact ⟨srt_getle hs a1 h0 hi (by rw [k0, hk]), srt_getle hs (by omega) hi h1 (by rw [k1, hk])⟩
theorem ext_mem {A B : List QT} {k : Nat} {fl fh sl sh : Int32} (hfl : (k, fl) ∈ A) (hfh : (k, fh) ∈ A) (hsl : (k, sl) ∈ B) (hsh : (k, sh) ∈ B) : fl * sl ∈ pl k A B ∧ fl * sh ∈ pl k A B ∧ fh * sl ∈ pl k A B ∧ fh * sh ∈ pl k A B :=
  ⟨mem_pl.mpr ⟨_, hfl, _, hsl, rfl, rfl, rfl⟩, mem_pl.mpr ⟨_, hfl, _, hsh, rfl, rfl, rfl⟩, mem_pl.mpr ⟨_, hfh, _, hsl, rfl, rfl, rfl⟩, mem_pl.mpr ⟨_, hfh, _, hsh, rfl, rfl, rfl⟩⟩
theorem ext_lo {A B : List QT} {k : Nat} {fl fh sl sh : Int32} (oA : ∀ t ∈ A, okT t) (oB : ∀ t ∈ B, okT t) (hfl : (k, fl) ∈ A) (hfh : (k, fh) ∈ A) (hsl : (k, sl) ∈ B) (hsh : (k, sh) ∈ B) (hA : ∀ t ∈ A, t.1 = k → fl.toInt ≤ t.2.toInt ∧ t.2.toInt ≤ fh.toInt) (hB : ∀ t ∈ B, t.1 = k → sl.toInt ≤ t.2.toInt ∧ t.2.toInt ≤ sh.toInt) : [fl * sh, fh * sl, fh * sh].foldl mn (fl * sl) = loF k A B := by
  obtain ⟨m1, m2, m3, m4⟩ := ext_mem hfl hfh hsl hsh
  obtain ⟨a1, a2, a3⟩ := mn_fold [fl * sh, fh * sl, fh * sh] (fl * sl)
  obtain ⟨b1, b2, b3⟩ := mn_fold (pl k A B) 10000
  have ofl := oA _ hfl
  have ofh := oA _ hfh
  have osl := oB _ hsl
  have osh := oB _ hsh
  have c2 := a2 (fl * sh) (by simp)
  have c3 := a2 (fh * sl) (by simp)
  have c4 := a2 (fh * sh) (by simp)
  have e1 := mulI ofl.2.1 ofl.2.2 osl.2.1 osl.2.2
  have e2 := mulI ofl.2.1 ofl.2.2 osh.2.1 osh.2.2
  have e3 := mulI ofh.2.1 ofh.2.2 osl.2.1 osl.2.2
  have e4 := mulI ofh.2.1 ofh.2.2 osh.2.1 osh.2.2
  have g1 := mulB ofl.2.1 ofl.2.2 osl.2.1 osl.2.2
  apply Int32.toInt_inj.mp
  show ([fl * sh, fh * sl, fh * sh].foldl mn (fl * sl)).toInt = ((pl k A B).foldl mn 10000).toInt
  generalize [fl * sh, fh * sl, fh * sh].foldl mn (fl * sl) = c at *
  generalize (pl k A B).foldl mn 10000 = r at *
  apply Int.le_antisymm
  · rcases b3 with b3 | b3
    · have := b2 _ m1
      rw [b3] at this
      have hz : (10000 : Int32).toInt = 10000 := by decide
      simp only [] at e1 g1
      omega
    · obtain ⟨t, ht, u, hu, hk1, hk2, rfl⟩ := mem_pl.mp b3
      have ot := oA t ht
      have ou := oB u hu
      have r1 := hA t ht hk1
      have r2 := hB u hu hk2
      have e5 := mulI ot.2.1 ot.2.2 ou.2.1 ou.2.2
      have d1 := corner (b := u.2.toInt) r1.1 r1.2
      have d2 := corner (b := fl.toInt) r2.1 r2.2
      have d3 := corner (b := fh.toInt) r2.1 r2.2
      rw [Int.mul_comm sl.toInt, Int.mul_comm sh.toInt, Int.mul_comm u.2.toInt] at d2 d3
      simp only [] at e1 e2 e3 e4
      omega
  · rcases a3 with a3 | a3
    · rw [a3]; exact b2 _ m1
    · simp only [List.mem_cons, List.not_mem_nil, or_false] at a3
      rcases a3 with rfl | rfl | rfl
      · exact b2 _ m2
      · exact b2 _ m3
      · exact b2 _ m4
theorem ext_hi {A B : List QT} {k : Nat} {fl fh sl sh : Int32} (oA : ∀ t ∈ A, okT t) (oB : ∀ t ∈ B, okT t) (hfl : (k, fl) ∈ A) (hfh : (k, fh) ∈ A) (hsl : (k, sl) ∈ B) (hsh : (k, sh) ∈ B) (hA : ∀ t ∈ A, t.1 = k → fl.toInt ≤ t.2.toInt ∧ t.2.toInt ≤ fh.toInt) (hB : ∀ t ∈ B, t.1 = k → sl.toInt ≤ t.2.toInt ∧ t.2.toInt ≤ sh.toInt) : [fl * sh, fh * sl, fh * sh].foldl mx (fl * sl) = hiF k A B := by
  obtain ⟨m1, m2, m3, m4⟩ := ext_mem hfl hfh hsl hsh
  obtain ⟨a1, a2, a3⟩ := mx_fold [fl * sh, fh * sl, fh * sh] (fl * sl)
  obtain ⟨b1, b2, b3⟩ := mx_fold (pl k A B) (-10000)
  have ofl := oA _ hfl
  have ofh := oA _ hfh
  have osl := oB _ hsl
  have osh := oB _ hsh
  have c2 := a2 (fl * sh) (by simp)
  have c3 := a2 (fh * sl) (by simp)
  have c4 := a2 (fh * sh) (by simp)
  have e1 := mulI ofl.2.1 ofl.2.2 osl.2.1 osl.2.2
  have e2 := mulI ofl.2.1 ofl.2.2 osh.2.1 osh.2.2
  have e3 := mulI ofh.2.1 ofh.2.2 osl.2.1 osl.2.2
  have e4 := mulI ofh.2.1 ofh.2.2 osh.2.1 osh.2.2
  have g1 := mulB ofl.2.1 ofl.2.2 osl.2.1 osl.2.2
  apply Int32.toInt_inj.mp
  show ([fl * sh, fh * sl, fh * sh].foldl mx (fl * sl)).toInt = ((pl k A B).foldl mx (-10000)).toInt
  generalize [fl * sh, fh * sl, fh * sh].foldl mx (fl * sl) = c at *
  generalize (pl k A B).foldl mx (-10000) = r at *
  apply Int.le_antisymm
  · rcases a3 with a3 | a3
    · rw [a3]; exact b2 _ m1
    · simp only [List.mem_cons, List.not_mem_nil, or_false] at a3
      rcases a3 with rfl | rfl | rfl
      · exact b2 _ m2
      · exact b2 _ m3
      · exact b2 _ m4
  · rcases b3 with b3 | b3
    · have := b2 _ m1
      rw [b3] at this
      have hz : (-10000 : Int32).toInt = -10000 := by decide
      simp only [] at e1 g1
      omega
    · obtain ⟨t, ht, u, hu, hk1, hk2, rfl⟩ := mem_pl.mp b3
      have ot := oA t ht
      have ou := oB u hu
      have r1 := hA t ht hk1
      have r2 := hB u hu hk2
      have e5 := mulI ot.2.1 ot.2.2 ou.2.1 ou.2.2
      have d1 := corner2 (b := u.2.toInt) r1.1 r1.2
      have d2 := corner2 (b := fl.toInt) r2.1 r2.2
      have d3 := corner2 (b := fh.toInt) r2.1 r2.2
      rw [Int.mul_comm sl.toInt, Int.mul_comm sh.toInt, Int.mul_comm u.2.toInt] at d2 d3
      simp only [] at e1 e2 e3 e4
      omega
def sameX (S2 S : QS) : Prop := (∀ c, c ≠ 11 → S2 c = S c) ∧ S2 11 0 = S 11 0
theorem sameX_rfl (S : QS) : sameX S S := ⟨fun _ _ => rfl, rfl⟩
theorem lo_none {k : Nat} {A B : List QT} (h : cK k A * cK k B = 0) : loF k A B = 10000 ∧ hiF k A B = -10000 := by
  have := pl_len k B A
  rw [h] at this
  have e := List.length_eq_zero_iff.mp this
  unfold loF hiF
  rw [e]
  exact ⟨rfl, rfl⟩
theorem XR.same {S S2 : QS} {L : QL} (h : XR S L) (e : ∀ c, c < 5 → S2 c = S c) : XR S2 L := by
  intro st hst
  have := h st hst
  unfold xr at *
  rw [e 0 (by omega), e 1 (by omega), e 2 (by omega), e 3 (by omega), e 4 (by omega)]
  exact this
end
section
set_option maxHeartbeats 4000000 in
set_option maxRecDepth 100000 in
theorem qx_extremes (l : Launch) (D : va_G) (a : Nat → Nat) (cI cZ : ClassId) (S : QS) (L : QL) (hL : XR S L) (q : Nat) (hq : q < 16) (n0 : 0 < cK q (L 0)) (n1 : 0 < cK q (L 1)) : MetN l yX_extremes wX_extremes rX_extremes D (qty cI cZ) (xw a cI cZ) S [.ref (a 0), .int (nI q)] (fun S2 => sameX S2 S ∧ S2 11 1 = loF q (L 0) (L 1) ∧ S2 11 2 = hiF q (L 0) (L 1)) := by
  refine MetN.of (cc := bX_extremes) (maxL := 6) (own := R_X) (by decide) rfl rfl (Nat.le_of_ble_eq_true rfl) (fun k hk hret => ?_)
  have hk : QK k bX_extremes R_X 6 rX_extremes l D (qty cI cZ) := hk
  have h0 := hL 0 (by omega)
  have h1 := hL 1 (by omega)
  have e0 := cL_succ q (L 0)
  have e1 := cL_succ q (L 1)
  have l0 := cL_le (q + 1) (L 0)
  have l1 := cL_le (q + 1) (L 1)
  have z0 := h0.1
  have z1 := h1.1
  have hB0 := h0.2.2.2.2.2.1
  have hB1 := h1.2.2.2.2.2.1
  obtain ⟨fl, fh, f1, f2, f3, f4, f5⟩ := strX h0 n0
  obtain ⟨sl, sh, g1, g2, g3, g4, g5⟩ := strX h1 n1
  show QV k (xw a cI cZ) S [(0, .ref (a 0)), (1, .int (nI q))] 0 []
  refine qv_aload_n hk 0 rfl dX_extremes_0 rfl ?_
  refine gX_values hk dX_extremes_1 ?_
  refine qv_aload_n hk 0 rfl dX_extremes_4 rfl ?_
  refine gX_begin hk dX_extremes_5 ?_
  refine qv_iload_n hk 1 rfl dX_extremes_8 rfl ?_
  refine aX_begin hk (by omega) dX_extremes_9 ?_
  refine qv_top (y := nI (cL q (L 0))) (by simpa using hB0 q (by omega)) ?_
  refine aX_values hk (by omega) dX_extremes_10 ?_
  refine qv_top (y := fl) (by simpa using f1) ?_
  refine qv_istore_n (lv' := [(2, .int fl), (0, .ref (a 0)), (1, .int (nI q))]) hk dX_extremes_11 rfl (by decide) rfl ?_
  refine qv_aload_n hk 1 rfl dX_extremes_12 rfl ?_
  refine gX_values hk dX_extremes_13 ?_
  refine qv_aload_n hk 1 rfl dX_extremes_16 rfl ?_
  refine gX_begin hk dX_extremes_17 ?_
  refine qv_iload_n hk 2 rfl dX_extremes_20 rfl ?_
  refine qv_iconst (v := nI 1) hk dX_extremes_21 (by decide) ?_
  refine qn_iadd hk dX_extremes_22 ?_
  refine aX_begin hk (by omega) dX_extremes_23 ?_
  refine qv_top (y := nI (cL (q + 1) (L 0))) (by simpa using hB0 (q + 1) (by omega)) ?_
  refine qv_iconst (v := nI 1) hk dX_extremes_24 (by decide) ?_
  refine qn_isub hk (by omega) dX_extremes_25 ?_
  refine aX_values hk (by omega) dX_extremes_26 ?_
  refine qv_top (y := fh) (by simpa using f2) ?_
  refine qv_istore_n (lv' := [(3, .int fh), (2, .int fl), (0, .ref (a 0)), (1, .int (nI q))]) hk dX_extremes_27 rfl (by decide) rfl ?_
  refine qv_aload_n hk 2 rfl dX_extremes_28 rfl ?_
  refine gX_values hk dX_extremes_29 ?_
  refine qv_bipush (v := nI 40) hk dX_extremes_32 (by decide) ?_
  refine qv_aload_n hk 2 rfl dX_extremes_34 rfl ?_
  refine gX_begin hk dX_extremes_35 ?_
  refine qv_bipush (v := nI 17) hk dX_extremes_38 (by decide) ?_
  refine qv_iload_n hk 3 rfl dX_extremes_40 rfl ?_
  refine qn_iadd hk dX_extremes_41 ?_
  refine aX_begin hk (by omega) dX_extremes_42 ?_
  refine qv_top (y := nI (cL q (L 1))) (by simpa using hB1 q (by omega)) ?_
  refine qn_iadd hk dX_extremes_43 ?_
  refine aX_values hk (by omega) dX_extremes_44 ?_
  refine qv_top (y := sl) (by simpa using g1) ?_
  refine qv_istore (lv' := [(4, .int sl), (3, .int fh), (2, .int fl), (0, .ref (a 0)), (1, .int (nI q))]) hk dX_extremes_45 (by decide) rfl ?_
  refine qv_aload_n hk 3 rfl dX_extremes_47 rfl ?_
  refine gX_values hk dX_extremes_48 ?_
  refine qv_bipush (v := nI 40) hk dX_extremes_51 (by decide) ?_
  refine qv_aload_n hk 3 rfl dX_extremes_53 rfl ?_
  refine gX_begin hk dX_extremes_54 ?_
  refine qv_bipush (v := nI 17) hk dX_extremes_57 (by decide) ?_
  refine qv_iload_n hk 4 rfl dX_extremes_59 rfl ?_
  refine qn_iadd hk dX_extremes_60 ?_
  refine qv_iconst (v := nI 1) hk dX_extremes_61 (by decide) ?_
  refine qn_iadd hk dX_extremes_62 ?_
  refine aX_begin hk (by omega) dX_extremes_63 ?_
  refine qv_top (y := nI (cL (q + 1) (L 1))) (hB1 (q + 1) (by omega)) ?_
  refine qn_iadd hk dX_extremes_64 ?_
  refine qv_iconst (v := nI 1) hk dX_extremes_65 (by decide) ?_
  refine qn_isub hk (by omega) dX_extremes_66 ?_
  refine aX_values hk (by omega) dX_extremes_67 ?_
  refine qv_top (y := sh) (by rw [show 40 + cL (q + 1) (L 1) - 1 = 40 * 1 + (cL (q + 1) (L 1) - 1) by omega]; exact g2) ?_
  refine qv_istore (lv' := [(5, .int sh), (4, .int sl), (3, .int fh), (2, .int fl), (0, .ref (a 0)), (1, .int (nI q))]) hk dX_extremes_68 (by decide) rfl ?_
  refine qv_aload_n hk 4 rfl dX_extremes_70 rfl ?_
  refine qv_iload_n hk 3 rfl dX_extremes_71 rfl ?_
  refine qv_iload hk 1 rfl dX_extremes_72 ?_
  refine qv_imul hk dX_extremes_74 ?_
  refine pX_low hk dX_extremes_75 ?_
  refine qv_aload_n hk 4 rfl dX_extremes_78 rfl ?_
  refine qv_aload_n hk 4 rfl dX_extremes_79 rfl ?_
  refine gX_low hk dX_extremes_80 ?_
  refine qv_top (y := fl * sl) (rfl) ?_
  refine pX_high hk dX_extremes_83 ?_
  refine qv_aload_n hk 4 rfl dX_extremes_86 rfl ?_
  refine qv_iload_n hk 3 rfl dX_extremes_87 rfl ?_
  refine qv_iload hk 0 rfl dX_extremes_88 ?_
  refine qv_imul hk dX_extremes_90 ?_
  refine callXN (As := [.int (fl * sh)]) (rest := []) hk (qx_spread l D a cI cZ (up2 (up2 S 11 1 (fl * sl)) 11 2 (fl * sl)) (fl * sh)) gX_spread (by decide) rfl rfl (Nat.le_of_ble_eq_true rfl) dX_extremes_91 (fun S91 hw91 => ?_)
  refine qv_aload_n hk 4 rfl dX_extremes_94 rfl ?_
  refine qv_iload_n hk 2 rfl dX_extremes_95 rfl ?_
  refine qv_iload hk 1 rfl dX_extremes_96 ?_
  refine qv_imul hk dX_extremes_98 ?_
  refine callXN (As := [.int (fh * sl)]) (rest := []) hk (qx_spread l D a cI cZ S91 (fh * sl)) gX_spread (by decide) rfl rfl (Nat.le_of_ble_eq_true rfl) dX_extremes_99 (fun S99 hw99 => ?_)
  refine qv_aload_n hk 4 rfl dX_extremes_102 rfl ?_
  refine qv_iload_n hk 2 rfl dX_extremes_103 rfl ?_
  refine qv_iload hk 0 rfl dX_extremes_104 ?_
  refine qv_imul hk dX_extremes_106 ?_
  refine callXN (As := [.int (fh * sh)]) (rest := []) hk (qx_spread l D a cI cZ S99 (fh * sh)) gX_spread (by decide) rfl rfl (Nat.le_of_ble_eq_true rfl) dX_extremes_107 (fun S107 hw107 => ?_)
  exact hret S107 [(5, .int sh), (4, .int sl), (3, .int fh), (2, .int fl), (0, .ref (a 0)), (1, .int (nI q))] 110 (by subst hw91; subst hw99; subst hw107; exact ⟨⟨fun c hc => by simp [up2, hc], rfl⟩, ext_lo h0.2.2.2.1 h1.2.2.2.1 f3 f4 g3 g4 f5 g5, ext_hi h0.2.2.2.1 h1.2.2.2.1 f3 f4 g3 g4 f5 g5⟩) dX_extremes_110

set_option maxHeartbeats 4000000 in
set_option maxRecDepth 100000 in
theorem qx_least (l : Launch) (D : va_G) (a : Nat → Nat) (cI cZ : ClassId) (S : QS) (L : QL) (hL : XR S L) (x : Int32) : MetI l yX_least wX_least rX_least D (qty cI cZ) (xw a cI cZ) S [.ref (a 0), .int x] (fun r S2 => qans x 16 10000 (fun q => loF q (L 0) (L 1)) r ∧ sameX S2 S) := by
  refine MetI.of (cc := bX_least) (maxL := 2) (own := R_X) (by decide) rfl rfl (Nat.le_of_ble_eq_true rfl) (fun k hk hret => ?_)
  have hk : QK k bX_least R_X 2 rX_least l D (qty cI cZ) := hk
  show QV k (xw a cI cZ) S [(0, .ref (a 0)), (1, .int x)] 0 []
  refine qv_iload_n hk 1 rfl dX_least_0 rfl ?_
  refine callSX (As := [.int x]) (rest := []) hk (qx_isKey l D a cI cZ x) gX_isKey (by decide) rfl rfl (Nat.le_of_ble_eq_true rfl) dX_least_1 (fun r1 hw1 => ?_)
  rcases hw1 with ⟨rfl, q, hq, rfl⟩ | ⟨rfl, hq⟩
  · refine qv_if_eq (tgt := 15) hk dX_least_4 (by decide) (fun h => absurd h (by decide)) (fun _ => ?_)
    refine qv_aload_n hk 0 rfl dX_least_7 rfl ?_
    refine qv_iload_n hk 1 rfl dX_least_8 rfl ?_
    refine callXI (As := [.int (nI q)]) (rest := []) hk (qx_pairsOf l D a cI cZ S L hL q hq) gX_pairsOf (by decide) rfl rfl (Nat.le_of_ble_eq_true rfl) dX_least_9 (fun r9 S9 hw => ?_)
    obtain ⟨e1, e2⟩ := hw
    subst e1
    refine qv_state e2 ?_
    refine qv_if_ne (tgt := 19) hk dX_least_12 (by decide) (fun h12 => ?_) (fun h12 => ?_)
    · refine qv_aload_n hk 0 rfl dX_least_19 rfl ?_
      refine qv_iload_n hk 1 rfl dX_least_20 rfl ?_
      have hne : cK q (L 0) * cK q (L 1) ≠ 0 := fun z => h12 (by rw [z]; rfl)
      have n0 : 0 < cK q (L 0) := Nat.pos_of_ne_zero (fun z => hne (by rw [z, Nat.zero_mul]))
      have n1 : 0 < cK q (L 1) := Nat.pos_of_ne_zero (fun z => hne (by rw [z, Nat.mul_zero]))
      refine callXN (As := [.int (nI q)]) (rest := []) hk (qx_extremes l D a cI cZ S L hL q hq n0 n1) gX_extremes (by decide) rfl rfl (Nat.le_of_ble_eq_true rfl) dX_least_21 (fun S21 hw21 => ?_)
      refine qv_aload_n hk 0 rfl dX_least_24 rfl ?_
      refine gX_low hk dX_least_25 ?_
      refine qv_top (y := loF q (L 0) (L 1)) (hw21.2.1) ?_
      exact hret (loF q (L 0) (L 1)) S21 [(0, .ref (a 0)), (1, .int (nI q))] 28 (⟨Or.inr ⟨q, hq, rfl, rfl⟩, hw21.1⟩) rfl dX_least_28
    · have hz : cK q (L 0) * cK q (L 1) = 0 := by
        have q0 := (hL 0 (by omega)).1
        have q1 := (hL 1 (by omega)).1
        have b0 := Nat.le_trans (cK_le q (L 0)) q0
        have b1 := Nat.le_trans (cK_le q (L 1)) q1
        have b2 := Nat.mul_le_mul b0 b1
        exact isN_uniq (by omega) (by decide) h12
      refine qv_sipush (v := nI 10000) hk dX_least_15 (by decide) ?_
      exact hret (nI 10000) S [(0, .ref (a 0)), (1, .int (nI q))] 18 (⟨Or.inr ⟨q, hq, rfl, (lo_none hz).1.symm⟩, sameX_rfl S⟩) rfl dX_least_18
  · refine qv_if_eq (tgt := 15) hk dX_least_4 (by decide) (fun _ => ?_) (fun h => absurd h (by decide))
    refine qv_sipush (v := nI 10000) hk dX_least_15 (by decide) ?_
    exact hret (nI 10000) S [(0, .ref (a 0)), (1, .int x)] 18 (⟨Or.inl ⟨hq, rfl⟩, sameX_rfl S⟩) rfl dX_least_18

set_option maxHeartbeats 4000000 in
set_option maxRecDepth 100000 in
theorem qx_greatest (l : Launch) (D : va_G) (a : Nat → Nat) (cI cZ : ClassId) (S : QS) (L : QL) (hL : XR S L) (x : Int32) : MetI l yX_greatest wX_greatest rX_greatest D (qty cI cZ) (xw a cI cZ) S [.ref (a 0), .int x] (fun r S2 => qans x 16 (-10000) (fun q => hiF q (L 0) (L 1)) r ∧ sameX S2 S) := by
  refine MetI.of (cc := bX_greatest) (maxL := 2) (own := R_X) (by decide) rfl rfl (Nat.le_of_ble_eq_true rfl) (fun k hk hret => ?_)
  have hk : QK k bX_greatest R_X 2 rX_greatest l D (qty cI cZ) := hk
  show QV k (xw a cI cZ) S [(0, .ref (a 0)), (1, .int x)] 0 []
  refine qv_iload_n hk 1 rfl dX_greatest_0 rfl ?_
  refine callSX (As := [.int x]) (rest := []) hk (qx_isKey l D a cI cZ x) gX_isKey (by decide) rfl rfl (Nat.le_of_ble_eq_true rfl) dX_greatest_1 (fun r1 hw1 => ?_)
  rcases hw1 with ⟨rfl, q, hq, rfl⟩ | ⟨rfl, hq⟩
  · refine qv_if_eq (tgt := 15) hk dX_greatest_4 (by decide) (fun h => absurd h (by decide)) (fun _ => ?_)
    refine qv_aload_n hk 0 rfl dX_greatest_7 rfl ?_
    refine qv_iload_n hk 1 rfl dX_greatest_8 rfl ?_
    refine callXI (As := [.int (nI q)]) (rest := []) hk (qx_pairsOf l D a cI cZ S L hL q hq) gX_pairsOf (by decide) rfl rfl (Nat.le_of_ble_eq_true rfl) dX_greatest_9 (fun r9 S9 hw => ?_)
    obtain ⟨e1, e2⟩ := hw
    subst e1
    refine qv_state e2 ?_
    refine qv_if_ne (tgt := 19) hk dX_greatest_12 (by decide) (fun h12 => ?_) (fun h12 => ?_)
    · refine qv_aload_n hk 0 rfl dX_greatest_19 rfl ?_
      refine qv_iload_n hk 1 rfl dX_greatest_20 rfl ?_
      have hne : cK q (L 0) * cK q (L 1) ≠ 0 := fun z => h12 (by rw [z]; rfl)
      have n0 : 0 < cK q (L 0) := Nat.pos_of_ne_zero (fun z => hne (by rw [z, Nat.zero_mul]))
      have n1 : 0 < cK q (L 1) := Nat.pos_of_ne_zero (fun z => hne (by rw [z, Nat.mul_zero]))
      refine callXN (As := [.int (nI q)]) (rest := []) hk (qx_extremes l D a cI cZ S L hL q hq n0 n1) gX_extremes (by decide) rfl rfl (Nat.le_of_ble_eq_true rfl) dX_greatest_21 (fun S21 hw21 => ?_)
      refine qv_aload_n hk 0 rfl dX_greatest_24 rfl ?_
      refine gX_high hk dX_greatest_25 ?_
      refine qv_top (y := hiF q (L 0) (L 1)) (hw21.2.2) ?_
      exact hret (hiF q (L 0) (L 1)) S21 [(0, .ref (a 0)), (1, .int (nI q))] 28 (⟨Or.inr ⟨q, hq, rfl, rfl⟩, hw21.1⟩) rfl dX_greatest_28
    · have hz : cK q (L 0) * cK q (L 1) = 0 := by
        have q0 := (hL 0 (by omega)).1
        have q1 := (hL 1 (by omega)).1
        have b0 := Nat.le_trans (cK_le q (L 0)) q0
        have b1 := Nat.le_trans (cK_le q (L 1)) q1
        have b2 := Nat.mul_le_mul b0 b1
        exact isN_uniq (by omega) (by decide) h12
      refine qv_sipush (v := -10000) hk dX_greatest_15 (by decide) ?_
      exact hret ((-10000)) S [(0, .ref (a 0)), (1, .int (nI q))] 18 (⟨Or.inr ⟨q, hq, rfl, (lo_none hz).2.symm⟩, sameX_rfl S⟩) rfl dX_greatest_18
  · refine qv_if_eq (tgt := 15) hk dX_greatest_4 (by decide) (fun _ => ?_) (fun h => absurd h (by decide))
    refine qv_sipush (v := -10000) hk dX_greatest_15 (by decide) ?_
    exact hret ((-10000)) S [(0, .ref (a 0)), (1, .int x)] 18 (⟨Or.inl ⟨hq, rfl⟩, sameX_rfl S⟩) rfl dX_greatest_18
end
section
/-! partners of a tuple; the results' list -/
def pt (b : Int32) (t : QT) (B : List QT) : Nat := B.countP (fun u => u.1 == t.1 && decide (b ≤ t.2 * u.2))
def pF (b : Int32) (A B : List QT) : Nat := (A.map (fun t => pt b t B)).sum
theorem tk {α : Type} {L : List α} {i : Nat} {t : α} (h : L[i]? = some t) : L.take (i + 1) = L.take i ++ [t] := by
  rw [List.take_add_one, h]; rfl
theorem pF_snoc (b : Int32) (A : List QT) (t : QT) (B : List QT) : pF b (A ++ [t]) B = pF b A B + pt b t B := by
  unfold pF
  rw [List.map_append, List.sum_append]
  simp
theorem pt_pos {q : Nat} {v b x : Int32} : ∀ {L : List QT}, (∀ u ∈ L, u.1 = q → (b ≤ v * u.2 ↔ x.toInt ≤ u.2.toInt)) → cK q L + cL q L = cP q x L + pt b (q, v) L
  | [], _ => rfl
  | u :: L, h => by
    have ih := pt_pos (L := L) (fun u hu => h u (List.mem_cons_of_mem _ hu))
    have hu := h u List.mem_cons_self
    unfold cK cL cP pt at *
    rw [List.countP_cons, List.countP_cons, List.countP_cons, List.countP_cons]
    simp only [beq_iff_eq, decide_eq_true_eq, Bool.or_eq_true, Bool.and_eq_true] at *
    by_cases h1 : u.1 = q
    · have hu := hu h1
      by_cases h2 : b ≤ v * u.2
      · have := hu.mp h2
        rw [if_pos h1, if_neg (by omega), if_neg (by omega), if_pos ⟨h1, h2⟩]
        omega
      · have : ¬ x.toInt ≤ u.2.toInt := fun z => h2 (hu.mpr z)
        rw [if_pos h1, if_neg (by omega), if_pos (Or.inr ⟨h1, by omega⟩), if_neg (fun z => h2 z.2)]
        omega
    · rw [if_neg h1, if_neg (c := u.1 = q ∧ b ≤ v * u.2) (fun z => h1 z.1)]
      by_cases h3 : u.1 < q
      · rw [if_pos h3, if_pos (Or.inl h3)]
        omega
      · rw [if_neg h3, if_neg (fun z => z.elim h3 (fun z => h1 z.1))]
        omega
theorem pt_neg {q : Nat} {v b x : Int32} : ∀ {L : List QT}, (∀ u ∈ L, u.1 = q → (b ≤ v * u.2 ↔ u.2.toInt < x.toInt)) → cP q x L = cL q L + pt b (q, v) L
  | [], _ => rfl
  | u :: L, h => by
    have ih := pt_neg (L := L) (fun u hu => h u (List.mem_cons_of_mem _ hu))
    have hu := h u List.mem_cons_self
    unfold cL cP pt at *
    rw [List.countP_cons, List.countP_cons, List.countP_cons]
    simp only [beq_iff_eq, decide_eq_true_eq, Bool.or_eq_true, Bool.and_eq_true] at *
    by_cases h1 : u.1 = q
    · have hu := hu h1
      by_cases h2 : b ≤ v * u.2
      · have := hu.mp h2
        rw [if_neg (c := u.1 < q) (by omega), if_pos (Or.inr ⟨h1, by omega⟩), if_pos ⟨h1, h2⟩]
        omega
      · have : ¬ u.2.toInt < x.toInt := fun z => h2 (hu.mpr z)
        rw [if_neg (c := u.1 < q) (by omega), if_neg (by omega), if_neg (fun z => h2 z.2)]
        omega
    · rw [if_neg (c := u.1 = q ∧ b ≤ v * u.2) (fun z => h1 z.1)]
      by_cases h3 : u.1 < q
      · rw [if_pos h3, if_pos (Or.inl h3)]
        omega
      · rw [if_neg h3, if_neg (fun z => z.elim h3 (fun z => h1 z.1))]
        omega
theorem pt_none {q : Nat} {v b : Int32} {L : List QT} (h : cK q L = 0) : pt b (q, v) L = 0 := by
  unfold cK at h
  unfold pt
  rw [List.countP_eq_zero] at h ⊢
  intro u hu
  have := h u hu
  simp only [beq_iff_eq, Bool.and_eq_true] at this ⊢
  exact fun z => this z.1
theorem pt_zero {q : Nat} {b : Int32} {L : List QT} : (b ≤ 0 → pt b (q, 0) L = cK q L) ∧ (¬ b ≤ 0 → pt b (q, 0) L = 0) := by
  unfold pt cK
  constructor
  · intro h
    congr 1
    funext u
    simp [h]
  · intro h
    rw [List.countP_eq_zero]
    intro u hu
    simp [h]
def clamped (b w : Int32) : Prop := -3000 ≤ w.toInt ∧ w.toInt ≤ 3000 ∧ ∀ p : Int, -2500 ≤ p → p ≤ 2500 → (b.toInt ≤ p ↔ w.toInt ≤ p)
theorem i3000 : (nI 3000).toInt = 3000 := by decide
theorem im3000 : (-3000 : Int32).toInt = -3000 := by decide
theorem clamp_a {b : Int32} (h1 : -3000 ≤ b) (h2 : b ≤ nI 3000) : clamped b b := by
  rw [iv_le, im3000] at h1
  rw [iv_le, i3000] at h2
  exact ⟨h1, h2, fun p _ _ => Iff.rfl⟩
theorem clamp_b {b : Int32} (h : ¬ b ≤ nI 3000) : clamped b (nI 3000) := by
  rw [iv_le, i3000] at h
  exact ⟨by rw [i3000]; omega, by rw [i3000]; omega, fun p h1 h2 => by rw [i3000]; omega⟩
theorem clamp_c {b : Int32} (h : ¬ -3000 ≤ b) : clamped b (-3000) := by
  rw [iv_le, im3000] at h
  exact ⟨by rw [im3000]; omega, by rw [im3000]; omega, fun p h1 h2 => by rw [im3000]; omega⟩
theorem cdivI {w s u : Int} (hs : 0 < s) : (w + s - 1) / s ≤ u ↔ w ≤ s * u := by
  have h := Int.ediv_lt_iff_lt_mul (a := w + s - 1) (b := u + 1) hs
  rw [Int.add_mul, Int.one_mul, Int.mul_comm u s] at h
  omega
theorem fdivI {w s u : Int} (hs : 0 < s) : u ≤ w / s ↔ s * u ≤ w := by
  rw [Int.le_ediv_iff_mul_le hs, Int.mul_comm]
theorem i1 : (nI 1).toInt = 1 := by decide
theorem divI {x y : Int32} (hx : 0 ≤ x.toInt) (hx2 : x.toInt ≤ 4000) (hy : 0 < y.toInt) : (x / y).toInt = x.toInt / y.toInt ∧ 0 ≤ x.toInt / y.toInt ∧ x.toInt / y.toInt ≤ 4000 := by
  have h1 := Int.ediv_nonneg hx (Int.le_of_lt hy)
  have h2 := Int.ediv_le_self y.toInt hx
  refine ⟨?_, h1, by omega⟩
  rw [Int32.toInt_div, Int.tdiv_eq_ediv_of_nonneg hx, bm (by omega) (by omega)]
theorem negI {x : Int32} (h : -5000 ≤ x.toInt) (h2 : x.toInt ≤ 5000) : (-x).toInt = -x.toInt := by
  rw [Int32.toInt_neg, bm (by omega) (by omega)]
theorem addI {x y : Int32} (h : -5000 ≤ x.toInt) (h2 : x.toInt ≤ 5000) (h3 : -5000 ≤ y.toInt) (h4 : y.toInt ≤ 5000) : (x + y).toInt = x.toInt + y.toInt := by
  rw [Int32.toInt_add, bm (by omega) (by omega)]
theorem subI {x y : Int32} (h : -5000 ≤ x.toInt) (h2 : x.toInt ≤ 5000) (h3 : -5000 ≤ y.toInt) (h4 : y.toInt ≤ 5000) : (x - y).toInt = x.toInt - y.toInt := by
  rw [Int32.toInt_sub, bm (by omega) (by omega)]
theorem neg_ne {v : Int32} (h : ¬ v = 0) : ¬ -v = 0 := fun z => h (by rw [← Int32.neg_neg (a := v), z]; rfl)
/-- what is asked of the partner's value, v > 0, an asked number > 0 -/
theorem dv1 {w v : Int32} (hv : 0 < v.toInt) (hv2 : v.toInt ≤ 50) (hw : 0 < w.toInt) (hw2 : w.toInt ≤ 3000) : ((w + v - nI 1) / v).toInt = (w.toInt + v.toInt - 1) / v.toInt ∧ 0 ≤ (w.toInt + v.toInt - 1) / v.toInt ∧ (w.toInt + v.toInt - 1) / v.toInt ≤ 4000 := by
  have e1 := addI (x := w) (y := v) (by omega) (by omega) (by omega) (by omega)
  have e2 := subI (x := w + v) (y := nI 1) (by omega) (by omega) (by rw [i1]; omega) (by rw [i1]; omega)
  rw [e1, i1] at e2
  have := divI (x := w + v - nI 1) (y := v) (by omega) (by omega) hv
  rw [e2] at this
  exact this
theorem dv2 {w v : Int32} (hv : 0 < v.toInt) (hw : -3000 ≤ w.toInt) (hw2 : w.toInt ≤ 0) : ((-w) / v).toInt = (-w.toInt) / v.toInt ∧ 0 ≤ (-w.toInt) / v.toInt ∧ (-w.toInt) / v.toInt ≤ 4000 := by
  have e1 := negI (x := w) (by omega) (by omega)
  have := divI (x := -w) (y := v) (by omega) (by omega) hv
  rw [e1] at this
  exact this
theorem prodI {b w v u : Int32} (hc : clamped b w) (hv : -50 ≤ v.toInt) (hv2 : v.toInt ≤ 50) (hu : -50 ≤ u.toInt) (hu2 : u.toInt ≤ 50) : b ≤ v * u ↔ w.toInt ≤ v.toInt * u.toInt := by
  have := mulB hv hv2 hu hu2
  rw [iv_le, mulI hv hv2 hu hu2]
  exact hc.2.2 _ this.1 this.2
theorem pf1 {b w v u : Int32} (hc : clamped b w) (hv : 0 < v.toInt) (hv2 : v.toInt ≤ 50) (hw : 0 < w.toInt) (hu : -50 ≤ u.toInt) (hu2 : u.toInt ≤ 50) : b ≤ v * u ↔ ((w + v - nI 1) / v).toInt ≤ u.toInt := by
  rw [prodI hc (by omega) hv2 hu hu2, (dv1 hv hv2 hw hc.2.1).1, cdivI hv]
theorem pf2 {b w v u : Int32} (hc : clamped b w) (hv : 0 < v.toInt) (hv2 : v.toInt ≤ 50) (hw : w.toInt ≤ 0) (hu : -50 ≤ u.toInt) (hu2 : u.toInt ≤ 50) : b ≤ v * u ↔ (-((-w) / v)).toInt ≤ u.toInt := by
  have d := dv2 (w := w) hv hc.1 hw
  rw [prodI hc (by omega) hv2 hu hu2, negI (by omega) (by omega), d.1]
  have h := fdivI (w := -w.toInt) (s := v.toInt) (u := -u.toInt) hv
  rw [Int.mul_neg] at h
  omega
theorem pf3 {b w v u : Int32} (hc : clamped b w) (hv : v.toInt < 0) (hv2 : -50 ≤ v.toInt) (hw : 0 < w.toInt) (hu : -50 ≤ u.toInt) (hu2 : u.toInt ≤ 50) : b ≤ v * u ↔ u.toInt < (-((w + -v - nI 1) / -v) + nI 1).toInt := by
  have e := negI (x := v) (by omega) (by omega)
  have d := dv1 (w := w) (v := -v) (by omega) (by omega) hw hc.2.1
  rw [prodI hc hv2 (by omega) hu hu2, addI (by rw [negI (by omega) (by omega)]; omega) (by rw [negI (by omega) (by omega)]; omega) (by rw [i1]; omega) (by rw [i1]; omega), negI (by omega) (by omega), d.1, i1, e]
  rw [e] at d
  have h := cdivI (w := w.toInt) (s := -v.toInt) (u := -u.toInt) (by omega)
  rw [Int.neg_mul_neg] at h
  omega
theorem pf4 {b w v u : Int32} (hc : clamped b w) (hv : v.toInt < 0) (hv2 : -50 ≤ v.toInt) (hw : w.toInt ≤ 0) (hu : -50 ≤ u.toInt) (hu2 : u.toInt ≤ 50) : b ≤ v * u ↔ u.toInt < ((-w) / (-v) + nI 1).toInt := by
  have e := negI (x := v) (by omega) (by omega)
  have d := dv2 (w := w) (v := -v) (by omega) hc.1 hw
  rw [prodI hc hv2 (by omega) hu hu2, addI (by omega) (by omega) (by rw [i1]; omega) (by rw [i1]; omega), d.1, i1, e]
  rw [e] at d
  have h := fdivI (w := -w.toInt) (s := -v.toInt) (u := u.toInt) (by omega)
  rw [Int.neg_mul] at h
  omega
theorem isN_le {x : Int32} {m : Nat} (hm : m < 2147483647) (h1 : ¬ x < 0) (h2 : x ≤ nI m) : isN x (m + 1) := by
  refine (isN_of (by omega)).mpr ⟨h1, fun h => ?_⟩
  rw [iv_le, nI_toInt (by omega)] at h2
  rw [iv_le, nI_toInt (by omega)] at h
  omega
theorem isN_gt {x : Int32} {m : Nat} (hm : m < 2147483647) (h2 : ¬ x ≤ nI m) : ¬ isN x (m + 1) := by
  rintro ⟨n, hn, rfl⟩
  exact h2 (nI_le (by omega) (by omega))
theorem isN_lt {x : Int32} {m : Nat} (hm : m < 2147483647) (h2 : x < 0) : ¬ isN x m := by
  rintro ⟨n, hn, rfl⟩
  exact nI_pos (by omega) h2
def outR (o : Int32) (K P Q A B : Nat → Int32) (R : List QE) : Prop := o = nI R.length ∧ R.length ≤ 16 ∧ ∀ (i : Nat) (e : QE), R[i]? = some e → e.1 < 16 ∧ K i = nI e.1 ∧ P i = e.2.1 ∧ Q i = e.2.2.1 ∧ A i = e.2.2.2.1 ∧ B i = e.2.2.2.2
def bS (g : Nat) (R : List QE) : Int32 := R.foldl (fun s e => if e.1 / 4 = g then s + e.2.2.1 else s) 0
theorem bS_snoc (g : Nat) (R : List QE) (e : QE) : bS g (R ++ [e]) = if e.1 / 4 = g then bS g R + e.2.2.1 else bS g R := by
  unfold bS
  rw [List.foldl_append]
  rfl
theorem shr2 {n : Nat} (h : n < 2 ^ 31) : nI n >>> (nI 2 &&& 31) = nI (n / 4) := pk_shrN h (nI 2 &&& 31) 2 (by decide)
end
section
set_option maxHeartbeats 4000000 in
set_option maxRecDepth 100000 in
theorem qx_partnersFrom (l : Launch) (D : va_G) (a : Nat → Nat) (cI cZ : ClassId) (S : QS) (L : QL) (hL : XR S L) (q : Nat) (v b : Int32) (hq : q < 16) (hv1 : -50 ≤ v.toInt) (hv2 : v.toInt ≤ 50) : MetI l yX_partnersFrom wX_partnersFrom rX_partnersFrom D (qty cI cZ) (xw a cI cZ) S [.ref (a 0), .int (nI q), .int v, .int b] (fun r S2 => r = nI (pt b (q, v) (L 1)) ∧ S2 = S) := by
  refine MetI.of (cc := bX_partnersFrom) (maxL := 10) (own := R_X) (by decide) rfl rfl (Nat.le_of_ble_eq_true rfl) (fun k hk hret => ?_)
  have hk : QK k bX_partnersFrom R_X 10 rX_partnersFrom l D (qty cI cZ) := hk
  have h1 := hL 1 (by omega)
  have hB := h1.2.2.2.2.2.1
  have okL := h1.2.2.2.1
  have z1 := h1.1
  have l1 := cL_le (q + 1) (L 1)
  have es := cL_succ q (L 1)
  show QV k (xw a cI cZ) S [(0, .ref (a 0)), (1, .int (nI q)), (2, .int v), (3, .int b)] 0 []
  refine qv_aload_n hk 0 rfl dX_partnersFrom_0 rfl ?_
  refine qv_iconst (v := nI 1) hk dX_partnersFrom_1 (by decide) ?_
  refine qv_iload_n hk 1 rfl dX_partnersFrom_2 rfl ?_
  refine callXI (As := [.int (nI 1), .int (nI q)]) (rest := []) hk (qx_countOf l D a cI cZ S L hL 1 q (by omega) hq) gX_countOf (by decide) rfl rfl (Nat.le_of_ble_eq_true rfl) dX_partnersFrom_3 (fun r3 S3 hw => ?_)
  obtain ⟨e1, e2⟩ := hw
  subst e1
  refine qv_state e2 ?_
  refine qv_istore (lv' := [(4, .int (nI (cK q (L 1)))), (0, .ref (a 0)), (1, .int (nI q)), (2, .int v), (3, .int b)]) hk dX_partnersFrom_6 (by decide) rfl ?_
  refine qv_iload hk 0 rfl dX_partnersFrom_8 ?_
  refine qv_if_eq (tgt := 17) hk dX_partnersFrom_10 (by decide) (fun h10 => ?_) (fun h10 => ?_)
  · refine qv_iload_n hk 4 rfl dX_partnersFrom_17 rfl ?_
    refine qv_if_gt (tgt := 26) hk dX_partnersFrom_18 (by decide) (fun h18 => ?_) (fun h18 => ?_)
    · refine qv_iconst (v := nI 0) hk dX_partnersFrom_26 (by decide) ?_
      exact hret (nI 0) S [(4, .int (nI (cK q (L 1)))), (0, .ref (a 0)), (1, .int (nI q)), (2, .int v), (3, .int b)] 27 (⟨by rw [pt_none (isN_uniq (by omega) (by decide) h10)], rfl⟩) rfl dX_partnersFrom_27
    · refine qv_iload hk 0 rfl dX_partnersFrom_21 ?_
      refine qv_goto (tgt := 27) hk dX_partnersFrom_23 (by decide) ?_
      exact hret (nI (cK q (L 1))) S [(4, .int (nI (cK q (L 1)))), (0, .ref (a 0)), (1, .int (nI q)), (2, .int v), (3, .int b)] 27 (⟨by rw [pt_none (isN_uniq (by omega) (by decide) h10), isN_uniq (by omega) (by decide) h10], rfl⟩) rfl dX_partnersFrom_27
  · refine qv_iload_n hk 3 rfl dX_partnersFrom_13 rfl ?_
    refine qv_if_ne (tgt := 28) hk dX_partnersFrom_14 (by decide) (fun h14 => ?_) (fun h14 => ?_)
    · refine qv_bipush (v := nI 40) hk dX_partnersFrom_28 (by decide) ?_
      refine qv_aload_n hk 1 rfl dX_partnersFrom_30 rfl ?_
      refine gX_begin hk dX_partnersFrom_31 ?_
      refine qv_bipush (v := nI 17) hk dX_partnersFrom_34 (by decide) ?_
      refine qv_iload_n hk 2 rfl dX_partnersFrom_36 rfl ?_
      refine qn_iadd hk dX_partnersFrom_37 ?_
      refine aX_begin hk (by omega) dX_partnersFrom_38 ?_
      refine qv_top (y := nI (cL q (L 1))) (by simpa using hB q (by omega)) ?_
      refine qn_iadd hk dX_partnersFrom_39 ?_
      refine qv_istore (lv' := [(5, .int (nI (40 + (cL q (L 1))))), (4, .int (nI (cK q (L 1)))), (0, .ref (a 0)), (1, .int (nI q)), (2, .int v), (3, .int b)]) hk dX_partnersFrom_40 (by decide) rfl ?_
      have J76 : ∀ (w : Int32), (clamped b w) → QV k (xw a cI cZ) (S) [(0, .ref (a 0)), (1, .int (nI q)), (2, .int v), (4, .int (nI (cK q (L 1)))), (5, .int (nI (40 + cL q (L 1)))), (6, .int w)] 76 [] := by
        intro w hc
        refine qv_iload_n hk 2 rfl dX_partnersFrom_76 rfl ?_
        refine qv_if_le (tgt := 123) hk dX_partnersFrom_77 (by decide) (fun h77 => ?_) (fun h77 => ?_)
        · have hvn : v.toInt < 0 := by
            rw [iv_le] at h77
            have hz : ¬ v.toInt = 0 := fun z => h14 (Int32.toInt_inj.mp z)
            have : (0 : Int32).toInt = 0 := rfl
            omega
          refine qv_iload_n hk 2 rfl dX_partnersFrom_123 rfl ?_
          refine qv_ineg hk dX_partnersFrom_124 ?_
          refine qv_istore (lv' := [(7, .int (-v)), (0, .ref (a 0)), (1, .int (nI q)), (2, .int v), (4, .int (nI (cK q (L 1)))), (5, .int (nI (40 + cL q (L 1)))), (6, .int w)]) hk dX_partnersFrom_125 (by decide) rfl ?_
          refine qv_iload hk 6 rfl dX_partnersFrom_127 ?_
          refine qv_if_le (tgt := 146) hk dX_partnersFrom_129 (by decide) (fun h129 => ?_) (fun h129 => ?_)
          · have hw0 : w.toInt ≤ 0 := iv_le.mp h129
            refine qv_iload hk 6 rfl dX_partnersFrom_146 ?_
            refine qv_ineg hk dX_partnersFrom_148 ?_
            refine qv_iload hk 0 rfl dX_partnersFrom_149 ?_
            refine qv_idiv hk (neg_ne h14) dX_partnersFrom_151 ?_
            refine qv_istore (lv' := [(8, .int ((-w) / (-v))), (7, .int (-v)), (0, .ref (a 0)), (1, .int (nI q)), (2, .int v), (4, .int (nI (cK q (L 1)))), (5, .int (nI (40 + cL q (L 1)))), (6, .int w)]) hk dX_partnersFrom_152 (by decide) rfl ?_
            refine qv_aload_n hk 2 rfl dX_partnersFrom_154 rfl ?_
            refine qv_iconst (v := nI 1) hk dX_partnersFrom_155 (by decide) ?_
            refine qv_iload_n hk 3 rfl dX_partnersFrom_156 rfl ?_
            refine qv_iload hk 0 rfl dX_partnersFrom_157 ?_
            refine qv_iconst (v := nI 1) hk dX_partnersFrom_159 (by decide) ?_
            refine qv_iadd hk dX_partnersFrom_160 ?_
            refine callXI (As := [.int (nI 1), .int (nI q), .int (((-w) / (-v)) + (nI 1))]) (rest := []) hk (qx_place l D a cI cZ S L hL 1 q (by omega) hq (((-w) / (-v)) + nI 1)) gX_place (by decide) rfl rfl (Nat.le_of_ble_eq_true rfl) dX_partnersFrom_161 (fun r161 S161 hw => ?_)
            obtain ⟨e1, e2⟩ := hw
            subst e1
            refine qv_state e2 ?_
            have c2 := cP_lo q (((-w) / (-v)) + nI 1) (L 1)
            have c3 := cP_hi q (((-w) / (-v)) + nI 1) (L 1)
            refine qv_istore (lv' := [(9, .int (nI (40 * 1 + cP q (((-w) / (-v)) + nI 1) (L 1)))), (8, .int ((-w) / (-v))), (7, .int (-v)), (0, .ref (a 0)), (1, .int (nI q)), (2, .int v), (4, .int (nI (cK q (L 1)))), (5, .int (nI (40 + cL q (L 1)))), (6, .int w)]) hk dX_partnersFrom_164 (by decide) rfl ?_
            refine qv_iload hk 0 rfl dX_partnersFrom_166 ?_
            refine qv_iload hk 7 rfl dX_partnersFrom_168 ?_
            refine qn_isub hk (by omega) dX_partnersFrom_170 ?_
            exact hret (nI ((40 * 1 + cP q (((-w) / (-v)) + nI 1) (L 1)) - (40 + cL q (L 1)))) S [(9, .int (nI (40 * 1 + cP q (((-w) / (-v)) + nI 1) (L 1)))), (8, .int ((-w) / (-v))), (7, .int (-v)), (0, .ref (a 0)), (1, .int (nI q)), (2, .int v), (4, .int (nI (cK q (L 1)))), (5, .int (nI (40 + cL q (L 1)))), (6, .int w)] 171 (⟨by have hp := pt_neg (q := q) (v := v) (b := b) (x := ((-w) / (-v)) + nI 1) (L := L 1) (fun u hu _ => pf4 hc hvn hv1 hw0 (okL u hu).2.1 (okL u hu).2.2); congr 1; omega, rfl⟩) rfl dX_partnersFrom_171
          · have hw0 : 0 < w.toInt := by
              rw [iv_le] at h129
              have : (0 : Int32).toInt = 0 := rfl
              omega
            refine qv_iload hk 6 rfl dX_partnersFrom_132 ?_
            refine qv_iload hk 0 rfl dX_partnersFrom_134 ?_
            refine qv_iadd hk dX_partnersFrom_136 ?_
            refine qv_iconst (v := nI 1) hk dX_partnersFrom_137 (by decide) ?_
            refine qv_isub hk dX_partnersFrom_138 ?_
            refine qv_iload hk 0 rfl dX_partnersFrom_139 ?_
            refine qv_idiv hk (neg_ne h14) dX_partnersFrom_141 ?_
            refine qv_ineg hk dX_partnersFrom_142 ?_
            refine qv_goto (tgt := 152) hk dX_partnersFrom_143 (by decide) ?_
            refine qv_istore (lv' := [(8, .int (-(((w + (-v)) - (nI 1)) / (-v)))), (7, .int (-v)), (0, .ref (a 0)), (1, .int (nI q)), (2, .int v), (4, .int (nI (cK q (L 1)))), (5, .int (nI (40 + cL q (L 1)))), (6, .int w)]) hk dX_partnersFrom_152 (by decide) rfl ?_
            refine qv_aload_n hk 2 rfl dX_partnersFrom_154 rfl ?_
            refine qv_iconst (v := nI 1) hk dX_partnersFrom_155 (by decide) ?_
            refine qv_iload_n hk 3 rfl dX_partnersFrom_156 rfl ?_
            refine qv_iload hk 0 rfl dX_partnersFrom_157 ?_
            refine qv_iconst (v := nI 1) hk dX_partnersFrom_159 (by decide) ?_
            refine qv_iadd hk dX_partnersFrom_160 ?_
            refine callXI (As := [.int (nI 1), .int (nI q), .int ((-(((w + (-v)) - (nI 1)) / (-v))) + (nI 1))]) (rest := []) hk (qx_place l D a cI cZ S L hL 1 q (by omega) hq ((-(((w + (-v)) - nI 1) / (-v))) + nI 1)) gX_place (by decide) rfl rfl (Nat.le_of_ble_eq_true rfl) dX_partnersFrom_161 (fun r161 S161 hw => ?_)
            obtain ⟨e1, e2⟩ := hw
            subst e1
            refine qv_state e2 ?_
            have c2 := cP_lo q ((-(((w + (-v)) - nI 1) / (-v))) + nI 1) (L 1)
            have c3 := cP_hi q ((-(((w + (-v)) - nI 1) / (-v))) + nI 1) (L 1)
            refine qv_istore (lv' := [(9, .int (nI (40 * 1 + cP q ((-(((w + (-v)) - nI 1) / (-v))) + nI 1) (L 1)))), (8, .int (-(((w + (-v)) - (nI 1)) / (-v)))), (7, .int (-v)), (0, .ref (a 0)), (1, .int (nI q)), (2, .int v), (4, .int (nI (cK q (L 1)))), (5, .int (nI (40 + cL q (L 1)))), (6, .int w)]) hk dX_partnersFrom_164 (by decide) rfl ?_
            refine qv_iload hk 0 rfl dX_partnersFrom_166 ?_
            refine qv_iload hk 7 rfl dX_partnersFrom_168 ?_
            refine qn_isub hk (by omega) dX_partnersFrom_170 ?_
            exact hret (nI ((40 * 1 + cP q ((-(((w + (-v)) - nI 1) / (-v))) + nI 1) (L 1)) - (40 + cL q (L 1)))) S [(9, .int (nI (40 * 1 + cP q ((-(((w + (-v)) - nI 1) / (-v))) + nI 1) (L 1)))), (8, .int (-(((w + (-v)) - (nI 1)) / (-v)))), (7, .int (-v)), (0, .ref (a 0)), (1, .int (nI q)), (2, .int v), (4, .int (nI (cK q (L 1)))), (5, .int (nI (40 + cL q (L 1)))), (6, .int w)] 171 (⟨by have hp := pt_neg (q := q) (v := v) (b := b) (x := (-(((w + (-v)) - nI 1) / (-v))) + nI 1) (L := L 1) (fun u hu _ => pf3 hc hvn hv1 hw0 (okL u hu).2.1 (okL u hu).2.2); congr 1; omega, rfl⟩) rfl dX_partnersFrom_171
        · have hvp : 0 < v.toInt := by
            rw [iv_le] at h77
            have : (0 : Int32).toInt = 0 := rfl
            omega
          refine qv_iload hk 5 rfl dX_partnersFrom_80 ?_
          refine qv_if_le (tgt := 96) hk dX_partnersFrom_82 (by decide) (fun h82 => ?_) (fun h82 => ?_)
          · have hw0 : w.toInt ≤ 0 := iv_le.mp h82
            refine qv_iload hk 5 rfl dX_partnersFrom_96 ?_
            refine qv_ineg hk dX_partnersFrom_98 ?_
            refine qv_iload_n hk 2 rfl dX_partnersFrom_99 rfl ?_
            refine qv_idiv hk h14 dX_partnersFrom_100 ?_
            refine qv_ineg hk dX_partnersFrom_101 ?_
            refine qv_istore (lv' := [(7, .int (-((-w) / v))), (0, .ref (a 0)), (1, .int (nI q)), (2, .int v), (4, .int (nI (cK q (L 1)))), (5, .int (nI (40 + cL q (L 1)))), (6, .int w)]) hk dX_partnersFrom_102 (by decide) rfl ?_
            refine qv_aload_n hk 1 rfl dX_partnersFrom_104 rfl ?_
            refine qv_iconst (v := nI 1) hk dX_partnersFrom_105 (by decide) ?_
            refine qv_iload_n hk 2 rfl dX_partnersFrom_106 rfl ?_
            refine qv_iload hk 0 rfl dX_partnersFrom_107 ?_
            refine callXI (As := [.int (nI 1), .int (nI q), .int (-((-w) / v))]) (rest := []) hk (qx_place l D a cI cZ S L hL 1 q (by omega) hq (-((-w) / v))) gX_place (by decide) rfl rfl (Nat.le_of_ble_eq_true rfl) dX_partnersFrom_109 (fun r109 S109 hw => ?_)
            obtain ⟨e1, e2⟩ := hw
            subst e1
            refine qv_state e2 ?_
            have c2 := cP_lo q (-((-w) / v)) (L 1)
            have c3 := cP_hi q (-((-w) / v)) (L 1)
            refine qv_istore (lv' := [(8, .int (nI (40 * 1 + cP q (-((-w) / v)) (L 1)))), (7, .int (-((-w) / v))), (0, .ref (a 0)), (1, .int (nI q)), (2, .int v), (4, .int (nI (cK q (L 1)))), (5, .int (nI (40 + cL q (L 1)))), (6, .int w)]) hk dX_partnersFrom_112 (by decide) rfl ?_
            refine qv_iload hk 5 rfl dX_partnersFrom_114 ?_
            refine qv_iload hk 0 rfl dX_partnersFrom_116 ?_
            refine qv_iload hk 6 rfl dX_partnersFrom_118 ?_
            refine qn_isub hk (by omega) dX_partnersFrom_120 ?_
            refine qn_isub hk (by omega) dX_partnersFrom_121 ?_
            exact hret (nI ((cK q (L 1)) - ((40 * 1 + cP q (-((-w) / v)) (L 1)) - (40 + cL q (L 1))))) S [(8, .int (nI (40 * 1 + cP q (-((-w) / v)) (L 1)))), (7, .int (-((-w) / v))), (0, .ref (a 0)), (1, .int (nI q)), (2, .int v), (4, .int (nI (cK q (L 1)))), (5, .int (nI (40 + cL q (L 1)))), (6, .int w)] 122 (⟨by have hp := pt_pos (q := q) (v := v) (b := b) (x := -((-w) / v)) (L := L 1) (fun u hu _ => pf2 hc hvp hv2 hw0 (okL u hu).2.1 (okL u hu).2.2); congr 1; omega, rfl⟩) rfl dX_partnersFrom_122
          · have hw0 : 0 < w.toInt := by
              rw [iv_le] at h82
              have : (0 : Int32).toInt = 0 := rfl
              omega
            refine qv_iload hk 5 rfl dX_partnersFrom_85 ?_
            refine qv_iload_n hk 2 rfl dX_partnersFrom_87 rfl ?_
            refine qv_iadd hk dX_partnersFrom_88 ?_
            refine qv_iconst (v := nI 1) hk dX_partnersFrom_89 (by decide) ?_
            refine qv_isub hk dX_partnersFrom_90 ?_
            refine qv_iload_n hk 2 rfl dX_partnersFrom_91 rfl ?_
            refine qv_idiv hk h14 dX_partnersFrom_92 ?_
            refine qv_goto (tgt := 102) hk dX_partnersFrom_93 (by decide) ?_
            refine qv_istore (lv' := [(7, .int (((w + v) - (nI 1)) / v)), (0, .ref (a 0)), (1, .int (nI q)), (2, .int v), (4, .int (nI (cK q (L 1)))), (5, .int (nI (40 + cL q (L 1)))), (6, .int w)]) hk dX_partnersFrom_102 (by decide) rfl ?_
            refine qv_aload_n hk 1 rfl dX_partnersFrom_104 rfl ?_
            refine qv_iconst (v := nI 1) hk dX_partnersFrom_105 (by decide) ?_
            refine qv_iload_n hk 2 rfl dX_partnersFrom_106 rfl ?_
            refine qv_iload hk 0 rfl dX_partnersFrom_107 ?_
            refine callXI (As := [.int (nI 1), .int (nI q), .int (((w + v) - (nI 1)) / v)]) (rest := []) hk (qx_place l D a cI cZ S L hL 1 q (by omega) hq (((w + v) - nI 1) / v)) gX_place (by decide) rfl rfl (Nat.le_of_ble_eq_true rfl) dX_partnersFrom_109 (fun r109 S109 hw => ?_)
            obtain ⟨e1, e2⟩ := hw
            subst e1
            refine qv_state e2 ?_
            have c2 := cP_lo q (((w + v) - nI 1) / v) (L 1)
            have c3 := cP_hi q (((w + v) - nI 1) / v) (L 1)
            refine qv_istore (lv' := [(8, .int (nI (40 * 1 + cP q (((w + v) - nI 1) / v) (L 1)))), (7, .int (((w + v) - (nI 1)) / v)), (0, .ref (a 0)), (1, .int (nI q)), (2, .int v), (4, .int (nI (cK q (L 1)))), (5, .int (nI (40 + cL q (L 1)))), (6, .int w)]) hk dX_partnersFrom_112 (by decide) rfl ?_
            refine qv_iload hk 5 rfl dX_partnersFrom_114 ?_
            refine qv_iload hk 0 rfl dX_partnersFrom_116 ?_
            refine qv_iload hk 6 rfl dX_partnersFrom_118 ?_
            refine qn_isub hk (by omega) dX_partnersFrom_120 ?_
            refine qn_isub hk (by omega) dX_partnersFrom_121 ?_
            exact hret (nI ((cK q (L 1)) - ((40 * 1 + cP q (((w + v) - nI 1) / v) (L 1)) - (40 + cL q (L 1))))) S [(8, .int (nI (40 * 1 + cP q (((w + v) - nI 1) / v) (L 1)))), (7, .int (((w + v) - (nI 1)) / v)), (0, .ref (a 0)), (1, .int (nI q)), (2, .int v), (4, .int (nI (cK q (L 1)))), (5, .int (nI (40 + cL q (L 1)))), (6, .int w)] 122 (⟨by have hp := pt_pos (q := q) (v := v) (b := b) (x := ((w + v) - nI 1) / v) (L := L 1) (fun u hu _ => pf1 hc hvp hv2 hw0 (okL u hu).2.1 (okL u hu).2.2); congr 1; omega, rfl⟩) rfl dX_partnersFrom_122
      refine qv_iload_n hk 5 rfl dX_partnersFrom_42 rfl ?_
      refine qv_sipush (v := -3000) hk dX_partnersFrom_43 (by decide) ?_
      refine qv_icmp_ge (tgt := 55) hk dX_partnersFrom_46 (by decide) (fun h46 => ?_) (fun h46 => ?_)
      · refine qv_iload_n hk 5 rfl dX_partnersFrom_55 rfl ?_
        refine qv_istore (lv' := [(6, .int b), (5, .int (nI (40 + (cL q (L 1))))), (4, .int (nI (cK q (L 1)))), (0, .ref (a 0)), (1, .int (nI q)), (2, .int v), (3, .int b)]) hk dX_partnersFrom_56 (by decide) rfl ?_
        refine qv_iload hk 0 rfl dX_partnersFrom_58 ?_
        refine qv_sipush (v := nI 3000) hk dX_partnersFrom_60 (by decide) ?_
        refine qv_icmp_le (tgt := 72) hk dX_partnersFrom_63 (by decide) (fun h63 => ?_) (fun h63 => ?_)
        · refine qv_iload hk 0 rfl dX_partnersFrom_72 ?_
          refine qv_istore (lv' := [(6, .int b), (5, .int (nI (40 + (cL q (L 1))))), (4, .int (nI (cK q (L 1)))), (0, .ref (a 0)), (1, .int (nI q)), (2, .int v), (3, .int b)]) hk dX_partnersFrom_74 (by decide) rfl ?_
          refine qv_sub [3, 4, 5, 2, 1, 0] rfl ?_
          exact J76 b (clamp_a h46 h63)
        · refine qv_sipush (v := nI 3000) hk dX_partnersFrom_66 (by decide) ?_
          refine qv_goto (tgt := 74) hk dX_partnersFrom_69 (by decide) ?_
          refine qv_istore (lv' := [(6, .int (nI 3000)), (5, .int (nI (40 + (cL q (L 1))))), (4, .int (nI (cK q (L 1)))), (0, .ref (a 0)), (1, .int (nI q)), (2, .int v), (3, .int b)]) hk dX_partnersFrom_74 (by decide) rfl ?_
          refine qv_sub [3, 4, 5, 2, 1, 0] rfl ?_
          exact J76 (nI 3000) (clamp_b h63)
      · refine qv_sipush (v := -3000) hk dX_partnersFrom_49 (by decide) ?_
        refine qv_goto (tgt := 56) hk dX_partnersFrom_52 (by decide) ?_
        refine qv_istore (lv' := [(6, .int ((-3000))), (5, .int (nI (40 + (cL q (L 1))))), (4, .int (nI (cK q (L 1)))), (0, .ref (a 0)), (1, .int (nI q)), (2, .int v), (3, .int b)]) hk dX_partnersFrom_56 (by decide) rfl ?_
        refine qv_iload hk 0 rfl dX_partnersFrom_58 ?_
        refine qv_sipush (v := nI 3000) hk dX_partnersFrom_60 (by decide) ?_
        refine qv_icmp_le (tgt := 72) hk dX_partnersFrom_63 (by decide) (fun h63 => ?_) (fun h63 => absurd (by decide) h63)
        refine qv_iload hk 0 rfl dX_partnersFrom_72 ?_
        refine qv_istore (lv' := [(6, .int ((-3000))), (5, .int (nI (40 + (cL q (L 1))))), (4, .int (nI (cK q (L 1)))), (0, .ref (a 0)), (1, .int (nI q)), (2, .int v), (3, .int b)]) hk dX_partnersFrom_74 (by decide) rfl ?_
        refine qv_sub [3, 4, 5, 2, 1, 0] rfl ?_
        exact J76 (-3000) (clamp_c h46)
    · refine qv_iload_n hk 4 rfl dX_partnersFrom_17 rfl ?_
      refine qv_if_gt (tgt := 26) hk dX_partnersFrom_18 (by decide) (fun h18 => ?_) (fun h18 => ?_)
      · refine qv_iconst (v := nI 0) hk dX_partnersFrom_26 (by decide) ?_
        exact hret (nI 0) S [(4, .int (nI (cK q (L 1)))), (0, .ref (a 0)), (1, .int (nI q)), (2, .int v), (3, .int b)] 27 (⟨by rw [h14, pt_zero.2 (fun z => absurd h18 (Int32.not_lt.mpr z))], rfl⟩) rfl dX_partnersFrom_27
      · refine qv_iload hk 0 rfl dX_partnersFrom_21 ?_
        refine qv_goto (tgt := 27) hk dX_partnersFrom_23 (by decide) ?_
        exact hret (nI (cK q (L 1))) S [(4, .int (nI (cK q (L 1)))), (0, .ref (a 0)), (1, .int (nI q)), (2, .int v), (3, .int b)] 27 (⟨by rw [h14, pt_zero.1 (Int32.not_lt.mp h18)], rfl⟩) rfl dX_partnersFrom_27

set_option maxHeartbeats 4000000 in
set_option maxRecDepth 100000 in
theorem qx_pairsFrom (l : Launch) (D : va_G) (a : Nat → Nat) (cI cZ : ClassId) (S : QS) (L : QL) (hL : XR S L) (b : Int32) : MetI l yX_pairsFrom wX_pairsFrom rX_pairsFrom D (qty cI cZ) (xw a cI cZ) S [.ref (a 0), .int b] (fun r S2 => r = nI (pF b (L 0) (L 1)) ∧ S2 = S) := by
  refine MetI.of (cc := bX_pairsFrom) (maxL := 4) (own := R_X) (by decide) rfl rfl (Nat.le_of_ble_eq_true rfl) (fun k hk hret => ?_)
  have hk : QK k bX_pairsFrom R_X 4 rX_pairsFrom l D (qty cI cZ) := hk
  have h0 := hL 0 (by omega)
  have z0 := h0.1
  show QV k (xw a cI cZ) S [(0, .ref (a 0)), (1, .int b)] 0 []
  refine qv_iconst (v := nI 0) hk dX_pairsFrom_0 (by decide) ?_
  refine qv_istore_n (lv' := [(2, .int (nI 0)), (0, .ref (a 0)), (1, .int b)]) hk dX_pairsFrom_1 rfl (by decide) rfl ?_
  refine qv_iconst (v := nI 0) hk dX_pairsFrom_2 (by decide) ?_
  refine qv_istore_n (lv' := [(3, .int (nI 0)), (2, .int (nI 0)), (0, .ref (a 0)), (1, .int b)]) hk dX_pairsFrom_3 rfl (by decide) rfl ?_
  have L4 : ∀ (n4 : Nat) (i : Nat) (n : Nat), (L 0).length - i < n4 → (i ≤ (L 0).length) → (n = pF b ((L 0).take i) (L 1)) → QV k (xw a cI cZ) (S) [(0, .ref (a 0)), (1, .int b), (2, .int (nI n)), (3, .int (nI i))] 4 [] := by
    intro n4
    induction n4 with
    | zero => intro i n hm; exact absurd hm (Nat.not_lt_zero _)
    | succ n4 ih4 =>
      intro i n hm4 hi hn
      refine qv_iload_n hk 3 rfl dX_pairsFrom_4 rfl ?_
      refine qv_aload_n hk 0 rfl dX_pairsFrom_5 rfl ?_
      refine gX_sizes hk dX_pairsFrom_6 ?_
      refine qv_iconst (v := nI 0) hk dX_pairsFrom_9 (by decide) ?_
      refine aX_sizes hk (by omega) dX_pairsFrom_10 ?_
      refine qv_top (y := nI ((L 0).length)) (h0.2.1) ?_
      refine qn_icmp_ge (tgt := 40) hk (by omega) (by omega) dX_pairsFrom_11 (by decide) (fun h11 => ?_) (fun h11 => ?_)
      · refine qv_iload_n hk 2 rfl dX_pairsFrom_40 rfl ?_
        exact hret (nI n) S [(0, .ref (a 0)), (1, .int b), (2, .int (nI n)), (3, .int (nI i))] 41 (⟨by rw [hn, show i = (L 0).length by omega, List.take_length], rfl⟩) rfl dX_pairsFrom_41
      · obtain ⟨t, ht⟩ := getq (L := L 0) (i := i) (by omega)
        have hlt := h0.2.2.1 i t ht
        have hok := h0.2.2.2.1 t (List.mem_of_getElem? ht)
        refine qv_iload_n hk 2 rfl dX_pairsFrom_14 rfl ?_
        refine qv_aload_n hk 0 rfl dX_pairsFrom_15 rfl ?_
        refine qv_aload_n hk 0 rfl dX_pairsFrom_16 rfl ?_
        refine gX_keys hk dX_pairsFrom_17 ?_
        refine qv_iload_n hk 3 rfl dX_pairsFrom_20 rfl ?_
        refine aX_keys hk (by omega) dX_pairsFrom_21 ?_
        refine qv_top (y := nI t.1) (by simpa using hlt.1) ?_
        refine qv_aload_n hk 0 rfl dX_pairsFrom_22 rfl ?_
        refine gX_values hk dX_pairsFrom_23 ?_
        refine qv_iload_n hk 3 rfl dX_pairsFrom_26 rfl ?_
        refine aX_values hk (by omega) dX_pairsFrom_27 ?_
        refine qv_top (y := t.2) (by simpa using hlt.2) ?_
        refine qv_iload_n hk 1 rfl dX_pairsFrom_28 rfl ?_
        refine callXI (As := [.int (nI t.1), .int t.2, .int b]) (rest := [.int (nI n)]) hk (qx_partnersFrom l D a cI cZ S L hL t.1 t.2 b hok.1 hok.2.1 hok.2.2) gX_partnersFrom (by decide) rfl rfl (Nat.le_of_ble_eq_true rfl) dX_pairsFrom_29 (fun r29 S29 hw => ?_)
        obtain ⟨e1, e2⟩ := hw
        subst e1
        refine qv_state e2 ?_
        refine qn_iadd hk dX_pairsFrom_32 ?_
        refine qv_istore_n (lv' := [(2, .int (nI (n + (pt b t (L 1))))), (0, .ref (a 0)), (1, .int b), (3, .int (nI i))]) hk dX_pairsFrom_33 rfl (by decide) rfl ?_
        refine qv_iinc (v := nI (i + 1)) (lv' := [(3, .int (nI (i + 1))), (2, .int (nI (n + (pt b t (L 1))))), (0, .ref (a 0)), (1, .int b)]) hk 3 rfl dX_pairsFrom_34 (qn_inc _) (by decide) rfl ?_
        refine qv_goto (tgt := 4) hk dX_pairsFrom_37 (by decide) ?_
        refine qv_sub [2, 3, 1, 0] rfl ?_
        exact ih4 (i + 1) ((n + (pt b t (L 1)))) (by omega) (by omega) (by rw [tk ht, pF_snoc, hn])
  refine qv_sub [2, 3, 1, 0] rfl ?_
  exact L4 _ 0 0 (Nat.lt_succ_self _) (Nat.zero_le _) rfl

set_option maxHeartbeats 4000000 in
set_option maxRecDepth 100000 in
theorem qx_bandSum (l : Launch) (D : va_G) (a : Nat → Nat) (cI cZ : ClassId) (S : QS) (R : List QE) (hR : outR (S 11 0) (S 6) (S 7) (S 8) (S 9) (S 10) R) (x : Int32) : MetI l yX_bandSum wX_bandSum rX_bandSum D (qty cI cZ) (xw a cI cZ) S [.ref (a 0), .int x] (fun r S2 => qans x 4 (-1000000) (fun g => if bD (S 5) g = true then bS g R else -2000000) r ∧ S2 = S) := by
  refine MetI.of (cc := bX_bandSum) (maxL := 4) (own := R_X) (by decide) rfl rfl (Nat.le_of_ble_eq_true rfl) (fun k hk hret => ?_)
  have hk : QK k bX_bandSum R_X 4 rX_bandSum l D (qty cI cZ) := hk
  have hO := hR.1
  have h16 := hR.2.1
  show QV k (xw a cI cZ) S [(0, .ref (a 0)), (1, .int x)] 0 []
  refine qv_iload_n hk 1 rfl dX_bandSum_0 rfl ?_
  refine qv_if_lt (tgt := 9) hk dX_bandSum_1 (by decide) (fun h1 => ?_) (fun h1 => ?_)
  · refine qv_ldc hk k_cn_X_93 dX_bandSum_9 ?_
    exact hret ((-1000000)) S [(0, .ref (a 0)), (1, .int x)] 11 (⟨Or.inl ⟨isN_lt (by decide) h1, rfl⟩, rfl⟩) rfl dX_bandSum_11
  · refine qv_iload_n hk 1 rfl dX_bandSum_4 rfl ?_
    refine qv_iconst (v := nI 3) hk dX_bandSum_5 (by decide) ?_
    refine qv_icmp_le (tgt := 12) hk dX_bandSum_6 (by decide) (fun h6 => ?_) (fun h6 => ?_)
    · obtain ⟨g, hg, rfl⟩ : isN x 4 := isN_le (by omega) h1 h6
      refine qv_aload_n hk 0 rfl dX_bandSum_12 rfl ?_
      refine qv_iload_n hk 1 rfl dX_bandSum_13 rfl ?_
      refine callXI (As := [.int (nI g)]) (rest := []) hk (qx_isBandFinished l D a cI cZ S g hg) gX_isBandFinished (by decide) rfl rfl (Nat.le_of_ble_eq_true rfl) dX_bandSum_14 (fun r14 S14 hw => ?_)
      obtain ⟨hw, e2⟩ := hw
      refine qv_state e2 ?_
      rcases hw with ⟨rfl, hc⟩ | ⟨rfl, hc⟩
      · refine qv_if_ne (tgt := 23) hk dX_bandSum_17 (by decide) (fun _ => ?_) (fun h => absurd h (by decide))
        refine qv_iconst (v := nI 0) hk dX_bandSum_23 (by decide) ?_
        refine qv_istore_n (lv' := [(2, .int (nI 0)), (0, .ref (a 0)), (1, .int (nI g))]) hk dX_bandSum_24 rfl (by decide) rfl ?_
        refine qv_iconst (v := nI 0) hk dX_bandSum_25 (by decide) ?_
        refine qv_istore_n (lv' := [(3, .int (nI 0)), (2, .int (nI 0)), (0, .ref (a 0)), (1, .int (nI g))]) hk dX_bandSum_26 rfl (by decide) rfl ?_
        have L27 : ∀ (n27 : Nat) (i : Nat) (s : Int32), R.length - i < n27 → (i ≤ R.length) → (s = bS g (R.take i)) → QV k (xw a cI cZ) (S) [(0, .ref (a 0)), (1, .int (nI g)), (2, .int s), (3, .int (nI i))] 27 [] := by
          intro n27
          induction n27 with
          | zero => intro i s hm; exact absurd hm (Nat.not_lt_zero _)
          | succ n27 ih27 =>
            intro i s hm27 hi hs
            refine qv_iload_n hk 3 rfl dX_bandSum_27 rfl ?_
            refine qv_aload_n hk 0 rfl dX_bandSum_28 rfl ?_
            refine gX_outputs hk dX_bandSum_29 ?_
            refine qv_top (y := nI R.length) (hO) ?_
            refine qn_icmp_ge (tgt := 62) hk (by omega) (by omega) dX_bandSum_32 (by decide) (fun h32 => ?_) (fun h32 => ?_)
            · refine qv_iload_n hk 2 rfl dX_bandSum_62 rfl ?_
              exact hret s S [(0, .ref (a 0)), (1, .int (nI g)), (2, .int s), (3, .int (nI i))] 63 (⟨Or.inr ⟨g, hg, rfl, by dsimp only; rw [if_pos hc, hs, show i = R.length by omega, List.take_length]⟩, rfl⟩) rfl dX_bandSum_63
            · obtain ⟨e, he⟩ := getq (L := R) (i := i) (by omega)
              have hlt := hR.2.2 i e he
              refine qv_aload_n hk 0 rfl dX_bandSum_35 rfl ?_
              refine gX_outKey hk dX_bandSum_36 ?_
              refine qv_iload_n hk 3 rfl dX_bandSum_39 rfl ?_
              refine aX_outKey hk (by omega) dX_bandSum_40 ?_
              refine qv_top (y := nI e.1) (hlt.2.1) ?_
              refine qv_iconst (v := nI 2) hk dX_bandSum_41 (by decide) ?_
              refine qv_ishr hk dX_bandSum_42 ?_
              refine qv_top (y := nI (e.1 / 4)) (shr2 (by omega)) ?_
              refine qv_iload_n hk 1 rfl dX_bandSum_43 rfl ?_
              refine qn_icmp_ne (tgt := 56) hk (by omega) (by omega) dX_bandSum_44 (by decide) (fun h44 => ?_) (fun h44 => ?_)
              · refine qv_iinc (v := nI (i + 1)) (lv' := [(3, .int (nI (i + 1))), (0, .ref (a 0)), (1, .int (nI g)), (2, .int s)]) hk 3 rfl dX_bandSum_56 (qn_inc _) (by decide) rfl ?_
                refine qv_goto (tgt := 27) hk dX_bandSum_59 (by decide) ?_
                refine qv_sub [1, 2, 3, 0] rfl ?_
                exact ih27 (i + 1) s (by omega) (by omega) (by rw [tk he, bS_snoc, if_neg h44, hs])
              · refine qv_iload_n hk 2 rfl dX_bandSum_47 rfl ?_
                refine qv_aload_n hk 0 rfl dX_bandSum_48 rfl ?_
                refine gX_outSum hk dX_bandSum_49 ?_
                refine qv_iload_n hk 3 rfl dX_bandSum_52 rfl ?_
                refine aX_outSum hk (by omega) dX_bandSum_53 ?_
                refine qv_top (y := e.2.2.1) (hlt.2.2.2.1) ?_
                refine qv_iadd hk dX_bandSum_54 ?_
                refine qv_istore_n (lv' := [(2, .int (s + e.2.2.1)), (0, .ref (a 0)), (1, .int (nI g)), (3, .int (nI i))]) hk dX_bandSum_55 rfl (by decide) rfl ?_
                refine qv_iinc (v := nI (i + 1)) (lv' := [(3, .int (nI (i + 1))), (2, .int (s + e.2.2.1)), (0, .ref (a 0)), (1, .int (nI g))]) hk 3 rfl dX_bandSum_56 (qn_inc _) (by decide) rfl ?_
                refine qv_goto (tgt := 27) hk dX_bandSum_59 (by decide) ?_
                refine qv_sub [2, 3, 1, 0] rfl ?_
                exact ih27 (i + 1) ((s + e.2.2.1)) (by omega) (by omega) (by rw [tk he, bS_snoc, if_pos h44, hs])
        refine qv_sub [2, 3, 1, 0] rfl ?_
        exact L27 _ 0 (nI 0) (Nat.lt_succ_self _) (Nat.zero_le _) rfl
      · refine qv_if_ne (tgt := 23) hk dX_bandSum_17 (by decide) (fun h => absurd h (by decide)) (fun _ => ?_)
        refine qv_ldc hk k_cn_X_94 dX_bandSum_20 ?_
        exact hret ((-2000000)) S [(0, .ref (a 0)), (1, .int (nI g))] 22 (⟨Or.inr ⟨g, hg, rfl, (if_neg (by rw [hc]; decide)).symm⟩, rfl⟩) rfl dX_bandSum_22
    · refine qv_ldc hk k_cn_X_93 dX_bandSum_9 ?_
      exact hret ((-1000000)) S [(0, .ref (a 0)), (1, .int x)] 11 (⟨Or.inl ⟨isN_gt (by decide) h6, rfl⟩, rfl⟩) rfl dX_bandSum_11
end
section
/-! cutting out of, and putting into, a stream's list -/
def drS (c0 c1 : Nat) (S : QS) (st p g i : Nat) : QS := fun c => if c = c0 ∨ c = c1 then (fun x => if 40 * st + p ≤ x ∧ x + g < 40 * st + i then S c (x + g) else S c x) else S c
theorem drS_0 (c0 c1 : Nat) (S : QS) (st p g : Nat) : S = drS c0 c1 S st p g (p + g) := by
  funext c x
  unfold drS
  by_cases h : c = c0 ∨ c = c1
  · rw [if_pos h, if_neg (by omega)]
  · rw [if_neg h]
theorem drS_step {c0 c1 : Nat} (hc : c0 ≠ c1) (S : QS) (st : Nat) {p g i : Nat} (h : p + g ≤ i) : up2 (up2 (drS c0 c1 S st p g i) c0 (40 * st + i - g) (drS c0 c1 S st p g i c0 (40 * st + i))) c1 (40 * st + i - g) (up2 (drS c0 c1 S st p g i) c0 (40 * st + i - g) (drS c0 c1 S st p g i c0 (40 * st + i)) c1 (40 * st + i)) = drS c0 c1 S st p g (i + 1) := by
  have hc' : c1 ≠ c0 := fun z => hc z.symm
  funext c x
  by_cases h0 : c = c0
  · subst h0
    simp only [up2, upd, drS, if_neg hc, if_neg hc', if_true, true_or, or_true, if_pos]
    by_cases hx : x = 40 * st + i - g
    · subst hx
      rw [if_pos rfl, if_neg (by omega), if_pos (by omega)]
      congr 1
      omega
    · rw [if_neg hx]
      by_cases h1 : 40 * st + p ≤ x ∧ x + g < 40 * st + i
      · rw [if_pos h1, if_pos (by omega)]
      · rw [if_neg h1, if_neg (by omega)]
  · by_cases h1 : c = c1
    · subst h1
      simp only [up2, upd, drS, if_neg hc, if_neg hc', if_true, true_or, or_true, if_pos]
      by_cases hx : x = 40 * st + i - g
      · subst hx
        rw [if_pos rfl, if_neg (by omega), if_pos (by omega)]
        congr 1
        omega
      · rw [if_neg hx]
        by_cases h1 : 40 * st + p ≤ x ∧ x + g < 40 * st + i
        · rw [if_pos h1, if_pos (by omega)]
        · rw [if_neg h1, if_neg (by omega)]
    · simp only [up2, drS, if_neg h0, if_neg h1, h0, h1, or_self, if_false]
def inS (S : QS) (st n i : Nat) : QS := fun c => if c = 0 ∨ c = 1 then (fun x => if 40 * st + i < x ∧ x ≤ 40 * st + n then S c (x - 1) else S c x) else S c
theorem inS_0 (S : QS) (st n : Nat) : S = inS S st n n := by
  funext c x
  unfold inS
  by_cases h : c = 0 ∨ c = 1
  · rw [if_pos h, if_neg (by omega)]
  · rw [if_neg h]
theorem inS_step (S : QS) (st : Nat) {n i : Nat} (h : 0 < i) (h2 : i ≤ n) : up2 (up2 (inS S st n i) 0 (40 * st + i) (inS S st n i 0 (40 * st + i - 1))) 1 (40 * st + i) (up2 (inS S st n i) 0 (40 * st + i) (inS S st n i 0 (40 * st + i - 1)) 1 (40 * st + i - 1)) = inS S st n (i - 1) := by
  have e01 : ¬ (0 = 1) := by decide
  have e10 : ¬ (1 = 0) := by decide
  funext c x
  by_cases h0 : c = 0
  · subst h0
    simp only [up2, upd, inS, if_true, true_or, or_true, if_neg e01, if_neg e10]
    by_cases hx : x = 40 * st + i
    · subst hx
      rw [if_pos rfl, if_neg (by omega), if_pos (by omega)]
    · rw [if_neg hx]
      by_cases h1 : 40 * st + i < x ∧ x ≤ 40 * st + n
      · rw [if_pos h1, if_pos (by omega)]
      · rw [if_neg h1, if_neg (by omega)]
  · by_cases h1 : c = 1
    · subst h1
      simp only [up2, upd, inS, if_true, true_or, or_true, if_neg e01, if_neg e10]
      by_cases hx : x = 40 * st + i
      · subst hx
        rw [if_pos rfl, if_neg (by omega), if_pos (by omega)]
      · rw [if_neg hx]
        by_cases h1 : 40 * st + i < x ∧ x ≤ 40 * st + n
        · rw [if_pos h1, if_pos (by omega)]
        · rw [if_neg h1, if_neg (by omega)]
    · simp only [up2, inS, if_neg h0, if_neg h1, h0, h1, or_self, if_false]
theorem cL_perm {A B : List QT} (h : A.Perm B) (k : Nat) : cL k A = cL k B := h.countP_eq _
theorem cK_perm {A B : List QT} (h : A.Perm B) (k : Nat) : cK k A = cK k B := h.countP_eq _
theorem sK_perm {A B : List QT} (h : A.Perm B) (k : Nat) : sK k A = sK k B := by
  induction h with
  | nil => rfl
  | cons x _ ih => rw [sK, sK, ih]
  | swap x y l => rw [sK, sK, sK, sK, ← Int32.add_assoc, ← Int32.add_assoc, Int32.add_comm (if y.1 = k then y.2 else 0)]
  | trans _ _ ih1 ih2 => exact ih1.trans ih2
theorem cL_cons (k : Nat) (t : QT) (L : List QT) : cL k (t :: L) = cL k L + (if t.1 < k then 1 else 0) := by
  unfold cL
  rw [List.countP_cons]
  simp only [decide_eq_true_eq]
/-- the list without g places from p on -/
def rmv {α : Type} (l : List α) (p g : Nat) : List α := l.take p ++ l.drop (p + g)
theorem rmv_len {α : Type} {l : List α} {p g : Nat} (h : p + g ≤ l.length) : (rmv l p g).length = l.length - g := by
  unfold rmv
  rw [List.length_append, List.length_take, List.length_drop]
  omega
theorem rmv_get {α : Type} {l : List α} {p g i : Nat} (h : p + g ≤ l.length) : (rmv l p g)[i]? = if i < p then l[i]? else l[i + g]? := by
  unfold rmv
  by_cases hi : i < p
  · rw [if_pos hi, List.getElem?_append_left (by rw [List.length_take]; omega), List.getElem?_take, if_pos hi]
  · rw [if_neg hi, List.getElem?_append_right (by rw [List.length_take]; omega), List.getElem?_drop, List.length_take]
    congr 1
    omega
theorem rmv_sub {α : Type} (l : List α) (p g : Nat) : (rmv l p g).Sublist l := by
  unfold rmv
  have h : (l.drop (p + g)).Sublist (l.drop p) := by
    rw [← List.drop_drop]
    exact List.drop_sublist _ _
  have := List.Sublist.append (List.Sublist.refl (l.take p)) h
  rwa [List.take_append_drop] at this
theorem rmv_lst {K V K' V' : Nat → Int32} {b p g : Nat} {l : List QT} (h : lst K V b l) (hp : p + g ≤ l.length) (hK : ∀ x, K' x = if b + p ≤ x ∧ x + g < b + l.length then K (x + g) else K x) (hV : ∀ x, V' x = if b + p ≤ x ∧ x + g < b + l.length then V (x + g) else V x) : lst K' V' b (rmv l p g) := by
  intro i t ht
  have hlen : i < (rmv l p g).length := (List.getElem?_eq_some_iff.mp ht).1
  rw [rmv_len hp] at hlen
  rw [rmv_get hp] at ht
  by_cases hi : i < p
  · rw [if_pos hi] at ht
    rw [hK, hV, if_neg (by omega), if_neg (by omega)]
    exact h i t ht
  · rw [if_neg hi] at ht
    rw [hK, hV, if_pos (by omega), if_pos (by omega), Nat.add_assoc]
    exact h _ t ht
theorem rmv_perm {α : Type} {l : List α} {p : Nat} {t : α} (h : l[p]? = some t) : l.Perm (t :: rmv l p 1) := by
  obtain ⟨h1, rfl⟩ := List.getElem?_eq_some_iff.mp h
  have e : l = l.take p ++ l[p] :: l.drop (p + 1) := by
    rw [← List.drop_eq_getElem_cons h1, List.take_append_drop]
  unfold rmv
  exact (List.Perm.of_eq e).trans List.perm_middle
theorem xr_other {S S2 : QS} {st : Nat} {l : List QT} (h : xr S st l) (h0 : ∀ i, i < 40 → S2 0 (40 * st + i) = S 0 (40 * st + i)) (h1 : ∀ i, i < 40 → S2 1 (40 * st + i) = S 1 (40 * st + i)) (h2 : S2 2 st = S 2 st) (h3 : ∀ k, k ≤ 16 → S2 3 (17 * st + k) = S 3 (17 * st + k)) (h4 : ∀ k, k < 16 → S2 4 (16 * st + k) = S 4 (16 * st + k)) : xr S2 st l := by
  obtain ⟨a1, a2, a3, a4, a5, a6, a7⟩ := h
  refine ⟨a1, h2.trans a2, fun i t ht => ?_, a4, a5, fun k hk => (h3 k hk).trans (a6 k hk), fun k hk => (h4 k hk).trans (a7 k hk)⟩
  have hl : i < l.length := (List.getElem?_eq_some_iff.mp ht).1
  rw [h0 i (by omega), h1 i (by omega)]
  exact a3 i t ht
theorem nI_addneg {a g : Nat} (h : g ≤ a) : nI a + -(nI g) = nI (a - g) := by
  rw [← pk_sub h, Int32.sub_eq_add_neg]
def rmF (S : QS) (st q p g n : Nat) (z : Int32) : QS := shB (up2 (up2 (drS 0 1 S st p g n) 2 st (nI (n - g))) 4 (16 * st + q) z) st q (-(nI g)) 17
theorem rmF_hi (S : QS) (st q p g n : Nat) (z : Int32) : ∀ c, 5 ≤ c → rmF S st q p g n z c = S c := by
  intro c hc
  simp only [rmF, shB, up2, drS]
  rw [if_neg (by omega), if_neg (by omega), if_neg (by omega), if_neg (by omega)]
theorem rmF_0 (S : QS) (st q p g n : Nat) (z : Int32) {c : Nat} (hc : c = 0 ∨ c = 1) (x : Nat) : rmF S st q p g n z c x = if 40 * st + p ≤ x ∧ x + g < 40 * st + n then S c (x + g) else S c x := by
  simp only [rmF, shB, up2, drS]
  rw [if_neg (by omega), if_neg (by omega), if_neg (by omega), if_pos hc]
theorem rmF_2 (S : QS) (st q p g n : Nat) (z : Int32) (x : Nat) : rmF S st q p g n z 2 x = if x = st then nI (n - g) else S 2 x := by
  simp [rmF, shB, up2, drS, upd]
theorem rmF_3 (S : QS) (st q p g n : Nat) (z : Int32) (x : Nat) : rmF S st q p g n z 3 x = if 17 * st + q < x ∧ x < 17 * st + 17 then S 3 x + -(nI g) else S 3 x := by
  simp [rmF, shB, up2, drS, upd]
theorem rmF_4 (S : QS) (st q p g n : Nat) (z : Int32) (x : Nat) : rmF S st q p g n z 4 x = if x = 16 * st + q then z else S 4 x := by
  simp [rmF, shB, up2, drS, upd]
theorem rm_ok {S : QS} {L : QL} (h : XR S L) {st q p g : Nat} {z : Int32} (hst : st < 2) (hq : q < 16) (hp : p + g ≤ (L st).length) (hc : ∀ k, k ≤ 16 → cL k (L st) = cL k (rmv (L st) p g) + (if q < k then g else 0)) (hs : ∀ k, k < 16 → sK k (rmv (L st) p g) = if k = q then z else sK k (L st)) : XR (rmF S st q p g (L st).length z) (va_up L st (rmv (L st) p g)) := by
  intro st' hst'
  have hx := h st hst
  by_cases e : st' = st
  · subst e
    rw [va_up_self]
    obtain ⟨a1, a2, a3, a4, a5, a6, a7⟩ := hx
    refine ⟨by rw [rmv_len hp]; omega, by rw [rmF_2, if_pos rfl, rmv_len hp], rmv_lst a3 hp (rmF_0 _ _ _ _ _ _ _ (Or.inl rfl)) (rmF_0 _ _ _ _ _ _ _ (Or.inr rfl)), fun t ht => a4 t ((rmv_sub _ _ _).subset ht), List.Pairwise.sublist (rmv_sub _ _ _) a5, fun k hk => ?_, fun k hk => ?_⟩
    · have := hc k hk
      rw [rmF_3, a6 k hk]
      by_cases hqk : q < k
      · rw [if_pos hqk] at this
        rw [if_pos (by omega), nI_addneg (by omega)]
        congr 1
        omega
      · rw [if_neg hqk] at this
        rw [if_neg (by omega)]
        congr 1
    · rw [rmF_4, hs k hk]
      by_cases hkq : k = q
      · rw [if_pos (by omega), if_pos hkq]
      · rw [if_neg (by omega), if_neg hkq]
        exact a7 k hk
  · rw [va_up_ne _ _ e]
    have a1 := hx.1
    refine xr_other (h st' hst') (fun i hi => ?_) (fun i hi => ?_) (by rw [rmF_2, if_neg e]) (fun k hk => ?_) (fun k hk => ?_)
    · rw [rmF_0 _ _ _ _ _ _ _ (Or.inl rfl), if_neg (by omega)]
    · rw [rmF_0 _ _ _ _ _ _ _ (Or.inr rfl), if_neg (by omega)]
    · rw [rmF_3, if_neg (by omega)]
    · rw [rmF_4, if_neg (by omega)]
/-- the list without a key -/
def wo (q : Nat) (l : List QT) : List QT := l.filter (fun t => !(t.1 == q))
theorem wo_cL (q k : Nat) : ∀ l : List QT, cL k l = cL k (wo q l) + (if q < k then cK q l else 0)
  | [] => by simp [cL, wo, cK]
  | t :: l => by
    have ih := wo_cL q k l
    rw [cL_cons, cK_cons, ih]
    unfold wo
    by_cases h : t.1 = q
    · rw [List.filter_cons_of_neg (by simpa using h), if_pos h, h]
      split <;> omega
    · rw [List.filter_cons_of_pos (by simpa using h), cL_cons, if_neg h]
      split <;> split <;> omega
theorem wo_sK (q k : Nat) : ∀ l : List QT, sK k (wo q l) = if k = q then 0 else sK k l
  | [] => by simp [sK, wo]
  | t :: l => by
    have ih := wo_sK q k l
    unfold wo at *
    by_cases h : t.1 = q
    · rw [List.filter_cons_of_neg (by simpa using h), ih]
      by_cases hk : k = q
      · rw [if_pos hk, if_pos hk]
      · rw [if_neg hk, if_neg hk, sK, if_neg (by omega), Int32.zero_add]
    · rw [List.filter_cons_of_pos (by simpa using h), sK, ih]
      by_cases hk : k = q
      · rw [if_pos hk, if_pos hk, if_neg (by omega), Int32.zero_add]
      · rw [if_neg hk, if_neg hk, sK]
theorem mem_take_idx {α : Type} {l : List α} {n : Nat} {t : α} (h : t ∈ l.take n) : ∃ i, i < n ∧ l[i]? = some t := by
  obtain ⟨i, hi⟩ := List.getElem?_of_mem h
  rw [List.getElem?_take] at hi
  by_cases hn : i < n
  · rw [if_pos hn] at hi
    exact ⟨i, hn, hi⟩
  · rw [if_neg hn] at hi
    cases hi
theorem mem_drop_idx {α : Type} {l : List α} {n : Nat} {t : α} (h : t ∈ l.drop n) : ∃ i, n ≤ i ∧ l[i]? = some t := by
  obtain ⟨i, hi⟩ := List.getElem?_of_mem h
  rw [List.getElem?_drop] at hi
  exact ⟨n + i, by omega, hi⟩
theorem wo_rmv {l : List QT} (hs : srt l) (q : Nat) : wo q l = rmv l (cL q l) (cK q l) := by
  have e := cL_succ q l
  have hsplit : l = l.take (cL q l) ++ ((l.drop (cL q l)).take (cK q l) ++ l.drop (cL q l + cK q l)) := by
    rw [← List.drop_drop, List.take_append_drop, List.take_append_drop]
  unfold rmv
  conv => lhs; rw [hsplit]
  unfold wo
  rw [List.filter_append, List.filter_append]
  have e1 : (l.take (cL q l)).filter (fun t => !(t.1 == q)) = l.take (cL q l) := by
    rw [List.filter_eq_self]
    intro t ht
    obtain ⟨i, hi, hti⟩ := mem_take_idx ht
    have := (cL_idx hs q hti).mpr hi
    have : ¬ t.1 = q := by omega
    simpa using this
  have e2 : ((l.drop (cL q l)).take (cK q l)).filter (fun t => !(t.1 == q)) = [] := by
    rw [List.filter_eq_nil_iff]
    intro t ht
    obtain ⟨i, hi, hti⟩ := mem_take_idx ht
    rw [List.getElem?_drop] at hti
    have := (str_idx hs q hti).mpr ⟨by omega, by omega⟩
    simpa using this
  have e3 : (l.drop (cL q l + cK q l)).filter (fun t => !(t.1 == q)) = l.drop (cL q l + cK q l) := by
    rw [List.filter_eq_self]
    intro t ht
    obtain ⟨i, hi, hti⟩ := mem_drop_idx ht
    have h2 := (cL_idx hs (q + 1) hti)
    have : ¬ t.1 = q := fun z => by
      have := h2.mp (by omega)
      omega
    simpa using this
  rw [e1, e2, e3, List.nil_append]
theorem drop_ok {S : QS} {L : QL} (h : XR S L) {st q : Nat} (hst : st < 2) (hq : q < 16) : XR (rmF S st q (cL q (L st)) (cK q (L st)) (L st).length (nI 0)) (va_up L st (wo q (L st))) := by
  have hs := (h st hst).2.2.2.2.1
  have e := cL_succ q (L st)
  have e2 := cL_le (q + 1) (L st)
  rw [wo_rmv hs]
  refine rm_ok h hst hq (by omega) (fun k hk => ?_) (fun k hk => ?_)
  · rw [← wo_rmv hs]
    exact wo_cL q k _
  · rw [← wo_rmv hs]
    exact wo_sK q k _
theorem retr_ok {S : QS} {L : QL} (h : XR S L) {st q p : Nat} {v : Int32} (hst : st < 2) (hq : q < 16) (hp : (L st)[p]? = some (q, v)) : XR (rmF S st q p 1 (L st).length (S 4 (16 * st + q) - v)) (va_up L st (rmv (L st) p 1)) := by
  have hx := h st hst
  have hl : p < (L st).length := (List.getElem?_eq_some_iff.mp hp).1
  have hperm := rmv_perm hp
  refine rm_ok h hst hq (by omega) (fun k hk => ?_) (fun k hk => ?_)
  · rw [cL_perm hperm, cL_cons]
  · have := sK_perm hperm k
    rw [sK] at this
    by_cases hkq : k = q
    · subst hkq
      rw [if_pos rfl] at this
      rw [if_pos rfl, hx.2.2.2.2.2.2 k hk, this, Int32.add_comm, Int32.add_sub_cancel]
    · rw [if_neg (fun z => hkq z.symm), Int32.zero_add] at this
      rw [if_neg hkq, this]
/-- where the search ends: the tuple is there or nowhere -/
theorem found_or {S : QS} {L : QL} (h : XR S L) {st q : Nat} {v : Int32} (hst : st < 2) (hno : ∀ t, (L st)[cP q v (L st)]? = some t → t ≠ (q, v)) : (q, v) ∉ L st := by
  intro hm
  have hs := (h st hst).2.2.2.2.1
  obtain ⟨i, hi⟩ := List.getElem?_of_mem hm
  have h1 := cP_idx hs q v hi
  have h2 : ¬ i < cP q v (L st) := fun z => by
    have := h1.mpr z
    simp only [] at this
    omega
  have hl : i < (L st).length := (List.getElem?_eq_some_iff.mp hi).1
  obtain ⟨t, ht⟩ := getq (L := L st) (i := cP q v (L st)) (by omega)
  have h3 := cP_idx hs q v ht
  have h4 : ¬ (t.1 < q ∨ t.1 = q ∧ t.2.toInt < v.toInt) := fun z => by
    have := h3.mp z
    omega
  refine hno t ht ?_
  rcases Nat.lt_or_eq_of_le (Nat.not_lt.mp h2) with z | z
  · have := srt_get hs z ht hi
    unfold oT at this
    simp only [] at this
    have e1 : t.1 = q := by omega
    have e2 : t.2 = v := Int32.toInt_inj.mp (by omega)
    exact Prod.ext e1 e2
  · rw [z, hi] at ht
    cases ht
    rfl
def fdF (S : QS) (st q p n : Nat) (v : Int32) : QS := shB (up2 (up2 (up2 (up2 (inS S st n p) 0 (40 * st + p) (nI q)) 1 (40 * st + p) v) 2 st (nI (n + 1))) 4 (16 * st + q) (S 4 (16 * st + q) + v)) st q (nI 1) 17
theorem fdF_hi (S : QS) (st q p n : Nat) (v : Int32) : ∀ c, 5 ≤ c → fdF S st q p n v c = S c := by
  intro c hc
  simp only [fdF, shB, up2, inS]
  rw [if_neg (by omega), if_neg (by omega), if_neg (by omega), if_neg (by omega), if_neg (by omega), if_neg (by omega)]
theorem fdF_0 (S : QS) (st q p n : Nat) (v : Int32) (x : Nat) : fdF S st q p n v 0 x = if x = 40 * st + p then nI q else if 40 * st + p < x ∧ x ≤ 40 * st + n then S 0 (x - 1) else S 0 x := by
  simp [fdF, shB, up2, inS, upd]
theorem fdF_1 (S : QS) (st q p n : Nat) (v : Int32) (x : Nat) : fdF S st q p n v 1 x = if x = 40 * st + p then v else if 40 * st + p < x ∧ x ≤ 40 * st + n then S 1 (x - 1) else S 1 x := by
  simp [fdF, shB, up2, inS, upd]
theorem fdF_2 (S : QS) (st q p n : Nat) (v : Int32) (x : Nat) : fdF S st q p n v 2 x = if x = st then nI (n + 1) else S 2 x := by
  simp [fdF, shB, up2, inS, upd]
theorem fdF_3 (S : QS) (st q p n : Nat) (v : Int32) (x : Nat) : fdF S st q p n v 3 x = if 17 * st + q < x ∧ x < 17 * st + 17 then S 3 x + nI 1 else S 3 x := by
  simp [fdF, shB, up2, inS, upd]
theorem fdF_4 (S : QS) (st q p n : Nat) (v : Int32) (x : Nat) : fdF S st q p n v 4 x = if x = 16 * st + q then S 4 (16 * st + q) + v else S 4 x := by
  simp [fdF, shB, up2, inS, upd]
/-- the list with a tuple put in at p -/
def ins {α : Type} (l : List α) (p : Nat) (t : α) : List α := l.take p ++ t :: l.drop p
theorem ins_perm {α : Type} (l : List α) (p : Nat) (t : α) : (ins l p t).Perm (t :: l) := by
  unfold ins
  have := List.perm_middle (a := t) (l₁ := l.take p) (l₂ := l.drop p)
  rwa [List.take_append_drop] at this
theorem ins_get {α : Type} {l : List α} {p i : Nat} {t : α} (h : p ≤ l.length) : (ins l p t)[i]? = if i = p then some t else if i < p then l[i]? else l[i - 1]? := by
  unfold ins
  by_cases hi : i < p
  · rw [if_neg (by omega), if_pos hi, List.getElem?_append_left (by rw [List.length_take]; omega), List.getElem?_take, if_pos hi]
  · rw [List.getElem?_append_right (by rw [List.length_take]; omega), List.length_take, show min p l.length = p by omega]
    by_cases he : i = p
    · subst he
      rw [if_pos rfl, Nat.sub_self, List.getElem?_cons_zero]
    · rw [if_neg he, if_neg hi, show i - p = (i - p - 1) + 1 by omega, List.getElem?_cons_succ, List.getElem?_drop]
      congr 1
      omega
theorem feed_ok {S : QS} {L : QL} (h : XR S L) {st q : Nat} {v : Int32} (hst : st < 2) (hq : q < 16) (hv1 : -50 ≤ v.toInt) (hv2 : v.toInt ≤ 50) (hn : (L st).length < 40) : XR (fdF S st q (cP q v (L st)) (L st).length v) (va_up L st (ins (L st) (cP q v (L st)) (q, v))) := by
  intro st' hst'
  have hx := h st hst
  have hp := cP_le q v (L st)
  by_cases e : st' = st
  · subst e
    rw [va_up_self]
    obtain ⟨a1, a2, a3, a4, a5, a6, a7⟩ := hx
    have hperm := ins_perm (L st') (cP q v (L st')) (q, v)
    have hlen : (ins (L st') (cP q v (L st')) (q, v)).length = (L st').length + 1 := by rw [hperm.length_eq]; rfl
    refine ⟨by rw [hlen]; omega, by rw [fdF_2, if_pos rfl, hlen], fun i t ht => ?_, fun t ht => ?_, ?_, fun k hk => ?_, fun k hk => ?_⟩
    · have hl : i < (ins (L st') (cP q v (L st')) (q, v)).length := (List.getElem?_eq_some_iff.mp ht).1
      rw [hlen] at hl
      rw [ins_get hp] at ht
      rw [fdF_0, fdF_1]
      by_cases hi : i = cP q v (L st')
      · rw [if_pos hi] at ht
        cases ht
        rw [if_pos (by omega), if_pos (by omega)]
        exact ⟨rfl, rfl⟩
      · rw [if_neg hi] at ht
        have g1 : ¬ (40 * st' + i = 40 * st' + cP q v (L st')) := by omega
        simp only [if_neg g1]
        by_cases hi2 : i < cP q v (L st')
        · rw [if_pos hi2] at ht
          have g2 : ¬ (40 * st' + cP q v (L st') < 40 * st' + i ∧ 40 * st' + i ≤ 40 * st' + (L st').length) := by omega
          simp only [if_neg g2]
          exact a3 i t ht
        · rw [if_neg hi2] at ht
          have g2 : 40 * st' + cP q v (L st') < 40 * st' + i ∧ 40 * st' + i ≤ 40 * st' + (L st').length := by omega
          simp only [if_pos g2, show 40 * st' + i - 1 = 40 * st' + (i - 1) by omega]
          exact a3 (i - 1) t ht
    · rcases List.mem_cons.mp (hperm.mem_iff.mp ht) with rfl | ht
      · exact ⟨hq, hv1, hv2⟩
      · exact a4 t ht
    · unfold srt ins
      rw [List.pairwise_append, List.pairwise_cons]
      refine ⟨List.Pairwise.sublist (List.take_sublist _ _) a5, ⟨fun u hu => ?_, List.Pairwise.sublist (List.drop_sublist _ _) a5⟩, fun t ht u hu => ?_⟩
      · obtain ⟨i, hi, hti⟩ := mem_drop_idx hu
        have := cP_idx a5 q v hti
        have : ¬ (u.1 < q ∨ u.1 = q ∧ u.2.toInt < v.toInt) := fun z => by
          have := this.mp z
          omega
        unfold oT
        simp only []
        omega
      · obtain ⟨i, hi, hti⟩ := mem_take_idx ht
        have h1 := (cP_idx a5 q v hti).mpr hi
        rcases List.mem_cons.mp hu with rfl | hu
        · unfold oT
          simp only []
          omega
        · obtain ⟨j, hj, htj⟩ := mem_drop_idx hu
          exact srt_get a5 (by omega) hti htj
    · rw [fdF_3, a6 k hk, cL_perm hperm, cL_cons]
      by_cases hqk : q < k
      · rw [if_pos (by omega), if_pos hqk, nI_add]
      · rw [if_neg (by omega), if_neg hqk]
        rfl
    · rw [fdF_4, sK_perm hperm k, sK, a7 q hq]
      by_cases hkq : k = q
      · subst hkq
        rw [if_pos rfl, if_pos rfl, Int32.add_comm]
      · rw [if_neg (by omega), if_neg (fun z => hkq z.symm), Int32.zero_add]
        exact a7 k hk
  · rw [va_up_ne _ _ e]
    have a1 := hx.1
    refine xr_other (h st' hst') (fun i hi => ?_) (fun i hi => ?_) (by rw [fdF_2, if_neg e]) (fun k hk => ?_) (fun k hk => ?_)
    · rw [fdF_0, if_neg (by omega), if_neg (by omega)]
    · rw [fdF_1, if_neg (by omega), if_neg (by omega)]
    · rw [fdF_3, if_neg (by omega)]
    · rw [fdF_4, if_neg (by omega)]
end
section
/-! what feed, retract, close answer, over lists -/
def okV (x : Int32) : Prop := -50 ≤ x.toInt ∧ x.toInt ≤ 50
theorem okV_of {x : Int32} (h1 : ¬ x < -50) (h2 : x ≤ nI 50) : okV x := by
  rw [iv_lt, show (-50 : Int32).toInt = -50 by decide] at h1
  rw [iv_le, show (nI 50).toInt = 50 by decide] at h2
  exact ⟨by omega, h2⟩
theorem okV_n1 {x : Int32} (h : x < -50) : ¬ okV x := by
  rw [iv_lt, show (-50 : Int32).toInt = -50 by decide] at h
  exact fun z => by have := z.1; omega
theorem okV_n2 {x : Int32} (h : ¬ x ≤ nI 50) : ¬ okV x := by
  rw [iv_le, show (nI 50).toInt = 50 by decide] at h
  exact fun z => h z.2
def feedA (L : QL) (Z : Nat → Int32) (x1 x2 x3 r : Int32) (same : Prop) (next : Nat → Nat → Prop) : Prop :=
  (¬ isN x1 2 ∧ r = -1 ∧ same) ∨ (isN x1 2 ∧ ¬ isN x2 16 ∧ r = -2 ∧ same) ∨ (isN x1 2 ∧ isN x2 16 ∧ ¬ okV x3 ∧ r = -3 ∧ same) ∨
  ∃ st q : Nat, st < 2 ∧ q < 16 ∧ x1 = nI st ∧ x2 = nI q ∧ okV x3 ∧ ((¬ Z (16 * st + q) = 0 ∧ r = -4 ∧ same) ∨ (Z (16 * st + q) = 0 ∧ (((L st).length = 40 ∧ r = -5 ∧ same) ∨ ((L st).length < 40 ∧ r = nI ((L st).length + 1) ∧ next st q))))
def retA (L : QL) (x1 x2 x3 r : Int32) (same : Prop) (next : Nat → Nat → Prop) : Prop :=
  (¬ isN x1 2 ∧ r = -1 ∧ same) ∨ (isN x1 2 ∧ ¬ isN x2 16 ∧ r = -2 ∧ same) ∨
  ∃ st q : Nat, st < 2 ∧ q < 16 ∧ x1 = nI st ∧ x2 = nI q ∧ (((q, x3) ∉ L st ∧ r = -3 ∧ same) ∨ ((q, x3) ∈ L st ∧ r = nI ((L st).length - 1) ∧ next st q))
def fnR (q : Nat) (A B : List QT) (R : List QE) : List QE := if 0 < cK q A * cK q B ∧ R.length < 16 then R ++ [(q, nI (cK q A * cK q B), sK q A * sK q B, loF q A B, hiF q A B)] else R
abbrev QA : Type := QL × (Nat → Int32) × List QE
def clS (st k : Nat) (q : QA) : QA := if q.2.1 (16 * st + k) = 0 then (if q.2.1 (16 * (1 - st) + k) = 0 then (q.1, upd q.2.1 (16 * st + k) 1, q.2.2) else ((fun s => wo k (q.1 s)), upd q.2.1 (16 * st + k) 1, fnR k (q.1 0) (q.1 1) q.2.2)) else q
def clC (st k : Nat) (q : QA) : Nat := if q.2.1 (16 * st + k) = 0 ∧ ¬ q.2.1 (16 * (1 - st) + k) = 0 then 1 else 0
def clN (st f : Nat) : Nat → QA → QA × Nat
  | 0, q => (q, 0)
  | n + 1, q => (clS st (f + n) (clN st f n q).1, (clN st f n q).2 + clC st (f + n) (clN st f n q).1)
def rng (x2 x3 : Int32) : Prop := ∃ f e : Nat, f ≤ e ∧ e < 16 ∧ x2 = nI f ∧ x3 = nI e
def cloA (q : QA) (x1 x2 x3 r : Int32) (same : Prop) (next : QA → Prop) : Prop :=
  (¬ isN x1 2 ∧ r = -1 ∧ same) ∨ (isN x1 2 ∧ ¬ rng x2 x3 ∧ r = -2 ∧ same) ∨
  ∃ st f e : Nat, st < 2 ∧ f ≤ e ∧ e < 16 ∧ x1 = nI st ∧ x2 = nI f ∧ x3 = nI e ∧ r = nI (clN st f (e + 1 - f) q).2 ∧ next (clN st f (e + 1 - f) q).1
def XA (S : QS) (q : QA) : Prop := XR S q.1 ∧ S 5 = q.2.1 ∧ outR (S 11 0) (S 6) (S 7) (S 8) (S 9) (S 10) q.2.2
theorem rng_of {x2 x3 : Int32} (h1 : ¬ x2 < 0) (h2 : ¬ x3 < x2) (h3 : x3 < nI 16) : rng x2 x3 := by
  rw [iv_lt, show (0 : Int32).toInt = 0 from rfl] at h1
  rw [iv_lt] at h2
  rw [iv_lt, show (nI 16).toInt = 16 by decide] at h3
  obtain ⟨f, hf, rfl⟩ := nI_of (x := x2) (by rw [iv_lt, show (0 : Int32).toInt = 0 from rfl]; omega)
  obtain ⟨e, he, rfl⟩ := nI_of (x := x3) (by rw [iv_lt, show (0 : Int32).toInt = 0 from rfl]; omega)
  rw [nI_toInt hf] at h1 h2
  rw [nI_toInt he] at h2 h3
  exact ⟨f, e, by omega, by omega, rfl, rfl⟩
theorem rng_n1 {x2 x3 : Int32} (h : x2 < 0) : ¬ rng x2 x3 := by
  rintro ⟨f, e, h1, h2, rfl, rfl⟩
  exact nI_pos (by omega) h
theorem rng_n2 {x2 x3 : Int32} (h : x3 < x2) : ¬ rng x2 x3 := by
  rintro ⟨f, e, h1, h2, rfl, rfl⟩
  rw [nI_ltI (by omega) (by omega)] at h
  omega
theorem rng_n3 {x2 x3 : Int32} (h : ¬ x3 < nI 16) : ¬ rng x2 x3 := by
  rintro ⟨f, e, h1, h2, rfl, rfl⟩
  exact h (nI_lt (by omega) (by omega))
theorem XR.cong {S : QS} {L L2 : QL} (h : XR S L) (e : ∀ st, st < 2 → L2 st = L st) : XR S L2 := fun st hst => by rw [e st hst]; exact h st hst
theorem outR.cong {o o' : Int32} {K P Q A B K' P' Q' A' B' : Nat → Int32} {R : List QE} (h : outR o K P Q A B R) (e0 : o' = o) (e1 : K' = K) (e2 : P' = P) (e3 : Q' = Q) (e4 : A' = A) (e5 : B' = B) : outR o' K' P' Q' A' B' R := by
  subst e0; subst e1; subst e2; subst e3; subst e4; subst e5
  exact h
theorem outR.push {o : Int32} {K P Q A B : Nat → Int32} {R : List QE} (h : outR o K P Q A B R) (hl : R.length < 16) {q : Nat} (hq : q < 16) (p s lo hi : Int32) : outR (nI (R.length + 1)) (upd K R.length (nI q)) (upd P R.length p) (upd Q R.length s) (upd A R.length lo) (upd B R.length hi) (R ++ [(q, p, s, lo, hi)]) := by
  refine ⟨by rw [List.length_append]; rfl, by rw [List.length_append]; simp; omega, fun i e he => ?_⟩
  by_cases hi' : i < R.length
  · rw [List.getElem?_append_left hi'] at he
    have := h.2.2 i e he
    have hne : ¬ i = R.length := by omega
    simp only [upd, if_neg hne]
    exact this
  · rw [List.getElem?_append_right (by omega)] at he
    have hz : i - R.length < 1 := (List.getElem?_eq_some_iff.mp he).1
    have hi0 : i = R.length := by omega
    subst hi0
    rw [Nat.sub_self] at he
    cases he
    exact ⟨hq, if_pos rfl, if_pos rfl, if_pos rfl, if_pos rfl, if_pos rfl⟩
def outS (S : QS) (n q : Nat) (p s lo hi : Int32) : QS := up2 (up2 (up2 (up2 (up2 (up2 S 6 n (nI q)) 7 n p) 8 n s) 9 n lo) 10 n hi) 11 0 (nI (n + 1))
theorem outS_lo (S : QS) (n q : Nat) (p s lo hi : Int32) : ∀ c, c < 6 → outS S n q p s lo hi c = S c := by
  intro c hc
  simp only [outS, up2]
  rw [if_neg (by omega), if_neg (by omega), if_neg (by omega), if_neg (by omega), if_neg (by omega), if_neg (by omega)]
theorem outS_out {S S1 : QS} {R : List QE} (h : outR (S 11 0) (S 6) (S 7) (S 8) (S 9) (S 10) R) (hs : sameX S1 S) (hl : R.length < 16) {q : Nat} (hq : q < 16) (p s lo hi : Int32) : outR (outS S1 R.length q p s lo hi 11 0) (outS S1 R.length q p s lo hi 6) (outS S1 R.length q p s lo hi 7) (outS S1 R.length q p s lo hi 8) (outS S1 R.length q p s lo hi 9) (outS S1 R.length q p s lo hi 10) (R ++ [(q, p, s, lo, hi)]) := by
  have h1 : outR (S1 11 0) (S1 6) (S1 7) (S1 8) (S1 9) (S1 10) R := h.cong hs.2 (hs.1 6 (by decide)) (hs.1 7 (by decide)) (hs.1 8 (by decide)) (hs.1 9 (by decide)) (hs.1 10 (by decide))
  exact (h1.push hl hq p s lo hi).cong rfl rfl rfl rfl rfl rfl
theorem fnR_yes {q : Nat} {A B : List QT} {R : List QE} (h : 0 < cK q A * cK q B) (h2 : R.length < 16) : fnR q A B R = R ++ [(q, nI (cK q A * cK q B), sK q A * sK q B, loF q A B, hiF q A B)] := if_pos ⟨h, h2⟩
theorem fnR_no {q : Nat} {A B : List QT} {R : List QE} (h : ¬ (0 < cK q A * cK q B ∧ R.length < 16)) : fnR q A B R = R := if_neg h
theorem cK40 {S : QS} {L : QL} (h : XR S L) (q : Nat) : cK q (L 0) * cK q (L 1) ≤ 1600 := by
  have b0 := Nat.le_trans (cK_le q (L 0)) (h 0 (by omega)).1
  have b1 := Nat.le_trans (cK_le q (L 1)) (h 1 (by omega)).1
  exact Nat.mul_le_mul b0 b1
theorem fin_ok {S S1 : QS} {L : QL} (hL : XR S1 L) {q : Nat} (hq : q < 16) : XR (rmF (rmF S1 0 q (cL q (L 0)) (cK q (L 0)) (L 0).length (nI 0)) 1 q (cL q (L 1)) (cK q (L 1)) (L 1).length (nI 0)) (fun st => wo q (L st)) := by
  have h1 := drop_ok hL (st := 0) (by omega) hq
  have h2 := drop_ok h1 (st := 1) (by omega) hq
  have e : va_up L 0 (wo q (L 0)) 1 = L 1 := va_up_ne _ _ (by decide)
  rw [e] at h2
  refine h2.cong (fun st hst => ?_)
  rcases (show st = 0 ∨ st = 1 by omega) with rfl | rfl
  · rw [va_up_ne _ _ (by decide), va_up_self]
  · rw [va_up_self]
theorem cl_a {S : QS} {q : QA} (h : XA S q) {st k : Nat} (h1 : ¬ S 5 (16 * st + k) = 0) : XA S (clS st k q) ∧ clC st k q = 0 := by
  rw [h.2.1] at h1
  unfold clS clC
  rw [if_neg h1, if_neg (fun z => h1 z.1)]
  exact ⟨h, rfl⟩
theorem cl_b {S : QS} {q : QA} (h : XA S q) {st k : Nat} (h1 : S 5 (16 * st + k) = 0) (h2 : S 5 (16 * (1 - st) + k) = 0) : XA (up2 S 5 (16 * st + k) (nI 1)) (clS st k q) ∧ clC st k q = 0 := by
  rw [h.2.1] at h1 h2
  unfold clS clC
  rw [if_pos h1, if_pos h2, if_neg (fun z => z.2 h2)]
  refine ⟨⟨h.1.same (fun c hc => ?_), ?_, h.2.2.cong rfl rfl rfl rfl rfl rfl⟩, rfl⟩
  · simp only [up2]
    rw [if_neg (by omega)]
  · show upd (S 5) _ _ = _
    rw [h.2.1]
    rfl
theorem cl_c {S S2 : QS} {q : QA} (h : XA S q) {st k : Nat} (h1 : S 5 (16 * st + k) = 0) (h2 : ¬ S 5 (16 * (1 - st) + k) = 0) (hf : XR S2 (fun s => wo k (q.1 s)) ∧ outR (S2 11 0) (S2 6) (S2 7) (S2 8) (S2 9) (S2 10) (fnR k (q.1 0) (q.1 1) q.2.2) ∧ S2 5 = (up2 S 5 (16 * st + k) (nI 1)) 5) : XA S2 (clS st k q) ∧ clC st k q = 1 := by
  rw [h.2.1] at h1 h2
  unfold clS clC
  rw [if_pos h1, if_neg h2, if_pos ⟨h1, h2⟩]
  refine ⟨⟨hf.1, ?_, hf.2.1⟩, rfl⟩
  rw [hf.2.2]
  show upd (S 5) _ _ = _
  rw [h.2.1]
  rfl
end
section
set_option maxHeartbeats 4000000 in
set_option maxRecDepth 100000 in
theorem qx_drop (l : Launch) (D : va_G) (a : Nat → Nat) (cI cZ : ClassId) (S : QS) (L : QL) (hL : XR S L) (st q : Nat) (hst : st < 2) (hq : q < 16) : MetN l yX_drop wX_drop rX_drop D (qty cI cZ) (xw a cI cZ) S [.ref (a 0), .int (nI st), .int (nI q)] (fun S2 => S2 = rmF S st q (cL q (L st)) (cK q (L st)) (L st).length (nI 0)) := by
  refine MetN.of (cc := bX_drop) (maxL := 7) (own := R_X) (by decide) rfl rfl (Nat.le_of_ble_eq_true rfl) (fun k hk hret => ?_)
  have hk : QK k bX_drop R_X 7 rX_drop l D (qty cI cZ) := hk
  have hx := hL st hst
  have hB := hx.2.2.2.2.2.1
  have h40 := hx.1
  have es := cL_succ q (L st)
  have l1 := cL_le (q + 1) (L st)
  show QV k (xw a cI cZ) S [(0, .ref (a 0)), (1, .int (nI st)), (2, .int (nI q))] 0 []
  refine qv_aload_n hk 0 rfl dX_drop_0 rfl ?_
  refine qv_iload_n hk 1 rfl dX_drop_1 rfl ?_
  refine qv_iload_n hk 2 rfl dX_drop_2 rfl ?_
  refine callXI (As := [.int (nI st), .int (nI q)]) (rest := []) hk (qx_countOf l D a cI cZ S L hL st q hst hq) gX_countOf (by decide) rfl rfl (Nat.le_of_ble_eq_true rfl) dX_drop_3 (fun r3 S3 hw => ?_)
  obtain ⟨e1, e2⟩ := hw
  subst e1
  refine qv_state e2 ?_
  refine qv_istore_n (lv' := [(3, .int (nI (cK q (L st)))), (0, .ref (a 0)), (1, .int (nI st)), (2, .int (nI q))]) hk dX_drop_6 rfl (by decide) rfl ?_
  refine qv_bipush (v := nI 40) hk dX_drop_7 (by decide) ?_
  refine qv_iload_n hk 2 rfl dX_drop_9 rfl ?_
  refine qn_imul hk dX_drop_10 ?_
  refine qv_istore (lv' := [(4, .int (nI (40 * st))), (3, .int (nI (cK q (L st)))), (0, .ref (a 0)), (1, .int (nI st)), (2, .int (nI q))]) hk dX_drop_11 (by decide) rfl ?_
  refine qv_iload hk 0 rfl dX_drop_13 ?_
  refine qv_aload_n hk 2 rfl dX_drop_15 rfl ?_
  refine gX_begin hk dX_drop_16 ?_
  refine qv_bipush (v := nI 17) hk dX_drop_19 (by decide) ?_
  refine qv_iload_n hk 3 rfl dX_drop_21 rfl ?_
  refine qn_imul hk dX_drop_22 ?_
  refine qv_iload_n hk 4 rfl dX_drop_23 rfl ?_
  refine qn_iadd hk dX_drop_24 ?_
  refine aX_begin hk (by omega) dX_drop_25 ?_
  refine qv_top (y := nI (cL q (L st))) (hB q (by omega)) ?_
  refine qn_iadd hk dX_drop_26 ?_
  refine qv_istore (lv' := [(5, .int (nI ((40 * st) + (cL q (L st))))), (4, .int (nI (40 * st))), (3, .int (nI (cK q (L st)))), (0, .ref (a 0)), (1, .int (nI st)), (2, .int (nI q))]) hk dX_drop_27 (by decide) rfl ?_
  refine qv_iload hk 0 rfl dX_drop_29 ?_
  refine qv_iload_n hk 2 rfl dX_drop_31 rfl ?_
  refine qn_iadd hk dX_drop_32 ?_
  refine qv_top (y := nI (40 * st + (cL q (L st) + cK q (L st)))) (by rw [Nat.add_assoc]) ?_
  refine qv_istore (lv' := [(6, .int (nI (40 * st + (cL q (L st) + cK q (L st))))), (5, .int (nI ((40 * st) + (cL q (L st))))), (4, .int (nI (40 * st))), (3, .int (nI (cK q (L st)))), (0, .ref (a 0)), (1, .int (nI st)), (2, .int (nI q))]) hk dX_drop_33 (by decide) rfl ?_
  have L35 : ∀ (n35 : Nat) (i : Nat) (S1 : QS), (L st).length - i < n35 → (cL q (L st) + cK q (L st) ≤ i) → (i ≤ (L st).length) → (S1 = drS 0 1 S st (cL q (L st)) (cK q (L st)) i) → QV k (xw a cI cZ) (S1) [(0, .ref (a 0)), (1, .int (nI st)), (2, .int (nI q)), (3, .int (nI (cK q (L st)))), (4, .int (nI (40 * st))), (6, .int (nI (40 * st + i)))] 35 [] := by
    intro n35
    induction n35 with
    | zero => intro i S1 hm; exact absurd hm (Nat.not_lt_zero _)
    | succ n35 ih35 =>
      intro i S1 hm35 hi1 hi2 hS1
      refine qv_iload hk 5 rfl dX_drop_35 ?_
      refine qv_iload hk 4 rfl dX_drop_37 ?_
      refine qv_aload_n hk 0 rfl dX_drop_39 rfl ?_
      refine gX_sizes hk dX_drop_40 ?_
      refine qv_iload_n hk 1 rfl dX_drop_43 rfl ?_
      refine aX_sizes hk (by omega) dX_drop_44 ?_
      refine qv_top (y := nI ((L st).length)) (by rw [hS1]; exact hx.2.1) ?_
      refine qn_iadd hk dX_drop_45 ?_
      refine qn_icmp_ge (tgt := 87) hk (by omega) (by omega) dX_drop_46 (by decide) (fun h46 => ?_) (fun h46 => ?_)
      · refine qv_aload_n hk 0 rfl dX_drop_87 rfl ?_
        refine gX_sizes hk dX_drop_88 ?_
        refine qv_iload_n hk 1 rfl dX_drop_91 rfl ?_
        refine qv_dup2 hk dX_drop_92 rfl rfl ?_
        refine aX_sizes hk (by omega) dX_drop_93 ?_
        refine qv_top (y := nI ((L st).length)) (by rw [hS1]; exact hx.2.1) ?_
        refine qv_iload_n hk 3 rfl dX_drop_94 rfl ?_
        refine qn_isub hk (by omega) dX_drop_95 ?_
        refine sX_sizes hk (by omega) dX_drop_96 ?_
        refine qv_aload_n hk 0 rfl dX_drop_97 rfl ?_
        refine gX_sums hk dX_drop_98 ?_
        refine qv_bipush (v := nI 16) hk dX_drop_101 (by decide) ?_
        refine qv_iload_n hk 1 rfl dX_drop_103 rfl ?_
        refine qn_imul hk dX_drop_104 ?_
        refine qv_iload_n hk 2 rfl dX_drop_105 rfl ?_
        refine qn_iadd hk dX_drop_106 ?_
        refine qv_iconst (v := nI 0) hk dX_drop_107 (by decide) ?_
        refine sX_sums hk (by omega) dX_drop_108 ?_
        refine qv_aload_n hk 0 rfl dX_drop_109 rfl ?_
        refine qv_iload_n hk 1 rfl dX_drop_110 rfl ?_
        refine qv_iload_n hk 2 rfl dX_drop_111 rfl ?_
        refine qv_iload_n hk 3 rfl dX_drop_112 rfl ?_
        refine qv_ineg hk dX_drop_113 ?_
        refine callXN (As := [.int (nI st), .int (nI q), .int (-(nI (cK q (L st))))]) (rest := []) hk (qx_shiftBegins l D a cI cZ (up2 (up2 S1 2 st (nI (((L st).length) - (cK q (L st))))) 4 ((16 * st) + q) (nI 0)) st q hst hq (-(nI (cK q (L st))))) gX_shiftBegins (by decide) rfl rfl (Nat.le_of_ble_eq_true rfl) dX_drop_114 (fun S114 hw114 => ?_)
        exact hret S114 [(0, .ref (a 0)), (1, .int (nI st)), (2, .int (nI q)), (3, .int (nI (cK q (L st)))), (4, .int (nI (40 * st))), (6, .int (nI (40 * st + i)))] 117 (by rw [hw114, hS1, show i = (L st).length by omega]; rfl) dX_drop_117
      · refine qv_aload_n hk 0 rfl dX_drop_49 rfl ?_
        refine gX_keys hk dX_drop_50 ?_
        refine qv_iload hk 5 rfl dX_drop_53 ?_
        refine qv_iload_n hk 3 rfl dX_drop_55 rfl ?_
        refine qn_isub hk (by omega) dX_drop_56 ?_
        refine qv_aload_n hk 0 rfl dX_drop_57 rfl ?_
        refine gX_keys hk dX_drop_58 ?_
        refine qv_iload hk 5 rfl dX_drop_61 ?_
        refine aX_keys hk (by omega) dX_drop_63 ?_
        refine sX_keys hk (by omega) dX_drop_64 ?_
        refine qv_aload_n hk 0 rfl dX_drop_65 rfl ?_
        refine gX_values hk dX_drop_66 ?_
        refine qv_iload hk 5 rfl dX_drop_69 ?_
        refine qv_iload_n hk 3 rfl dX_drop_71 rfl ?_
        refine qn_isub hk (by omega) dX_drop_72 ?_
        refine qv_aload_n hk 0 rfl dX_drop_73 rfl ?_
        refine gX_values hk dX_drop_74 ?_
        refine qv_iload hk 5 rfl dX_drop_77 ?_
        refine aX_values hk (by omega) dX_drop_79 ?_
        refine sX_values hk (by omega) dX_drop_80 ?_
        refine qv_iinc (v := nI ((40 * st + i) + 1)) (lv' := [(6, .int (nI ((40 * st + i) + 1))), (0, .ref (a 0)), (1, .int (nI st)), (2, .int (nI q)), (3, .int (nI (cK q (L st)))), (4, .int (nI (40 * st)))]) hk 5 rfl dX_drop_81 (qn_inc _) (by decide) rfl ?_
        refine qv_goto (tgt := 35) hk dX_drop_84 (by decide) ?_
        refine qv_sub [1, 2, 3, 4, 5, 0] rfl ?_
        exact ih35 (i + 1) ((up2 (up2 S1 0 ((40 * st + i) - (cK q (L st))) (S1 0 (40 * st + i))) 1 ((40 * st + i) - (cK q (L st))) ((up2 S1 0 ((40 * st + i) - (cK q (L st))) (S1 0 (40 * st + i))) 1 (40 * st + i)))) (by omega) (by omega) (by omega) (by rw [hS1]; exact drS_step (by decide) S st hi1)
  refine qv_sub [4, 5, 6, 3, 2, 0] rfl ?_
  exact L35 _ (cL q (L st) + cK q (L st)) S (Nat.lt_succ_self _) (Nat.le_refl _) (by omega) (drS_0 0 1 S st _ _)

set_option maxHeartbeats 4000000 in
set_option maxRecDepth 100000 in
theorem qx_feed (l : Launch) (D : va_G) (a : Nat → Nat) (cI cZ : ClassId) (S : QS) (L : QL) (hL : XR S L) (x1 x2 x3 : Int32) : MetI l yX_feed wX_feed rX_feed D (qty cI cZ) (xw a cI cZ) S [.ref (a 0), .int x1, .int x2, .int x3] (fun r S2 => feedA L (S 5) x1 x2 x3 r (S2 = S) (fun st q => S2 = fdF S st q (cP q x3 (L st)) (L st).length x3)) := by
  refine MetI.of (cc := bX_feed) (maxL := 7) (own := R_X) (by decide) rfl rfl (Nat.le_of_ble_eq_true rfl) (fun k hk hret => ?_)
  have hk : QK k bX_feed R_X 7 rX_feed l D (qty cI cZ) := hk
  show QV k (xw a cI cZ) S [(0, .ref (a 0)), (1, .int x1), (2, .int x2), (3, .int x3)] 0 []
  refine qv_iload_n hk 1 rfl dX_feed_0 rfl ?_
  refine callSX (As := [.int x1]) (rest := []) hk (qx_isStream l D a cI cZ x1) gX_isStream (by decide) rfl rfl (Nat.le_of_ble_eq_true rfl) dX_feed_1 (fun r1 hw1 => ?_)
  rcases hw1 with ⟨rfl, st, hst, rfl⟩ | ⟨rfl, hst⟩
  · have hx := hL st hst
    have h40 := hx.1
    refine qv_if_ne (tgt := 9) hk dX_feed_4 (by decide) (fun _ => ?_) (fun h => absurd h (by decide))
    refine qv_iload_n hk 2 rfl dX_feed_9 rfl ?_
    refine callSX (As := [.int x2]) (rest := []) hk (qx_isKey l D a cI cZ x2) gX_isKey (by decide) rfl rfl (Nat.le_of_ble_eq_true rfl) dX_feed_10 (fun r10 hw10 => ?_)
    rcases hw10 with ⟨rfl, q, hq, rfl⟩ | ⟨rfl, hq⟩
    · have hcp := cP_le q x3 (L st)
      refine qv_if_ne (tgt := 19) hk dX_feed_13 (by decide) (fun _ => ?_) (fun h => absurd h (by decide))
      refine qv_iload_n hk 3 rfl dX_feed_19 rfl ?_
      refine qv_bipush (v := -50) hk dX_feed_20 (by decide) ?_
      refine qv_icmp_lt (tgt := 31) hk dX_feed_22 (by decide) (fun h22 => ?_) (fun h22 => ?_)
      · refine qv_bipush (v := -3) hk dX_feed_31 (by decide) ?_
        exact hret ((-3)) S [(0, .ref (a 0)), (1, .int (nI st)), (2, .int (nI q)), (3, .int x3)] 33 (Or.inr (Or.inr (Or.inl ⟨⟨st, hst, rfl⟩, ⟨q, hq, rfl⟩, okV_n1 h22, rfl, rfl⟩))) rfl dX_feed_33
      · refine qv_iload_n hk 3 rfl dX_feed_25 rfl ?_
        refine qv_bipush (v := nI 50) hk dX_feed_26 (by decide) ?_
        refine qv_icmp_le (tgt := 34) hk dX_feed_28 (by decide) (fun h28 => ?_) (fun h28 => ?_)
        · refine qv_aload_n hk 0 rfl dX_feed_34 rfl ?_
          refine gX_shut hk dX_feed_35 ?_
          refine qv_bipush (v := nI 16) hk dX_feed_38 (by decide) ?_
          refine qv_iload_n hk 1 rfl dX_feed_40 rfl ?_
          refine qn_imul hk dX_feed_41 ?_
          refine qv_iload_n hk 2 rfl dX_feed_42 rfl ?_
          refine qn_iadd hk dX_feed_43 ?_
          refine aX_shut hk (by omega) dX_feed_44 ?_
          refine qv_if_eq (tgt := 51) hk dX_feed_45 (by decide) (fun h45 => ?_) (fun h45 => ?_)
          · refine qv_aload_n hk 0 rfl dX_feed_51 rfl ?_
            refine gX_sizes hk dX_feed_52 ?_
            refine qv_iload_n hk 1 rfl dX_feed_55 rfl ?_
            refine aX_sizes hk (by omega) dX_feed_56 ?_
            refine qv_top (y := nI ((L st).length)) (hx.2.1) ?_
            refine qv_bipush (v := nI 40) hk dX_feed_57 (by decide) ?_
            refine qn_icmp_ne (tgt := 65) hk (by omega) (by omega) dX_feed_59 (by decide) (fun h59 => ?_) (fun h59 => ?_)
            · refine qv_bipush (v := nI 40) hk dX_feed_65 (by decide) ?_
              refine qv_iload_n hk 1 rfl dX_feed_67 rfl ?_
              refine qn_imul hk dX_feed_68 ?_
              refine qv_istore (lv' := [(4, .int (nI (40 * st))), (0, .ref (a 0)), (1, .int (nI st)), (2, .int (nI q)), (3, .int x3)]) hk dX_feed_69 (by decide) rfl ?_
              refine qv_aload_n hk 1 rfl dX_feed_71 rfl ?_
              refine qv_iload_n hk 2 rfl dX_feed_72 rfl ?_
              refine qv_iload_n hk 3 rfl dX_feed_73 rfl ?_
              refine qv_iload_n hk 4 rfl dX_feed_74 rfl ?_
              refine callXI (As := [.int (nI st), .int (nI q), .int x3]) (rest := []) hk (qx_place l D a cI cZ S L hL st q hst hq x3) gX_place (by decide) rfl rfl (Nat.le_of_ble_eq_true rfl) dX_feed_75 (fun r75 S75 hw => ?_)
              obtain ⟨e1, e2⟩ := hw
              subst e1
              refine qv_state e2 ?_
              refine qv_istore (lv' := [(5, .int (nI (40 * st + cP q x3 (L st)))), (4, .int (nI (40 * st))), (0, .ref (a 0)), (1, .int (nI st)), (2, .int (nI q)), (3, .int x3)]) hk dX_feed_78 (by decide) rfl ?_
              refine qv_iload hk 1 rfl dX_feed_80 ?_
              refine qv_aload_n hk 2 rfl dX_feed_82 rfl ?_
              refine gX_sizes hk dX_feed_83 ?_
              refine qv_iload_n hk 3 rfl dX_feed_86 rfl ?_
              refine aX_sizes hk (by omega) dX_feed_87 ?_
              refine qv_top (y := nI ((L st).length)) (hx.2.1) ?_
              refine qn_iadd hk dX_feed_88 ?_
              refine qv_istore (lv' := [(6, .int (nI ((40 * st) + ((L st).length)))), (5, .int (nI (40 * st + cP q x3 (L st)))), (4, .int (nI (40 * st))), (0, .ref (a 0)), (1, .int (nI st)), (2, .int (nI q)), (3, .int x3)]) hk dX_feed_89 (by decide) rfl ?_
              have L91 : ∀ (n91 : Nat) (i : Nat) (S1 : QS), i < n91 → (cP q x3 (L st) ≤ i) → (i ≤ (L st).length) → (S1 = inS S st (L st).length i) → QV k (xw a cI cZ) (S1) [(0, .ref (a 0)), (1, .int (nI st)), (2, .int (nI q)), (3, .int x3), (5, .int (nI (40 * st + cP q x3 (L st)))), (6, .int (nI (40 * st + i)))] 91 [] := by
                intro n91
                induction n91 with
                | zero => intro i S1 hm; exact absurd hm (Nat.not_lt_zero _)
                | succ n91 ih91 =>
                  intro i S1 hm91 hi1 hi2 hS1
                  refine qv_iload hk 5 rfl dX_feed_91 ?_
                  refine qv_iload hk 4 rfl dX_feed_93 ?_
                  refine qn_icmp_le (tgt := 136) hk (by omega) (by omega) dX_feed_95 (by decide) (fun h95 => ?_) (fun h95 => ?_)
                  · refine qv_aload_n hk 0 rfl dX_feed_136 rfl ?_
                    refine gX_keys hk dX_feed_137 ?_
                    refine qv_iload hk 4 rfl dX_feed_140 ?_
                    refine qv_iload_n hk 2 rfl dX_feed_142 rfl ?_
                    refine sX_keys hk (by omega) dX_feed_143 ?_
                    refine qv_aload_n hk 0 rfl dX_feed_144 rfl ?_
                    refine gX_values hk dX_feed_145 ?_
                    refine qv_iload hk 4 rfl dX_feed_148 ?_
                    refine qv_iload_n hk 3 rfl dX_feed_150 rfl ?_
                    refine sX_values hk (by omega) dX_feed_151 ?_
                    refine qv_aload_n hk 0 rfl dX_feed_152 rfl ?_
                    refine gX_sizes hk dX_feed_153 ?_
                    refine qv_iload_n hk 1 rfl dX_feed_156 rfl ?_
                    refine qv_dup2 hk dX_feed_157 rfl rfl ?_
                    refine aX_sizes hk (by omega) dX_feed_158 ?_
                    refine qv_top (y := nI ((L st).length)) (by rw [hS1]; exact hx.2.1) ?_
                    refine qv_iconst (v := nI 1) hk dX_feed_159 (by decide) ?_
                    refine qn_iadd hk dX_feed_160 ?_
                    refine sX_sizes hk (by omega) dX_feed_161 ?_
                    refine qv_aload_n hk 0 rfl dX_feed_162 rfl ?_
                    refine gX_sums hk dX_feed_163 ?_
                    refine qv_bipush (v := nI 16) hk dX_feed_166 (by decide) ?_
                    refine qv_iload_n hk 1 rfl dX_feed_168 rfl ?_
                    refine qn_imul hk dX_feed_169 ?_
                    refine qv_iload_n hk 2 rfl dX_feed_170 rfl ?_
                    refine qn_iadd hk dX_feed_171 ?_
                    refine qv_dup2 hk dX_feed_172 rfl rfl ?_
                    refine aX_sums hk (by omega) dX_feed_173 ?_
                    refine qv_top (y := S 4 (16 * st + q)) (by rw [hS1]; rfl) ?_
                    refine qv_iload_n hk 3 rfl dX_feed_174 rfl ?_
                    refine qv_iadd hk dX_feed_175 ?_
                    refine sX_sums hk (by omega) dX_feed_176 ?_
                    refine qv_aload_n hk 0 rfl dX_feed_177 rfl ?_
                    refine qv_iload_n hk 1 rfl dX_feed_178 rfl ?_
                    refine qv_iload_n hk 2 rfl dX_feed_179 rfl ?_
                    refine qv_iconst (v := nI 1) hk dX_feed_180 (by decide) ?_
                    refine callXN (As := [.int (nI st), .int (nI q), .int (nI 1)]) (rest := []) hk (qx_shiftBegins l D a cI cZ (up2 (up2 (up2 (up2 S1 0 (40 * st + cP q x3 (L st)) (nI q)) 1 (40 * st + cP q x3 (L st)) x3) 2 st (nI (((L st).length) + 1))) 4 ((16 * st) + q) ((S 4 (16 * st + q)) + x3)) st q hst hq (nI 1)) gX_shiftBegins (by decide) rfl rfl (Nat.le_of_ble_eq_true rfl) dX_feed_181 (fun S181 hw181 => ?_)
                    refine qv_aload_n hk 0 rfl dX_feed_184 rfl ?_
                    refine gX_sizes hk dX_feed_185 ?_
                    refine qv_iload_n hk 1 rfl dX_feed_188 rfl ?_
                    refine aX_sizes hk (by omega) dX_feed_189 ?_
                    refine qv_top (y := nI ((L st).length + 1)) (by rw [hw181]; exact if_pos rfl) ?_
                    exact hret (nI ((L st).length + 1)) S181 [(0, .ref (a 0)), (1, .int (nI st)), (2, .int (nI q)), (3, .int x3), (5, .int (nI (40 * st + cP q x3 (L st)))), (6, .int (nI (40 * st + i)))] 190 (Or.inr (Or.inr (Or.inr ⟨st, q, hst, hq, rfl, rfl, okV_of h22 h28, Or.inr ⟨h45, Or.inr ⟨by omega, rfl, by rw [hw181, hS1, show i = cP q x3 (L st) by omega]; rfl⟩⟩⟩))) rfl dX_feed_190
                  · refine qv_aload_n hk 0 rfl dX_feed_98 rfl ?_
                    refine gX_keys hk dX_feed_99 ?_
                    refine qv_iload hk 5 rfl dX_feed_102 ?_
                    refine qv_aload_n hk 0 rfl dX_feed_104 rfl ?_
                    refine gX_keys hk dX_feed_105 ?_
                    refine qv_iload hk 5 rfl dX_feed_108 ?_
                    refine qv_iconst (v := nI 1) hk dX_feed_110 (by decide) ?_
                    refine qn_isub hk (by omega) dX_feed_111 ?_
                    refine aX_keys hk (by omega) dX_feed_112 ?_
                    refine sX_keys hk (by omega) dX_feed_113 ?_
                    refine qv_aload_n hk 0 rfl dX_feed_114 rfl ?_
                    refine gX_values hk dX_feed_115 ?_
                    refine qv_iload hk 5 rfl dX_feed_118 ?_
                    refine qv_aload_n hk 0 rfl dX_feed_120 rfl ?_
                    refine gX_values hk dX_feed_121 ?_
                    refine qv_iload hk 5 rfl dX_feed_124 ?_
                    refine qv_iconst (v := nI 1) hk dX_feed_126 (by decide) ?_
                    refine qn_isub hk (by omega) dX_feed_127 ?_
                    refine aX_values hk (by omega) dX_feed_128 ?_
                    refine sX_values hk (by omega) dX_feed_129 ?_
                    refine qv_iinc (v := nI (40 * st + (i - 1))) (lv' := [(6, .int (nI (40 * st + (i - 1)))), (0, .ref (a 0)), (1, .int (nI st)), (2, .int (nI q)), (3, .int x3), (5, .int (nI (40 * st + cP q x3 (L st))))]) hk 5 rfl dX_feed_130 ((qn_dec (by omega)).trans (by congr 1; omega)) (by decide) rfl ?_
                    refine qv_goto (tgt := 91) hk dX_feed_133 (by decide) ?_
                    refine qv_sub [1, 2, 3, 4, 5, 0] rfl ?_
                    exact ih91 (i - 1) ((up2 (up2 S1 0 (40 * st + i) (S1 0 ((40 * st + i) - 1))) 1 (40 * st + i) ((up2 S1 0 (40 * st + i) (S1 0 ((40 * st + i) - 1))) 1 ((40 * st + i) - 1)))) (by omega) (by omega) (by omega) (by rw [hS1]; exact inS_step S st (by omega) hi2)
              refine qv_sub [3, 4, 5, 6, 1, 0] rfl ?_
              exact L91 _ ((L st).length) S (Nat.lt_succ_self _) hcp (Nat.le_refl _) (inS_0 S st _)
            · refine qv_bipush (v := -5) hk dX_feed_62 (by decide) ?_
              exact hret ((-5)) S [(0, .ref (a 0)), (1, .int (nI st)), (2, .int (nI q)), (3, .int x3)] 64 (Or.inr (Or.inr (Or.inr ⟨st, q, hst, hq, rfl, rfl, okV_of h22 h28, Or.inr ⟨h45, Or.inl ⟨h59, rfl, rfl⟩⟩⟩))) rfl dX_feed_64
          · refine qv_bipush (v := -4) hk dX_feed_48 (by decide) ?_
            exact hret ((-4)) S [(0, .ref (a 0)), (1, .int (nI st)), (2, .int (nI q)), (3, .int x3)] 50 (Or.inr (Or.inr (Or.inr ⟨st, q, hst, hq, rfl, rfl, okV_of h22 h28, Or.inl ⟨h45, rfl, rfl⟩⟩))) rfl dX_feed_50
        · refine qv_bipush (v := -3) hk dX_feed_31 (by decide) ?_
          exact hret ((-3)) S [(0, .ref (a 0)), (1, .int (nI st)), (2, .int (nI q)), (3, .int x3)] 33 (Or.inr (Or.inr (Or.inl ⟨⟨st, hst, rfl⟩, ⟨q, hq, rfl⟩, okV_n2 h28, rfl, rfl⟩))) rfl dX_feed_33
    · refine qv_if_ne (tgt := 19) hk dX_feed_13 (by decide) (fun h => absurd h (by decide)) (fun _ => ?_)
      refine qv_bipush (v := -2) hk dX_feed_16 (by decide) ?_
      exact hret ((-2)) S [(0, .ref (a 0)), (1, .int (nI st)), (2, .int x2), (3, .int x3)] 18 (Or.inr (Or.inl ⟨⟨st, hst, rfl⟩, hq, rfl, rfl⟩)) rfl dX_feed_18
  · refine qv_if_ne (tgt := 9) hk dX_feed_4 (by decide) (fun h => absurd h (by decide)) (fun _ => ?_)
    refine qv_iconst (v := -1) hk dX_feed_7 (by decide) ?_
    exact hret ((-1)) S [(0, .ref (a 0)), (1, .int x1), (2, .int x2), (3, .int x3)] 8 (Or.inl ⟨hst, rfl, rfl⟩) rfl dX_feed_8

set_option maxHeartbeats 4000000 in
set_option maxRecDepth 100000 in
theorem qx_retract (l : Launch) (D : va_G) (a : Nat → Nat) (cI cZ : ClassId) (S : QS) (L : QL) (hL : XR S L) (x1 x2 x3 : Int32) : MetI l yX_retract wX_retract rX_retract D (qty cI cZ) (xw a cI cZ) S [.ref (a 0), .int x1, .int x2, .int x3] (fun r S2 => retA L x1 x2 x3 r (S2 = S) (fun st q => ∃ p, (L st)[p]? = some (q, x3) ∧ S2 = rmF S st q p 1 (L st).length (S 4 (16 * st + q) - x3))) := by
  refine MetI.of (cc := bX_retract) (maxL := 7) (own := R_X) (by decide) rfl rfl (Nat.le_of_ble_eq_true rfl) (fun k hk hret => ?_)
  have hk : QK k bX_retract R_X 7 rX_retract l D (qty cI cZ) := hk
  show QV k (xw a cI cZ) S [(0, .ref (a 0)), (1, .int x1), (2, .int x2), (3, .int x3)] 0 []
  refine qv_iload_n hk 1 rfl dX_retract_0 rfl ?_
  refine callSX (As := [.int x1]) (rest := []) hk (qx_isStream l D a cI cZ x1) gX_isStream (by decide) rfl rfl (Nat.le_of_ble_eq_true rfl) dX_retract_1 (fun r1 hw1 => ?_)
  rcases hw1 with ⟨rfl, st, hst, rfl⟩ | ⟨rfl, hst⟩
  · have hx := hL st hst
    have h40 := hx.1
    refine qv_if_ne (tgt := 9) hk dX_retract_4 (by decide) (fun _ => ?_) (fun h => absurd h (by decide))
    refine qv_iload_n hk 2 rfl dX_retract_9 rfl ?_
    refine callSX (As := [.int x2]) (rest := []) hk (qx_isKey l D a cI cZ x2) gX_isKey (by decide) rfl rfl (Nat.le_of_ble_eq_true rfl) dX_retract_10 (fun r10 hw10 => ?_)
    rcases hw10 with ⟨rfl, q, hq, rfl⟩ | ⟨rfl, hq⟩
    · have hcp := cP_le q x3 (L st)
      refine qv_if_ne (tgt := 19) hk dX_retract_13 (by decide) (fun _ => ?_) (fun h => absurd h (by decide))
      refine qv_aload_n hk 0 rfl dX_retract_19 rfl ?_
      refine qv_iload_n hk 1 rfl dX_retract_20 rfl ?_
      refine qv_iload_n hk 2 rfl dX_retract_21 rfl ?_
      refine qv_iload_n hk 3 rfl dX_retract_22 rfl ?_
      refine callXI (As := [.int (nI st), .int (nI q), .int x3]) (rest := []) hk (qx_place l D a cI cZ S L hL st q hst hq x3) gX_place (by decide) rfl rfl (Nat.le_of_ble_eq_true rfl) dX_retract_23 (fun r23 S23 hw => ?_)
      obtain ⟨e1, e2⟩ := hw
      subst e1
      refine qv_state e2 ?_
      refine qv_istore (lv' := [(4, .int (nI (40 * st + cP q x3 (L st)))), (0, .ref (a 0)), (1, .int (nI st)), (2, .int (nI q)), (3, .int x3)]) hk dX_retract_26 (by decide) rfl ?_
      refine qv_bipush (v := nI 40) hk dX_retract_28 (by decide) ?_
      refine qv_iload_n hk 2 rfl dX_retract_30 rfl ?_
      refine qn_imul hk dX_retract_31 ?_
      refine qv_aload_n hk 1 rfl dX_retract_32 rfl ?_
      refine gX_sizes hk dX_retract_33 ?_
      refine qv_iload_n hk 2 rfl dX_retract_36 rfl ?_
      refine aX_sizes hk (by omega) dX_retract_37 ?_
      refine qv_top (y := nI ((L st).length)) (hx.2.1) ?_
      refine qn_iadd hk dX_retract_38 ?_
      refine qv_istore (lv' := [(5, .int (nI ((40 * st) + ((L st).length)))), (4, .int (nI (40 * st + cP q x3 (L st)))), (0, .ref (a 0)), (1, .int (nI st)), (2, .int (nI q)), (3, .int x3)]) hk dX_retract_39 (by decide) rfl ?_
      refine qv_iload hk 1 rfl dX_retract_41 ?_
      refine qv_iload hk 0 rfl dX_retract_43 ?_
      refine qn_icmp_ge (tgt := 70) hk (by omega) (by omega) dX_retract_45 (by decide) (fun h45 => ?_) (fun h45 => ?_)
      · have hno : (q, x3) ∉ L st := found_or hL hst (fun t ht => by have := (List.getElem?_eq_some_iff.mp ht).1; omega)
        refine qv_bipush (v := -3) hk dX_retract_70 (by decide) ?_
        exact hret ((-3)) S [(5, .int (nI ((40 * st) + ((L st).length)))), (4, .int (nI (40 * st + cP q x3 (L st)))), (0, .ref (a 0)), (1, .int (nI st)), (2, .int (nI q)), (3, .int x3)] 72 (Or.inr (Or.inr ⟨st, q, hst, hq, rfl, rfl, Or.inl ⟨hno, rfl, rfl⟩⟩)) rfl dX_retract_72
      · obtain ⟨t, ht⟩ := getq (L := L st) (i := cP q x3 (L st)) (by omega)
        have hlt := hx.2.2.1 _ t ht
        have hok := hx.2.2.2.1 t (List.mem_of_getElem? ht)
        have ht16 := hok.1
        refine qv_aload_n hk 2 rfl dX_retract_48 rfl ?_
        refine gX_keys hk dX_retract_49 ?_
        refine qv_iload hk 1 rfl dX_retract_52 ?_
        refine aX_keys hk (by omega) dX_retract_54 ?_
        refine qv_top (y := nI t.1) (hlt.1) ?_
        refine qv_iload_n hk 4 rfl dX_retract_55 rfl ?_
        refine qn_icmp_ne (tgt := 70) hk (by omega) (by omega) dX_retract_56 (by decide) (fun h56 => ?_) (fun h56 => ?_)
        · have hno : (q, x3) ∉ L st := found_or hL hst (fun u hu => by rw [ht] at hu; cases hu; exact fun z => h56 (by rw [z]))
          refine qv_bipush (v := -3) hk dX_retract_70 (by decide) ?_
          exact hret ((-3)) S [(5, .int (nI ((40 * st) + ((L st).length)))), (4, .int (nI (40 * st + cP q x3 (L st)))), (0, .ref (a 0)), (1, .int (nI st)), (2, .int (nI q)), (3, .int x3)] 72 (Or.inr (Or.inr ⟨st, q, hst, hq, rfl, rfl, Or.inl ⟨hno, rfl, rfl⟩⟩)) rfl dX_retract_72
        · refine qv_aload_n hk 2 rfl dX_retract_59 rfl ?_
          refine gX_values hk dX_retract_60 ?_
          refine qv_iload hk 1 rfl dX_retract_63 ?_
          refine aX_values hk (by omega) dX_retract_65 ?_
          refine qv_top (y := t.2) (hlt.2) ?_
          refine qv_iload_n hk 5 rfl dX_retract_66 rfl ?_
          refine qv_icmp_eq (tgt := 73) hk dX_retract_67 (by decide) (fun h67 => ?_) (fun h67 => ?_)
          · have hq2 : t = (q, x3) := Prod.ext h56 h67
            rw [hq2] at ht
            refine qv_iload hk 1 rfl dX_retract_73 ?_
            refine qv_iconst (v := nI 1) hk dX_retract_75 (by decide) ?_
            refine qn_iadd hk dX_retract_76 ?_
            refine qv_istore (lv' := [(6, .int (nI ((40 * st + cP q x3 (L st)) + 1))), (5, .int (nI ((40 * st) + ((L st).length)))), (4, .int (nI (40 * st + cP q x3 (L st)))), (0, .ref (a 0)), (1, .int (nI st)), (2, .int (nI q)), (3, .int x3)]) hk dX_retract_77 (by decide) rfl ?_
            have L79 : ∀ (n79 : Nat) (i : Nat) (S1 : QS), (L st).length - i < n79 → (cP q x3 (L st) + 1 ≤ i) → (i ≤ (L st).length) → (S1 = drS 0 1 S st (cP q x3 (L st)) 1 i) → QV k (xw a cI cZ) (S1) [(0, .ref (a 0)), (1, .int (nI st)), (2, .int (nI q)), (3, .int x3), (5, .int (nI (40 * st + (L st).length))), (6, .int (nI (40 * st + i)))] 79 [] := by
              intro n79
              induction n79 with
              | zero => intro i S1 hm; exact absurd hm (Nat.not_lt_zero _)
              | succ n79 ih79 =>
                intro i S1 hm79 hi1 hi2 hS1
                refine qv_iload hk 5 rfl dX_retract_79 ?_
                refine qv_iload hk 4 rfl dX_retract_81 ?_
                refine qn_icmp_ge (tgt := 124) hk (by omega) (by omega) dX_retract_83 (by decide) (fun h83 => ?_) (fun h83 => ?_)
                · refine qv_aload_n hk 0 rfl dX_retract_124 rfl ?_
                  refine gX_sizes hk dX_retract_125 ?_
                  refine qv_iload_n hk 1 rfl dX_retract_128 rfl ?_
                  refine qv_dup2 hk dX_retract_129 rfl rfl ?_
                  refine aX_sizes hk (by omega) dX_retract_130 ?_
                  refine qv_top (y := nI ((L st).length)) (by rw [hS1]; exact hx.2.1) ?_
                  refine qv_iconst (v := nI 1) hk dX_retract_131 (by decide) ?_
                  refine qn_isub hk (by omega) dX_retract_132 ?_
                  refine sX_sizes hk (by omega) dX_retract_133 ?_
                  refine qv_aload_n hk 0 rfl dX_retract_134 rfl ?_
                  refine gX_sums hk dX_retract_135 ?_
                  refine qv_bipush (v := nI 16) hk dX_retract_138 (by decide) ?_
                  refine qv_iload_n hk 1 rfl dX_retract_140 rfl ?_
                  refine qn_imul hk dX_retract_141 ?_
                  refine qv_iload_n hk 2 rfl dX_retract_142 rfl ?_
                  refine qn_iadd hk dX_retract_143 ?_
                  refine qv_dup2 hk dX_retract_144 rfl rfl ?_
                  refine aX_sums hk (by omega) dX_retract_145 ?_
                  refine qv_top (y := S 4 (16 * st + q)) (by rw [hS1]; rfl) ?_
                  refine qv_iload_n hk 3 rfl dX_retract_146 rfl ?_
                  refine qv_isub hk dX_retract_147 ?_
                  refine sX_sums hk (by omega) dX_retract_148 ?_
                  refine qv_aload_n hk 0 rfl dX_retract_149 rfl ?_
                  refine qv_iload_n hk 1 rfl dX_retract_150 rfl ?_
                  refine qv_iload_n hk 2 rfl dX_retract_151 rfl ?_
                  refine qv_iconst (v := -1) hk dX_retract_152 (by decide) ?_
                  refine callXN (As := [.int (nI st), .int (nI q), .int ((-1))]) (rest := []) hk (qx_shiftBegins l D a cI cZ (up2 (up2 S1 2 st (nI (((L st).length) - 1))) 4 ((16 * st) + q) ((S 4 (16 * st + q)) - x3)) st q hst hq (-1)) gX_shiftBegins (by decide) rfl rfl (Nat.le_of_ble_eq_true rfl) dX_retract_153 (fun S153 hw153 => ?_)
                  refine qv_aload_n hk 0 rfl dX_retract_156 rfl ?_
                  refine gX_sizes hk dX_retract_157 ?_
                  refine qv_iload_n hk 1 rfl dX_retract_160 rfl ?_
                  refine aX_sizes hk (by omega) dX_retract_161 ?_
                  refine qv_top (y := nI ((L st).length - 1)) (by rw [hw153]; exact if_pos rfl) ?_
                  exact hret (nI ((L st).length - 1)) S153 [(0, .ref (a 0)), (1, .int (nI st)), (2, .int (nI q)), (3, .int x3), (5, .int (nI (40 * st + (L st).length))), (6, .int (nI (40 * st + i)))] 162 (Or.inr (Or.inr ⟨st, q, hst, hq, rfl, rfl, Or.inr ⟨List.mem_of_getElem? ht, rfl, _, ht, by rw [hw153, hS1, show i = (L st).length by omega]; rfl⟩⟩)) rfl dX_retract_162
                · refine qv_aload_n hk 0 rfl dX_retract_86 rfl ?_
                  refine gX_keys hk dX_retract_87 ?_
                  refine qv_iload hk 5 rfl dX_retract_90 ?_
                  refine qv_iconst (v := nI 1) hk dX_retract_92 (by decide) ?_
                  refine qn_isub hk (by omega) dX_retract_93 ?_
                  refine qv_aload_n hk 0 rfl dX_retract_94 rfl ?_
                  refine gX_keys hk dX_retract_95 ?_
                  refine qv_iload hk 5 rfl dX_retract_98 ?_
                  refine aX_keys hk (by omega) dX_retract_100 ?_
                  refine sX_keys hk (by omega) dX_retract_101 ?_
                  refine qv_aload_n hk 0 rfl dX_retract_102 rfl ?_
                  refine gX_values hk dX_retract_103 ?_
                  refine qv_iload hk 5 rfl dX_retract_106 ?_
                  refine qv_iconst (v := nI 1) hk dX_retract_108 (by decide) ?_
                  refine qn_isub hk (by omega) dX_retract_109 ?_
                  refine qv_aload_n hk 0 rfl dX_retract_110 rfl ?_
                  refine gX_values hk dX_retract_111 ?_
                  refine qv_iload hk 5 rfl dX_retract_114 ?_
                  refine aX_values hk (by omega) dX_retract_116 ?_
                  refine sX_values hk (by omega) dX_retract_117 ?_
                  refine qv_iinc (v := nI ((40 * st + i) + 1)) (lv' := [(6, .int (nI ((40 * st + i) + 1))), (0, .ref (a 0)), (1, .int (nI st)), (2, .int (nI q)), (3, .int x3), (5, .int (nI (40 * st + (L st).length)))]) hk 5 rfl dX_retract_118 (qn_inc _) (by decide) rfl ?_
                  refine qv_goto (tgt := 79) hk dX_retract_121 (by decide) ?_
                  refine qv_sub [1, 2, 3, 4, 5, 0] rfl ?_
                  exact ih79 (i + 1) ((up2 (up2 S1 0 ((40 * st + i) - 1) (S1 0 (40 * st + i))) 1 ((40 * st + i) - 1) ((up2 S1 0 ((40 * st + i) - 1) (S1 0 (40 * st + i))) 1 (40 * st + i)))) (by omega) (by omega) (by omega) (by rw [hS1]; exact drS_step (by decide) S st hi1)
            refine qv_sub [3, 4, 5, 6, 1, 0] rfl ?_
            exact L79 _ (cP q x3 (L st) + 1) S (Nat.lt_succ_self _) (Nat.le_refl _) (by omega) (drS_0 0 1 S st _ _)
          · have hno : (q, x3) ∉ L st := found_or hL hst (fun u hu => by rw [ht] at hu; cases hu; exact fun z => h67 (by rw [z]))
            refine qv_bipush (v := -3) hk dX_retract_70 (by decide) ?_
            exact hret ((-3)) S [(5, .int (nI ((40 * st) + ((L st).length)))), (4, .int (nI (40 * st + cP q x3 (L st)))), (0, .ref (a 0)), (1, .int (nI st)), (2, .int (nI q)), (3, .int x3)] 72 (Or.inr (Or.inr ⟨st, q, hst, hq, rfl, rfl, Or.inl ⟨hno, rfl, rfl⟩⟩)) rfl dX_retract_72
    · refine qv_if_ne (tgt := 19) hk dX_retract_13 (by decide) (fun h => absurd h (by decide)) (fun _ => ?_)
      refine qv_bipush (v := -2) hk dX_retract_16 (by decide) ?_
      exact hret ((-2)) S [(0, .ref (a 0)), (1, .int (nI st)), (2, .int x2), (3, .int x3)] 18 (Or.inr (Or.inl ⟨⟨st, hst, rfl⟩, hq, rfl, rfl⟩)) rfl dX_retract_18
  · refine qv_if_ne (tgt := 9) hk dX_retract_4 (by decide) (fun h => absurd h (by decide)) (fun _ => ?_)
    refine qv_iconst (v := -1) hk dX_retract_7 (by decide) ?_
    exact hret ((-1)) S [(0, .ref (a 0)), (1, .int x1), (2, .int x2), (3, .int x3)] 8 (Or.inl ⟨hst, rfl, rfl⟩) rfl dX_retract_8

set_option maxHeartbeats 4000000 in
set_option maxRecDepth 100000 in
theorem qx_finish (l : Launch) (D : va_G) (a : Nat → Nat) (cI cZ : ClassId) (S : QS) (L : QL) (hL : XR S L) (R : List QE) (hR : outR (S 11 0) (S 6) (S 7) (S 8) (S 9) (S 10) R) (q : Nat) (hq : q < 16) : MetN l yX_finish wX_finish rX_finish D (qty cI cZ) (xw a cI cZ) S [.ref (a 0), .int (nI q)] (fun S2 => XR S2 (fun st => wo q (L st)) ∧ outR (S2 11 0) (S2 6) (S2 7) (S2 8) (S2 9) (S2 10) (fnR q (L 0) (L 1) R) ∧ S2 5 = S 5) := by
  refine MetN.of (cc := bX_finish) (maxL := 3) (own := R_X) (by decide) rfl rfl (Nat.le_of_ble_eq_true rfl) (fun k hk hret => ?_)
  have hk : QK k bX_finish R_X 3 rX_finish l D (qty cI cZ) := hk
  have hO := hR.1
  have h16 := hR.2.1
  have c16 := cK40 hL q
  have hs0 : S 4 q = sK q (L 0) := by simpa using (hL 0 (by omega)).2.2.2.2.2.2 q hq
  have hs1 : S 4 (16 + q) = sK q (L 1) := by simpa using (hL 1 (by omega)).2.2.2.2.2.2 q hq
  show QV k (xw a cI cZ) S [(0, .ref (a 0)), (1, .int (nI q))] 0 []
  refine qv_aload_n hk 0 rfl dX_finish_0 rfl ?_
  refine qv_iload_n hk 1 rfl dX_finish_1 rfl ?_
  refine callXI (As := [.int (nI q)]) (rest := []) hk (qx_pairsOf l D a cI cZ S L hL q hq) gX_pairsOf (by decide) rfl rfl (Nat.le_of_ble_eq_true rfl) dX_finish_2 (fun r2 S2 hw => ?_)
  obtain ⟨e1, e2⟩ := hw
  subst e1
  refine qv_state e2 ?_
  refine qv_istore_n (lv' := [(2, .int (nI (cK q (L 0) * cK q (L 1)))), (0, .ref (a 0)), (1, .int (nI q))]) hk dX_finish_5 rfl (by decide) rfl ?_
  have J105 : ∀ (S1 : QS), (XR S1 L) → (outR (S1 11 0) (S1 6) (S1 7) (S1 8) (S1 9) (S1 10) (fnR q (L 0) (L 1) R)) → (S1 5 = S 5) → QV k (xw a cI cZ) (S1) [(0, .ref (a 0)), (1, .int (nI q))] 105 [] := by
    intro S1 hL1 hR1 h51
    refine qv_aload_n hk 0 rfl dX_finish_105 rfl ?_
    refine qv_iconst (v := nI 0) hk dX_finish_106 (by decide) ?_
    refine qv_iload_n hk 1 rfl dX_finish_107 rfl ?_
    refine callXN (As := [.int (nI 0), .int (nI q)]) (rest := []) hk (qx_drop l D a cI cZ S1 L hL1 0 q (by omega) hq) gX_drop (by decide) rfl rfl (Nat.le_of_ble_eq_true rfl) dX_finish_108 (fun S108 hw108 => ?_)
    have hX1 := drop_ok hL1 (st := 0) (by omega) hq
    rw [← hw108] at hX1
    have hv1 : va_up L 0 (wo q (L 0)) 1 = L 1 := va_up_ne _ _ (by decide)
    refine qv_aload_n hk 0 rfl dX_finish_111 rfl ?_
    refine qv_iconst (v := nI 1) hk dX_finish_112 (by decide) ?_
    refine qv_iload_n hk 1 rfl dX_finish_113 rfl ?_
    refine callXN (As := [.int (nI 1), .int (nI q)]) (rest := []) hk (qx_drop l D a cI cZ S108 (va_up L 0 (wo q (L 0))) hX1 1 q (by omega) hq) gX_drop (by decide) rfl rfl (Nat.le_of_ble_eq_true rfl) dX_finish_114 (fun S114 hw114 => ?_)
    exact hret S114 [(0, .ref (a 0)), (1, .int (nI q))] 117 (by rw [hv1] at hw114; subst hw108; subst hw114; exact ⟨fin_ok (S := S) hL1 hq, hR1.cong (by rw [rmF_hi _ _ _ _ _ _ _ 11 (by omega), rmF_hi _ _ _ _ _ _ _ 11 (by omega)]) (by rw [rmF_hi _ _ _ _ _ _ _ 6 (by omega), rmF_hi _ _ _ _ _ _ _ 6 (by omega)]) (by rw [rmF_hi _ _ _ _ _ _ _ 7 (by omega), rmF_hi _ _ _ _ _ _ _ 7 (by omega)]) (by rw [rmF_hi _ _ _ _ _ _ _ 8 (by omega), rmF_hi _ _ _ _ _ _ _ 8 (by omega)]) (by rw [rmF_hi _ _ _ _ _ _ _ 9 (by omega), rmF_hi _ _ _ _ _ _ _ 9 (by omega)]) (by rw [rmF_hi _ _ _ _ _ _ _ 10 (by omega), rmF_hi _ _ _ _ _ _ _ 10 (by omega)]), by rw [rmF_hi _ _ _ _ _ _ _ 5 (by omega), rmF_hi _ _ _ _ _ _ _ 5 (by omega)]; exact h51⟩) dX_finish_117
  refine qv_iload_n hk 0 rfl dX_finish_6 rfl ?_
  refine qv_if_le (tgt := 105) hk dX_finish_7 (by decide) (fun h7 => ?_) (fun h7 => ?_)
  · refine qv_sub [1, 2] rfl ?_
    exact J105 S hL (by rw [fnR_no (fun z => by rw [show (0 : Int32) = nI 0 from rfl, nI_leI (by omega) (by omega)] at h7; omega)]; exact hR) rfl
  · refine qv_aload_n hk 1 rfl dX_finish_10 rfl ?_
    refine gX_outputs hk dX_finish_11 ?_
    refine qv_top (y := nI R.length) (hO) ?_
    refine qv_bipush (v := nI 16) hk dX_finish_14 (by decide) ?_
    refine qn_icmp_ge (tgt := 105) hk (by omega) (by omega) dX_finish_16 (by decide) (fun h16 => ?_) (fun h16 => ?_)
    · refine qv_sub [1, 2] rfl ?_
      exact J105 S hL (by rw [fnR_no (fun z => by omega)]; exact hR) rfl
    · have h16b : R.length < 16 := h16
      refine qv_aload_n hk 1 rfl dX_finish_19 rfl ?_
      refine qv_iload_n hk 2 rfl dX_finish_20 rfl ?_
      have hne : 0 < cK q (L 0) * cK q (L 1) := Nat.pos_of_ne_zero (fun z => h7 (by rw [z]; decide))
      have n0 : 0 < cK q (L 0) := Nat.pos_of_ne_zero (fun z => by rw [z, Nat.zero_mul] at hne; omega)
      have n1 : 0 < cK q (L 1) := Nat.pos_of_ne_zero (fun z => by rw [z, Nat.mul_zero] at hne; omega)
      refine callXN (As := [.int (nI q)]) (rest := []) hk (qx_extremes l D a cI cZ S L hL q hq n0 n1) gX_extremes (by decide) rfl rfl (Nat.le_of_ble_eq_true rfl) dX_finish_21 (fun S21 hw21 => ?_)
      refine qv_aload_n hk 1 rfl dX_finish_24 rfl ?_
      refine gX_outKey hk dX_finish_25 ?_
      refine qv_aload_n hk 1 rfl dX_finish_28 rfl ?_
      refine gX_outputs hk dX_finish_29 ?_
      refine qv_top (y := nI R.length) (hw21.1.2.trans hO) ?_
      refine qv_iload_n hk 2 rfl dX_finish_32 rfl ?_
      refine sX_outKey hk (by omega) dX_finish_33 ?_
      refine qv_aload_n hk 1 rfl dX_finish_34 rfl ?_
      refine gX_outPairs hk dX_finish_35 ?_
      refine qv_aload_n hk 1 rfl dX_finish_38 rfl ?_
      refine gX_outputs hk dX_finish_39 ?_
      refine qv_top (y := nI R.length) (hw21.1.2.trans hO) ?_
      refine qv_iload_n hk 0 rfl dX_finish_42 rfl ?_
      refine sX_outPairs hk (by omega) dX_finish_43 ?_
      refine qv_aload_n hk 1 rfl dX_finish_44 rfl ?_
      refine gX_outSum hk dX_finish_45 ?_
      refine qv_aload_n hk 1 rfl dX_finish_48 rfl ?_
      refine gX_outputs hk dX_finish_49 ?_
      refine qv_top (y := nI R.length) (hw21.1.2.trans hO) ?_
      refine qv_aload_n hk 1 rfl dX_finish_52 rfl ?_
      refine gX_sums hk dX_finish_53 ?_
      refine qv_iload_n hk 2 rfl dX_finish_56 rfl ?_
      refine aX_sums hk (by omega) dX_finish_57 ?_
      refine qv_top (y := sK q (L 0)) ((congrFun (hw21.1.1 4 (by decide)) q).trans hs0) ?_
      refine qv_aload_n hk 1 rfl dX_finish_58 rfl ?_
      refine gX_sums hk dX_finish_59 ?_
      refine qv_bipush (v := nI 16) hk dX_finish_62 (by decide) ?_
      refine qv_iload_n hk 2 rfl dX_finish_64 rfl ?_
      refine qn_iadd hk dX_finish_65 ?_
      refine aX_sums hk (by omega) dX_finish_66 ?_
      refine qv_top (y := sK q (L 1)) ((congrFun (hw21.1.1 4 (by decide)) (16 + q)).trans hs1) ?_
      refine qv_imul hk dX_finish_67 ?_
      refine sX_outSum hk (by omega) dX_finish_68 ?_
      refine qv_aload_n hk 1 rfl dX_finish_69 rfl ?_
      refine gX_outLeast hk dX_finish_70 ?_
      refine qv_aload_n hk 1 rfl dX_finish_73 rfl ?_
      refine gX_outputs hk dX_finish_74 ?_
      refine qv_top (y := nI R.length) (hw21.1.2.trans hO) ?_
      refine qv_aload_n hk 1 rfl dX_finish_77 rfl ?_
      refine gX_low hk dX_finish_78 ?_
      refine qv_top (y := loF q (L 0) (L 1)) (hw21.2.1) ?_
      refine sX_outLeast hk (by omega) dX_finish_81 ?_
      refine qv_aload_n hk 1 rfl dX_finish_82 rfl ?_
      refine gX_outGreatest hk dX_finish_83 ?_
      refine qv_aload_n hk 1 rfl dX_finish_86 rfl ?_
      refine gX_outputs hk dX_finish_87 ?_
      refine qv_top (y := nI R.length) (hw21.1.2.trans hO) ?_
      refine qv_aload_n hk 1 rfl dX_finish_90 rfl ?_
      refine gX_high hk dX_finish_91 ?_
      refine qv_top (y := hiF q (L 0) (L 1)) (hw21.2.2) ?_
      refine sX_outGreatest hk (by omega) dX_finish_94 ?_
      refine qv_aload_n hk 1 rfl dX_finish_95 rfl ?_
      refine qv_dup hk dX_finish_96 rfl ?_
      refine gX_outputs hk dX_finish_97 ?_
      refine qv_top (y := nI R.length) (hw21.1.2.trans hO) ?_
      refine qv_iconst (v := nI 1) hk dX_finish_100 (by decide) ?_
      refine qn_iadd hk dX_finish_101 ?_
      refine pX_outputs hk dX_finish_102 ?_
      refine qv_sub [1, 2] rfl ?_
      exact J105 ((up2 (up2 (up2 (up2 (up2 (up2 S21 6 R.length (nI q)) 7 R.length (nI (cK q (L 0) * cK q (L 1)))) 8 R.length ((sK q (L 0)) * (sK q (L 1)))) 9 R.length (loF q (L 0) (L 1))) 10 R.length (hiF q (L 0) (L 1))) 11 0 (nI (R.length + 1)))) (hL.same (fun c hc => (outS_lo S21 R.length q _ _ _ _ c (by omega)).trans (hw21.1.1 c (by omega)))) (by rw [fnR_yes hne h16b]; exact outS_out hR hw21.1 h16b hq _ _ _ _) (hw21.1.1 5 (by decide))

set_option maxHeartbeats 4000000 in
set_option maxRecDepth 100000 in
theorem qx_close (l : Launch) (D : va_G) (a : Nat → Nat) (cI cZ : ClassId) (S : QS) (q0 : QA) (h0 : XA S q0) (x1 x2 x3 : Int32) : MetI l yX_close wX_close rX_close D (qty cI cZ) (xw a cI cZ) S [.ref (a 0), .int x1, .int x2, .int x3] (fun r S2 => cloA q0 x1 x2 x3 r (S2 = S) (fun q => XA S2 q)) := by
  refine MetI.of (cc := bX_close) (maxL := 6) (own := R_X) (by decide) rfl rfl (Nat.le_of_ble_eq_true rfl) (fun k hk hret => ?_)
  have hk : QK k bX_close R_X 6 rX_close l D (qty cI cZ) := hk
  show QV k (xw a cI cZ) S [(0, .ref (a 0)), (1, .int x1), (2, .int x2), (3, .int x3)] 0 []
  refine qv_iload_n hk 1 rfl dX_close_0 rfl ?_
  refine callSX (As := [.int x1]) (rest := []) hk (qx_isStream l D a cI cZ x1) gX_isStream (by decide) rfl rfl (Nat.le_of_ble_eq_true rfl) dX_close_1 (fun r1 hw1 => ?_)
  rcases hw1 with ⟨rfl, st, hst, rfl⟩ | ⟨rfl, hst⟩
  · refine qv_if_ne (tgt := 9) hk dX_close_4 (by decide) (fun _ => ?_) (fun h => absurd h (by decide))
    refine qv_iload_n hk 2 rfl dX_close_9 rfl ?_
    refine qv_if_lt (tgt := 24) hk dX_close_10 (by decide) (fun h10 => ?_) (fun h10 => ?_)
    · refine qv_bipush (v := -2) hk dX_close_24 (by decide) ?_
      exact hret ((-2)) S [(0, .ref (a 0)), (1, .int (nI st)), (2, .int x2), (3, .int x3)] 26 (Or.inr (Or.inl ⟨⟨st, hst, rfl⟩, rng_n1 h10, rfl, rfl⟩)) rfl dX_close_26
    · refine qv_iload_n hk 2 rfl dX_close_13 rfl ?_
      refine qv_iload_n hk 3 rfl dX_close_14 rfl ?_
      refine qv_icmp_gt (tgt := 24) hk dX_close_15 (by decide) (fun h15 => ?_) (fun h15 => ?_)
      · refine qv_bipush (v := -2) hk dX_close_24 (by decide) ?_
        exact hret ((-2)) S [(0, .ref (a 0)), (1, .int (nI st)), (2, .int x2), (3, .int x3)] 26 (Or.inr (Or.inl ⟨⟨st, hst, rfl⟩, rng_n2 h15, rfl, rfl⟩)) rfl dX_close_26
      · refine qv_iload_n hk 3 rfl dX_close_18 rfl ?_
        refine qv_bipush (v := nI 16) hk dX_close_19 (by decide) ?_
        refine qv_icmp_lt (tgt := 27) hk dX_close_21 (by decide) (fun h21 => ?_) (fun h21 => ?_)
        · obtain ⟨f, e, hfe, he, rfl, rfl⟩ : rng x2 x3 := rng_of h10 h15 h21
          refine qv_iconst (v := nI 0) hk dX_close_27 (by decide) ?_
          refine qv_istore (lv' := [(4, .int (nI 0)), (0, .ref (a 0)), (1, .int (nI st)), (2, .int (nI f)), (3, .int (nI e))]) hk dX_close_28 (by decide) rfl ?_
          refine qv_iload_n hk 3 rfl dX_close_30 rfl ?_
          refine qv_istore (lv' := [(5, .int (nI f)), (4, .int (nI 0)), (0, .ref (a 0)), (1, .int (nI st)), (2, .int (nI f)), (3, .int (nI e))]) hk dX_close_31 (by decide) rfl ?_
          have L33 : ∀ (n33 : Nat) (j : Nat) (S1 : QS) (c : Nat), e + 1 - (f + j) < n33 → (f + j ≤ e + 1) → (XA S1 (clN st f j q0).1) → (c = (clN st f j q0).2) → QV k (xw a cI cZ) (S1) [(0, .ref (a 0)), (1, .int (nI st)), (3, .int (nI e)), (4, .int (nI c)), (5, .int (nI (f + j)))] 33 [] := by
            intro n33
            induction n33 with
            | zero => intro j S1 c hm; exact absurd hm (Nat.not_lt_zero _)
            | succ n33 ih33 =>
              intro j S1 c hm33 hj hA hc
              refine qv_iload hk 4 rfl dX_close_33 ?_
              refine qv_iload_n hk 2 rfl dX_close_35 rfl ?_
              refine qn_icmp_gt (tgt := 99) hk (by omega) (by omega) dX_close_36 (by decide) (fun h36 => ?_) (fun h36 => ?_)
              · refine qv_iload hk 3 rfl dX_close_99 ?_
                exact hret (nI c) S1 [(0, .ref (a 0)), (1, .int (nI st)), (3, .int (nI e)), (4, .int (nI c)), (5, .int (nI (f + j)))] 101 (Or.inr (Or.inr ⟨st, f, e, hst, hfe, he, rfl, rfl, rfl, by rw [hc, show e + 1 - f = j by omega], by rw [show e + 1 - f = j by omega]; exact hA⟩)) rfl dX_close_101
              · refine qv_aload_n hk 0 rfl dX_close_39 rfl ?_
                refine gX_shut hk dX_close_40 ?_
                refine qv_bipush (v := nI 16) hk dX_close_43 (by decide) ?_
                refine qv_iload_n hk 1 rfl dX_close_45 rfl ?_
                refine qn_imul hk dX_close_46 ?_
                refine qv_iload hk 4 rfl dX_close_47 ?_
                refine qn_iadd hk dX_close_49 ?_
                refine aX_shut hk (by omega) dX_close_50 ?_
                refine qv_if_ne (tgt := 93) hk dX_close_51 (by decide) (fun h51 => ?_) (fun h51 => ?_)
                · refine qv_iinc (v := nI ((f + j) + 1)) (lv' := [(5, .int (nI ((f + j) + 1))), (0, .ref (a 0)), (1, .int (nI st)), (3, .int (nI e)), (4, .int (nI c))]) hk 4 rfl dX_close_93 (qn_inc _) (by decide) rfl ?_
                  refine qv_goto (tgt := 33) hk dX_close_96 (by decide) ?_
                  refine qv_sub [1, 2, 3, 4, 0] rfl ?_
                  exact ih33 (j + 1) S1 c (by omega) (by omega) (cl_a hA h51).1 (by rw [clN, (cl_a hA h51).2, hc]; rfl)
                · refine qv_aload_n hk 0 rfl dX_close_54 rfl ?_
                  refine gX_shut hk dX_close_55 ?_
                  refine qv_bipush (v := nI 16) hk dX_close_58 (by decide) ?_
                  refine qv_iload_n hk 1 rfl dX_close_60 rfl ?_
                  refine qn_imul hk dX_close_61 ?_
                  refine qv_iload hk 4 rfl dX_close_62 ?_
                  refine qn_iadd hk dX_close_64 ?_
                  refine qv_iconst (v := nI 1) hk dX_close_65 (by decide) ?_
                  refine sX_shut hk (by decide) (by omega) dX_close_66 ?_
                  refine qv_aload_n hk 0 rfl dX_close_67 rfl ?_
                  refine gX_shut hk dX_close_68 ?_
                  refine qv_bipush (v := nI 16) hk dX_close_71 (by decide) ?_
                  refine qv_iconst (v := nI 1) hk dX_close_73 (by decide) ?_
                  refine qv_iload_n hk 1 rfl dX_close_74 rfl ?_
                  refine qn_isub hk (by omega) dX_close_75 ?_
                  refine qn_imul hk dX_close_76 ?_
                  refine qv_iload hk 4 rfl dX_close_77 ?_
                  refine qn_iadd hk dX_close_79 ?_
                  refine aX_shut hk (by omega) dX_close_80 ?_
                  refine qv_top (y := S1 5 (16 * (1 - st) + (f + j))) (if_neg (by omega)) ?_
                  refine qv_if_eq (tgt := 93) hk dX_close_81 (by decide) (fun h81 => ?_) (fun h81 => ?_)
                  · refine qv_iinc (v := nI ((f + j) + 1)) (lv' := [(5, .int (nI ((f + j) + 1))), (0, .ref (a 0)), (1, .int (nI st)), (3, .int (nI e)), (4, .int (nI c))]) hk 4 rfl dX_close_93 (qn_inc _) (by decide) rfl ?_
                    refine qv_goto (tgt := 33) hk dX_close_96 (by decide) ?_
                    refine qv_sub [1, 2, 3, 4, 0] rfl ?_
                    exact ih33 (j + 1) ((up2 S1 5 ((16 * st) + (f + j)) (nI 1))) c (by omega) (by omega) (cl_b hA h51 h81).1 (by rw [clN, (cl_b hA h51 h81).2, hc]; rfl)
                  · refine qv_aload_n hk 0 rfl dX_close_84 rfl ?_
                    refine qv_iload hk 4 rfl dX_close_85 ?_
                    refine callXN (As := [.int (nI (f + j))]) (rest := []) hk (qx_finish l D a cI cZ (up2 S1 5 ((16 * st) + (f + j)) (nI 1)) (clN st f j q0).1.1 (hA.1.same (fun c hc => if_neg (by omega))) (clN st f j q0).1.2.2 (hA.2.2.cong rfl rfl rfl rfl rfl rfl) (f + j) (by omega)) gX_finish (by decide) rfl rfl (Nat.le_of_ble_eq_true rfl) dX_close_87 (fun S87 hw87 => ?_)
                    have hcc := cl_c hA h51 h81 hw87
                    refine qv_iinc (v := nI (c + 1)) (lv' := [(4, .int (nI (c + 1))), (0, .ref (a 0)), (1, .int (nI st)), (3, .int (nI e)), (5, .int (nI (f + j)))]) hk 3 rfl dX_close_90 (qn_inc _) (by decide) rfl ?_
                    refine qv_iinc (v := nI ((f + j) + 1)) (lv' := [(5, .int (nI ((f + j) + 1))), (4, .int (nI (c + 1))), (0, .ref (a 0)), (1, .int (nI st)), (3, .int (nI e))]) hk 4 rfl dX_close_93 (qn_inc _) (by decide) rfl ?_
                    refine qv_goto (tgt := 33) hk dX_close_96 (by decide) ?_
                    refine qv_sub [2, 3, 4, 1, 0] rfl ?_
                    exact ih33 (j + 1) S87 ((c + 1)) (by omega) (by omega) hcc.1 (by rw [clN, hcc.2, hc])
          refine qv_sub [2, 3, 5, 1, 0] rfl ?_
          exact L33 _ 0 S 0 (Nat.lt_succ_self _) (by omega) h0 rfl
        · refine qv_bipush (v := -2) hk dX_close_24 (by decide) ?_
          exact hret ((-2)) S [(0, .ref (a 0)), (1, .int (nI st)), (2, .int x2), (3, .int x3)] 26 (Or.inr (Or.inl ⟨⟨st, hst, rfl⟩, rng_n3 h21, rfl, rfl⟩)) rfl dX_close_26
  · refine qv_if_ne (tgt := 9) hk dX_close_4 (by decide) (fun h => absurd h (by decide)) (fun _ => ?_)
    refine qv_iconst (v := -1) hk dX_close_7 (by decide) ?_
    exact hret ((-1)) S [(0, .ref (a 0)), (1, .int x1), (2, .int x2), (3, .int x3)] 8 (Or.inl ⟨hst, rfl, rfl⟩) rfl dX_close_8
end
section
/-! the reference: plain lists -/
theorem drS_step1 {c0 c1 : Nat} (hc : c0 ≠ c1) (S : QS) (st : Nat) {p j : Nat} (h : p ≤ j) : up2 (up2 (drS c0 c1 S st p 1 (j + 1)) c0 (40 * st + j) (drS c0 c1 S st p 1 (j + 1) c0 (40 * st + j + 1))) c1 (40 * st + j) (up2 (drS c0 c1 S st p 1 (j + 1)) c0 (40 * st + j) (drS c0 c1 S st p 1 (j + 1) c0 (40 * st + j + 1)) c1 (40 * st + j + 1)) = drS c0 c1 S st p 1 (j + 1 + 1) := by
  have := drS_step hc S st (p := p) (g := 1) (i := j + 1) (by omega)
  rw [show 40 * st + (j + 1) - 1 = 40 * st + j by omega] at this
  exact this
def mtk (S : QS) (st i n : Nat) : QS := up2 (drS 1 2 S st i 1 n) 0 st (nI (n - 1))
theorem mtk_hi (S : QS) (st i n : Nat) : ∀ c, 3 ≤ c → mtk S st i n c = S c := by
  intro c hc
  simp only [mtk, up2, drS]
  rw [if_neg (by omega), if_neg (by omega)]
theorem mtk_0 (S : QS) (st i n x : Nat) : mtk S st i n 0 x = if x = st then nI (n - 1) else S 0 x := by
  simp [mtk, up2, drS, upd]
theorem mtk_k (S : QS) (st i n : Nat) {c : Nat} (hc : c = 1 ∨ c = 2) (x : Nat) : mtk S st i n c x = if 40 * st + i ≤ x ∧ x + 1 < 40 * st + n then S c (x + 1) else S c x := by
  simp only [mtk, up2, drS]
  rw [if_neg (by omega), if_pos hc]
theorem mr_other {S S2 : QS} {st : Nat} {l : List QT} (h : mr S st l) (h1 : ∀ i, i < 40 → S2 1 (40 * st + i) = S 1 (40 * st + i)) (h2 : ∀ i, i < 40 → S2 2 (40 * st + i) = S 2 (40 * st + i)) (h0 : S2 0 st = S 0 st) : mr S2 st l := by
  obtain ⟨a1, a2, a3, a4⟩ := h
  refine ⟨a1, h0.trans a2, fun i t ht => ?_, a4⟩
  have hl : i < l.length := (List.getElem?_eq_some_iff.mp ht).1
  rw [h1 i (by omega), h2 i (by omega)]
  exact a3 i t ht
theorem tk_ok {S : QS} {L : QL} (h : MR S L) {st i : Nat} (hst : st < 2) (hi : i < (L st).length) : MR (mtk S st i (L st).length) (va_up L st (rmv (L st) i 1)) := by
  intro st' hst'
  have hx := h st hst
  by_cases e : st' = st
  · subst e
    rw [va_up_self]
    obtain ⟨a1, a2, a3, a4⟩ := hx
    exact ⟨by rw [rmv_len (by omega)]; omega, by rw [mtk_0, if_pos rfl, rmv_len (by omega)], rmv_lst a3 (by omega) (mtk_k _ _ _ _ (Or.inl rfl)) (mtk_k _ _ _ _ (Or.inr rfl)), fun t ht => a4 t ((rmv_sub _ _ _).subset ht)⟩
  · rw [va_up_ne _ _ e]
    have a1 := hx.1
    refine mr_other (h st' hst') (fun i hi => ?_) (fun i hi => ?_) (by rw [mtk_0, if_neg e])
    · rw [mtk_k _ _ _ _ (Or.inl rfl), if_neg (by omega)]
    · rw [mtk_k _ _ _ _ (Or.inr rfl), if_neg (by omega)]
def mfd (S : QS) (st q n : Nat) (v : Int32) : QS := up2 (up2 (up2 S 1 (40 * st + n) (nI q)) 2 (40 * st + n) v) 0 st (nI (n + 1))
theorem mfd_hi (S : QS) (st q n : Nat) (v : Int32) : ∀ c, 3 ≤ c → mfd S st q n v c = S c := by
  intro c hc
  simp only [mfd, up2]
  rw [if_neg (by omega), if_neg (by omega), if_neg (by omega)]
theorem mfd_0 (S : QS) (st q n : Nat) (v : Int32) (x : Nat) : mfd S st q n v 0 x = if x = st then nI (n + 1) else S 0 x := by
  simp [mfd, up2, upd]
theorem mfd_1 (S : QS) (st q n : Nat) (v : Int32) (x : Nat) : mfd S st q n v 1 x = if x = 40 * st + n then nI q else S 1 x := by
  simp [mfd, up2, upd]
theorem mfd_2 (S : QS) (st q n : Nat) (v : Int32) (x : Nat) : mfd S st q n v 2 x = if x = 40 * st + n then v else S 2 x := by
  simp [mfd, up2, upd]
theorem mfd_ok {S : QS} {L : QL} (h : MR S L) {st q : Nat} {v : Int32} (hst : st < 2) (hq : q < 16) (hv : okV v) (hn : (L st).length < 40) : MR (mfd S st q (L st).length v) (va_up L st (L st ++ [(q, v)])) := by
  intro st' hst'
  have hx := h st hst
  by_cases e : st' = st
  · subst e
    rw [va_up_self]
    obtain ⟨a1, a2, a3, a4⟩ := hx
    refine ⟨by rw [List.length_append]; simp; omega, by rw [mfd_0, if_pos rfl, List.length_append]; rfl, fun i t ht => ?_, fun t ht => ?_⟩
    · rw [mfd_1, mfd_2]
      by_cases hi : i < (L st').length
      · rw [List.getElem?_append_left hi] at ht
        have g : ¬ (40 * st' + i = 40 * st' + (L st').length) := by omega
        simp only [if_neg g]
        exact a3 i t ht
      · rw [List.getElem?_append_right (by omega)] at ht
        have hz : i - (L st').length < 1 := (List.getElem?_eq_some_iff.mp ht).1
        have hi0 : i = (L st').length := by omega
        subst hi0
        rw [Nat.sub_self] at ht
        cases ht
        exact ⟨if_pos rfl, if_pos rfl⟩
    · rcases List.mem_append.mp ht with ht | ht
      · exact a4 t ht
      · rw [List.mem_singleton] at ht
        subst ht
        exact ⟨hq, hv.1, hv.2⟩
  · rw [va_up_ne _ _ e]
    have a1 := hx.1
    refine mr_other (h st' hst') (fun i hi => ?_) (fun i hi => ?_) (by rw [mfd_0, if_neg e])
    · rw [mfd_1, if_neg (by omega)]
    · rw [mfd_2, if_neg (by omega)]
theorem MR.same {S S2 : QS} {L : QL} (h : MR S L) (e : ∀ c, c < 3 → S2 c = S c) : MR S2 L := by
  intro st hst
  have := h st hst
  unfold mr at *
  rw [e 0 (by omega), e 1 (by omega), e 2 (by omega)]
  exact this
theorem MR.cong {S : QS} {L L2 : QL} (h : MR S L) (e : ∀ st, st < 2 → L2 st = L st) : MR S L2 := fun st hst => by rw [e st hst]; exact h st hst
def sameM (S2 S : QS) : Prop := (∀ c, c ≠ 9 → S2 c = S c) ∧ S2 9 0 = S 9 0
theorem sameM_rfl (S : QS) : sameM S S := ⟨fun _ _ => rfl, rfl⟩
def lk (S1 S : QS) (P : List Int32) : Prop := sameM S1 S ∧ S1 9 1 = nI P.length ∧ S1 9 2 = smF P ∧ S1 9 3 = P.foldl mn 10000 ∧ S1 9 4 = P.foldl mx (-10000)
theorem lk_0 (S : QS) : lk (up2 (up2 (up2 (up2 S 9 1 (nI 0)) 9 2 (nI 0)) 9 3 (nI 10000)) 9 4 (-10000)) S [] := by
  refine ⟨⟨fun c hc => ?_, rfl⟩, rfl, rfl, rfl, rfl⟩
  simp only [up2, if_neg hc]
theorem lk_add {S1 S S2 : QS} {P : List Int32} {p : Int32} (h : lk S1 S P) (e0 : ∀ c, c ≠ 9 → S2 c = S1 c) (e1 : S2 9 0 = S1 9 0) (e2 : S2 9 1 = nI (P.length + 1)) (e3 : S2 9 2 = smF P + p) (e4 : S2 9 3 = mn (P.foldl mn 10000) p) (e5 : S2 9 4 = mx (P.foldl mx (-10000)) p) : lk S2 S (P ++ [p]) := by
  refine ⟨⟨fun c hc => (e0 c hc).trans (h.1.1 c hc), e1.trans h.1.2⟩, ?_, ?_, ?_, ?_⟩
  · rw [e2, List.length_append]; rfl
  · rw [e3, smF_app]
    congr 1
    unfold smF
    simp
  · rw [e4, List.foldl_append]; rfl
  · rw [e5, List.foldl_append]; rfl
theorem pl_snoc (q : Nat) (A B : List QT) (t : QT) : pl q (A ++ [t]) B = pl q A B ++ pl1 q t B := by
  unfold pl
  rw [List.flatMap_append]
  simp
theorem pl1_snoc (q : Nat) (t u : QT) (B : List QT) : pl1 q t (B ++ [u]) = pl1 q t B ++ (if t.1 = q ∧ u.1 = q then [t.2 * u.2] else []) := by
  unfold pl1
  by_cases h : t.1 = q
  · rw [if_pos h, if_pos h, List.filter_append, List.map_append]
    congr 1
    by_cases hu : u.1 = q
    · rw [if_pos ⟨h, hu⟩]
      simp [hu]
    · rw [if_neg (fun z => hu z.2)]
      simp [hu]
  · rw [if_neg h, if_neg h, if_neg (fun z => h z.1)]
    rfl
theorem pl1_nil (q : Nat) (t : QT) : pl1 q t [] = [] := by
  unfold pl1
  split <;> rfl
theorem pt_snoc (b : Int32) (t u : QT) (B : List QT) : pt b t (B ++ [u]) = pt b t B + (if u.1 = t.1 ∧ b ≤ t.2 * u.2 then 1 else 0) := by
  unfold pt
  rw [List.countP_append, List.countP_cons]
  simp
theorem cK_snoc (q : Nat) (B : List QT) (u : QT) : cK q (B ++ [u]) = cK q B + (if u.1 = q then 1 else 0) := by
  unfold cK
  rw [List.countP_append, List.countP_cons]
  simp
theorem qn_decI (x : Nat) : nI x + Int32.ofInt (-1) = nI x - nI 1 := by
  rw [Int32.sub_eq_add_neg]
  rfl
theorem da_0 {q : Nat} {l : List QT} (h : l.length ≤ 40) : l = l.take 40 ++ wo q (l.drop 40) := by
  rw [List.take_of_length_le h, List.drop_of_length_le h]
  simp [wo]
theorem da_skip {q i : Nat} {l l1 : List QT} (h : l1 = l.take (i + 1) ++ wo q (l.drop (i + 1))) (hl : l1.length ≤ i) : l1 = l.take i ++ wo q (l.drop i) := by
  have h2 : l1.length = (l.take (i + 1)).length + (wo q (l.drop (i + 1))).length := by rw [h, List.length_append]
  rw [List.length_take] at h2
  have hle : l.length ≤ i := by omega
  rw [h, List.take_of_length_le (show l.length ≤ i + 1 by omega), List.drop_of_length_le (show l.length ≤ i + 1 by omega), List.take_of_length_le hle, List.drop_of_length_le hle]
theorem da_get {q i : Nat} {l l1 : List QT} {t : QT} (h : l1 = l.take (i + 1) ++ wo q (l.drop (i + 1))) (ht : l1[i]? = some t) : l[i]? = some t := by
  by_cases hi : i < l.length
  · rw [h, List.getElem?_append_left (by rw [List.length_take]; omega), List.getElem?_take, if_pos (by omega)] at ht
    exact ht
  · rw [List.take_of_length_le (show l.length ≤ i + 1 by omega), List.drop_of_length_le (show l.length ≤ i + 1 by omega)] at h
    have : l1 = l := by rw [h]; simp [wo]
    rw [← this]
    exact ht
theorem da_keep {q i : Nat} {l l1 : List QT} {t : QT} (h : l1 = l.take (i + 1) ++ wo q (l.drop (i + 1))) (ht : l[i]? = some t) (hk : t.1 ≠ q) : l1 = l.take i ++ wo q (l.drop i) := by
  obtain ⟨h1, h2⟩ := List.getElem?_eq_some_iff.mp ht
  rw [h, tk ht, List.drop_eq_getElem_cons h1, h2]
  unfold wo
  rw [List.filter_cons_of_pos (by simpa using hk), List.append_assoc]
  rfl
theorem da_del {q i : Nat} {l l1 : List QT} {t : QT} (h : l1 = l.take (i + 1) ++ wo q (l.drop (i + 1))) (ht : l[i]? = some t) (hk : t.1 = q) : rmv l1 i 1 = l.take i ++ wo q (l.drop i) := by
  obtain ⟨h1, h2⟩ := List.getElem?_eq_some_iff.mp ht
  have e : wo q (l.drop i) = wo q (l.drop (i + 1)) := by
    rw [List.drop_eq_getElem_cons h1, h2]
    unfold wo
    rw [List.filter_cons_of_neg (by simpa using hk)]
  have hlt : (l.take i).length = i := by rw [List.length_take]; omega
  rw [e]
  unfold rmv
  rw [h, tk ht, List.append_assoc]
  congr 1
  · rw [List.take_append_of_le_length (by omega), List.take_of_length_le (by omega)]
  · rw [List.drop_append, List.drop_of_length_le (by omega), hlt, List.nil_append]
    rw [show i + 1 - i = 1 by omega]
    rfl
theorem mtk_at {S : QS} {st i n : Nat} : mtk S st i n 0 st = nI (n - 1) := by rw [mtk_0, if_pos rfl]
def MA (S : QS) (q : QA) : Prop := MR S q.1 ∧ S 3 = q.2.1 ∧ outR (S 9 0) (S 4) (S 5) (S 6) (S 7) (S 8) q.2.2 ∧ ∀ j, q.2.1 j = 0 ∨ q.2.1 j = 1
def omS (S : QS) (n q : Nat) (p s lo hi : Int32) : QS := up2 (up2 (up2 (up2 (up2 (up2 S 4 n (nI q)) 5 n p) 6 n s) 7 n lo) 8 n hi) 9 0 (nI (n + 1))
theorem omS_lo (S : QS) (n q : Nat) (p s lo hi : Int32) : ∀ c, c < 4 → omS S n q p s lo hi c = S c := by
  intro c hc
  simp only [omS, up2]
  rw [if_neg (by omega), if_neg (by omega), if_neg (by omega), if_neg (by omega), if_neg (by omega), if_neg (by omega)]
theorem omS_out {S S1 : QS} {R : List QE} (h : outR (S 9 0) (S 4) (S 5) (S 6) (S 7) (S 8) R) (hs : sameM S1 S) (hl : R.length < 16) {q : Nat} (hq : q < 16) (p s lo hi : Int32) : outR (omS S1 R.length q p s lo hi 9 0) (omS S1 R.length q p s lo hi 4) (omS S1 R.length q p s lo hi 5) (omS S1 R.length q p s lo hi 6) (omS S1 R.length q p s lo hi 7) (omS S1 R.length q p s lo hi 8) (R ++ [(q, p, s, lo, hi)]) := by
  have h1 : outR (S1 9 0) (S1 4) (S1 5) (S1 6) (S1 7) (S1 8) R := h.cong hs.2 (hs.1 4 (by decide)) (hs.1 5 (by decide)) (hs.1 6 (by decide)) (hs.1 7 (by decide)) (hs.1 8 (by decide))
  exact (h1.push hl hq p s lo hi).cong rfl rfl rfl rfl rfl rfl
theorem cK40m {S : QS} {L : QL} (h : MR S L) (q : Nat) : cK q (L 0) * cK q (L 1) ≤ 1600 := by
  have b0 := Nat.le_trans (cK_le q (L 0)) (h 0 (by omega)).1
  have b1 := Nat.le_trans (cK_le q (L 1)) (h 1 (by omega)).1
  exact Nat.mul_le_mul b0 b1
theorem upd_self {Z : Nat → Int32} {j : Nat} {v : Int32} (h : Z j = v) : upd Z j v = Z := by
  funext i
  unfold upd
  by_cases e : i = j
  · rw [if_pos e, e, h]
  · rw [if_neg e]
theorem cl_st {st k : Nat} (hst : st < 2) (Z : Nat → Int32) : (¬ Z k = 0 ∧ ¬ Z (16 + k) = 0) ↔ (¬ Z (16 * st + k) = 0 ∧ ¬ Z (16 * (1 - st) + k) = 0) := by
  rcases (show st = 0 ∨ st = 1 by omega) with rfl | rfl
  · simp
  · simp [and_comm]
/-- the reference's step: the key was done before, or is now, or isn't -/
theorem cm_a {S : QS} {q : QA} (h : MA S q) {st k : Nat} (hst : st < 2) (h1 : ¬ S 3 k = 0 ∧ ¬ S 3 (16 + k) = 0) : MA (up2 S 3 (16 * st + k) (nI 1)) (clS st k q) ∧ clC st k q = 0 := by
  rw [cl_st hst, h.2.1] at h1
  unfold clS clC
  rw [if_neg h1.1, if_neg (fun z => h1.1 z.1)]
  refine ⟨⟨h.1.same (fun c hc => ?_), ?_, h.2.2.1.cong rfl rfl rfl rfl rfl rfl, h.2.2.2⟩, rfl⟩
  · simp only [up2]
    rw [if_neg (by omega)]
  · show upd (S 3) _ _ = _
    rw [h.2.1]
    exact upd_self ((h.2.2.2 _).resolve_left h1.1)
theorem cm_z {S : QS} {q : QA} (h : MA S q) {st k : Nat} (hst : st < 2) : (¬ up2 S 3 (16 * st + k) (nI 1) 3 k = 0 ∧ ¬ up2 S 3 (16 * st + k) (nI 1) 3 (16 + k) = 0) ↔ ¬ q.2.1 (16 * (1 - st) + k) = 0 := by
  rw [cl_st hst]
  have e1 : up2 S 3 (16 * st + k) (nI 1) 3 (16 * st + k) = nI 1 := if_pos rfl
  have e2 : up2 S 3 (16 * st + k) (nI 1) 3 (16 * (1 - st) + k) = S 3 (16 * (1 - st) + k) := if_neg (by omega)
  rw [e1, e2, h.2.1]
  constructor
  · exact fun z => z.2
  · exact fun z => ⟨by decide, z⟩
theorem cm_b {S : QS} {q : QA} (h : MA S q) {st k : Nat} (hst : st < 2) (h2 : ¬ (¬ up2 S 3 (16 * st + k) (nI 1) 3 k = 0 ∧ ¬ up2 S 3 (16 * st + k) (nI 1) 3 (16 + k) = 0)) : MA (up2 S 3 (16 * st + k) (nI 1)) (clS st k q) ∧ clC st k q = 0 := by
  rw [cm_z h hst] at h2
  have h2 : q.2.1 (16 * (1 - st) + k) = 0 := by
    by_cases z : q.2.1 (16 * (1 - st) + k) = 0
    · exact z
    · exact absurd z h2
  have hm : MR (up2 S 3 (16 * st + k) (nI 1)) q.1 := h.1.same (fun c hc => by
    simp only [up2]
    rw [if_neg (by omega)])
  have hz : (up2 S 3 (16 * st + k) (nI 1)) 3 = upd q.2.1 (16 * st + k) 1 := by
    show upd (S 3) _ _ = _
    rw [h.2.1]
    rfl
  unfold clS clC
  rw [if_neg (c := q.2.1 (16 * st + k) = 0 ∧ ¬ q.2.1 (16 * (1 - st) + k) = 0) (fun z => z.2 h2)]
  by_cases h1 : q.2.1 (16 * st + k) = 0
  · rw [if_pos h1, if_pos h2]
    refine ⟨⟨hm, hz, h.2.2.1.cong rfl rfl rfl rfl rfl rfl, fun j => ?_⟩, rfl⟩
    show upd _ _ _ j = 0 ∨ upd _ _ _ j = 1
    unfold upd
    by_cases e : j = 16 * st + k
    · rw [if_pos e]; exact Or.inr rfl
    · rw [if_neg e]; exact h.2.2.2 j
  · rw [if_neg h1]
    refine ⟨⟨hm, ?_, h.2.2.1.cong rfl rfl rfl rfl rfl rfl, h.2.2.2⟩, rfl⟩
    rw [hz]
    exact upd_self ((h.2.2.2 _).resolve_left h1)
theorem cm_c {S S2 : QS} {q : QA} (h : MA S q) {st k : Nat} (hst : st < 2) (h1 : ¬ (¬ S 3 k = 0 ∧ ¬ S 3 (16 + k) = 0)) (h2 : ¬ up2 S 3 (16 * st + k) (nI 1) 3 k = 0 ∧ ¬ up2 S 3 (16 * st + k) (nI 1) 3 (16 + k) = 0) (hf : MR S2 (fun s => wo k (q.1 s)) ∧ outR (S2 9 0) (S2 4) (S2 5) (S2 6) (S2 7) (S2 8) (fnR k (q.1 0) (q.1 1) q.2.2) ∧ S2 3 = (up2 S 3 (16 * st + k) (nI 1)) 3) : MA S2 (clS st k q) ∧ clC st k q = 1 := by
  rw [cm_z h hst] at h2
  rw [cl_st hst, h.2.1] at h1
  have h1 : q.2.1 (16 * st + k) = 0 := by
    by_cases z : q.2.1 (16 * st + k) = 0
    · exact z
    · exact absurd ⟨z, h2⟩ h1
  unfold clS clC
  rw [if_pos h1, if_neg h2, if_pos ⟨h1, h2⟩]
  refine ⟨⟨hf.1, ?_, hf.2.1, fun j => ?_⟩, rfl⟩
  · rw [hf.2.2]
    show upd (S 3) _ _ = _
    rw [h.2.1]
    rfl
  · show upd _ _ _ j = 0 ∨ upd _ _ _ j = 1
    unfold upd
    by_cases e : j = 16 * st + k
    · rw [if_pos e]; exact Or.inr rfl
    · rw [if_neg e]; exact h.2.2.2 j
theorem rng_of15 {x2 x3 : Int32} (h1 : ¬ x2 < 0) (h2 : ¬ x3 < x2) (h3 : x3 ≤ nI 15) : rng x2 x3 := by
  refine rng_of h1 h2 ?_
  rw [iv_le, show (nI 15).toInt = 15 by decide] at h3
  rw [iv_lt, show (nI 16).toInt = 16 by decide]
  omega
theorem rng_n15 {x2 x3 : Int32} (h : ¬ x3 ≤ nI 15) : ¬ rng x2 x3 := by
  rintro ⟨f, e, h1, h2, rfl, rfl⟩
  exact h (nI_le (by omega) (by omega))
end
section
set_option maxHeartbeats 4000000 in
set_option maxRecDepth 100000 in
theorem qm_badStream (l : Launch) (D : va_G) (a : Nat → Nat) (cI cZ : ClassId) (S : QS) (x : Int32) : MetI l yM_badStream wM_badStream rM_badStream D (qty cI cZ) (mw a cI cZ) S [.ref (a 0), .int x] (fun r S2 => ((r = 0 ∧ isN x 2) ∨ (r = 1 ∧ ¬ isN x 2)) ∧ S2 = S) := by
  refine MetI.of (cc := bM_badStream) (maxL := 2) (own := R_M) (by decide) rfl rfl (Nat.le_of_ble_eq_true rfl) (fun k hk hret => ?_)
  have hk : QK k bM_badStream R_M 2 rM_badStream l D (qty cI cZ) := hk
  show QV k (mw a cI cZ) S [(0, .ref (a 0)), (1, .int x)] 0 []
  refine qv_iload_n hk 1 rfl dM_badStream_0 rfl ?_
  refine qv_if_lt (tgt := 9) hk dM_badStream_1 (by decide) (fun h1 => ?_) (fun h1 => ?_)
  · refine qv_iconst (v := nI 1) hk dM_badStream_9 (by decide) ?_
    refine qv_goto (tgt := 14) hk dM_badStream_10 (by decide) ?_
    exact hret (nI 1) S [(0, .ref (a 0)), (1, .int x)] 14 (⟨Or.inr ⟨rfl, isN_lt (by decide) h1⟩, rfl⟩) rfl dM_badStream_14
  · refine qv_iload_n hk 1 rfl dM_badStream_4 rfl ?_
    refine qv_iconst (v := nI 1) hk dM_badStream_5 (by decide) ?_
    refine qv_icmp_le (tgt := 13) hk dM_badStream_6 (by decide) (fun h6 => ?_) (fun h6 => ?_)
    · refine qv_iconst (v := nI 0) hk dM_badStream_13 (by decide) ?_
      exact hret (nI 0) S [(0, .ref (a 0)), (1, .int x)] 14 (⟨Or.inl ⟨rfl, isN_le (m := 1) (by decide) h1 h6⟩, rfl⟩) rfl dM_badStream_14
    · refine qv_iconst (v := nI 1) hk dM_badStream_9 (by decide) ?_
      refine qv_goto (tgt := 14) hk dM_badStream_10 (by decide) ?_
      exact hret (nI 1) S [(0, .ref (a 0)), (1, .int x)] 14 (⟨Or.inr ⟨rfl, isN_gt (m := 1) (by decide) h6⟩, rfl⟩) rfl dM_badStream_14

set_option maxHeartbeats 4000000 in
set_option maxRecDepth 100000 in
theorem qm_badKey (l : Launch) (D : va_G) (a : Nat → Nat) (cI cZ : ClassId) (S : QS) (x : Int32) : MetI l yM_badKey wM_badKey rM_badKey D (qty cI cZ) (mw a cI cZ) S [.ref (a 0), .int x] (fun r S2 => ((r = 0 ∧ isN x 16) ∨ (r = 1 ∧ ¬ isN x 16)) ∧ S2 = S) := by
  refine MetI.of (cc := bM_badKey) (maxL := 2) (own := R_M) (by decide) rfl rfl (Nat.le_of_ble_eq_true rfl) (fun k hk hret => ?_)
  have hk : QK k bM_badKey R_M 2 rM_badKey l D (qty cI cZ) := hk
  show QV k (mw a cI cZ) S [(0, .ref (a 0)), (1, .int x)] 0 []
  refine qv_iload_n hk 1 rfl dM_badKey_0 rfl ?_
  refine qv_if_lt (tgt := 10) hk dM_badKey_1 (by decide) (fun h1 => ?_) (fun h1 => ?_)
  · refine qv_iconst (v := nI 1) hk dM_badKey_10 (by decide) ?_
    refine qv_goto (tgt := 15) hk dM_badKey_11 (by decide) ?_
    exact hret (nI 1) S [(0, .ref (a 0)), (1, .int x)] 15 (⟨Or.inr ⟨rfl, isN_lt (by decide) h1⟩, rfl⟩) rfl dM_badKey_15
  · refine qv_iload_n hk 1 rfl dM_badKey_4 rfl ?_
    refine qv_bipush (v := nI 15) hk dM_badKey_5 (by decide) ?_
    refine qv_icmp_le (tgt := 14) hk dM_badKey_7 (by decide) (fun h7 => ?_) (fun h7 => ?_)
    · refine qv_iconst (v := nI 0) hk dM_badKey_14 (by decide) ?_
      exact hret (nI 0) S [(0, .ref (a 0)), (1, .int x)] 15 (⟨Or.inl ⟨rfl, isN_le (m := 15) (by decide) h1 h7⟩, rfl⟩) rfl dM_badKey_15
    · refine qv_iconst (v := nI 1) hk dM_badKey_10 (by decide) ?_
      refine qv_goto (tgt := 15) hk dM_badKey_11 (by decide) ?_
      exact hret (nI 1) S [(0, .ref (a 0)), (1, .int x)] 15 (⟨Or.inr ⟨rfl, isN_gt (m := 15) (by decide) h7⟩, rfl⟩) rfl dM_badKey_15

set_option maxHeartbeats 4000000 in
set_option maxRecDepth 100000 in
theorem qm_takeOut (l : Launch) (D : va_G) (a : Nat → Nat) (cI cZ : ClassId) (S : QS) (L : QL) (hL : MR S L) (st i : Nat) (hst : st < 2) (hi : i < (L st).length) : MetN l yM_takeOut wM_takeOut rM_takeOut D (qty cI cZ) (mw a cI cZ) S [.ref (a 0), .int (nI st), .int (nI i)] (fun S2 => S2 = mtk S st i (L st).length) := by
  refine MetN.of (cc := bM_takeOut) (maxL := 4) (own := R_M) (by decide) rfl rfl (Nat.le_of_ble_eq_true rfl) (fun k hk hret => ?_)
  have hk : QK k bM_takeOut R_M 4 rM_takeOut l D (qty cI cZ) := hk
  have hx := hL st hst
  have h40 := hx.1
  show QV k (mw a cI cZ) S [(0, .ref (a 0)), (1, .int (nI st)), (2, .int (nI i))] 0 []
  refine qv_iload_n hk 2 rfl dM_takeOut_0 rfl ?_
  refine qv_istore_n (lv' := [(3, .int (nI i)), (0, .ref (a 0)), (1, .int (nI st)), (2, .int (nI i))]) hk dM_takeOut_1 rfl (by decide) rfl ?_
  have L2 : ∀ (n2 : Nat) (j : Nat) (S1 : QS), (L st).length - j < n2 → (i ≤ j) → (j + 1 ≤ (L st).length) → (S1 = drS 1 2 S st i 1 (j + 1)) → QV k (mw a cI cZ) (S1) [(0, .ref (a 0)), (1, .int (nI st)), (3, .int (nI j))] 2 [] := by
    intro n2
    induction n2 with
    | zero => intro j S1 hm; exact absurd hm (Nat.not_lt_zero _)
    | succ n2 ih2 =>
      intro j S1 hm2 hj1 hj2 hS1
      refine qv_iload_n hk 2 rfl dM_takeOut_2 rfl ?_
      refine qv_aload_n hk 0 rfl dM_takeOut_3 rfl ?_
      refine gM_count hk dM_takeOut_4 ?_
      refine qv_iload_n hk 1 rfl dM_takeOut_7 rfl ?_
      refine aM_count hk (by omega) dM_takeOut_8 ?_
      refine qv_top (y := nI ((L st).length)) (by rw [hS1]; exact hx.2.1) ?_
      refine qv_iconst (v := nI 1) hk dM_takeOut_9 (by decide) ?_
      refine qn_isub hk (by omega) dM_takeOut_10 ?_
      refine qn_icmp_ge (tgt := 74) hk (by omega) (by omega) dM_takeOut_11 (by decide) (fun h11 => ?_) (fun h11 => ?_)
      · refine qv_aload_n hk 0 rfl dM_takeOut_74 rfl ?_
        refine gM_count hk dM_takeOut_75 ?_
        refine qv_iload_n hk 1 rfl dM_takeOut_78 rfl ?_
        refine qv_dup2 hk dM_takeOut_79 rfl rfl ?_
        refine aM_count hk (by omega) dM_takeOut_80 ?_
        refine qv_top (y := nI ((L st).length)) (by rw [hS1]; exact hx.2.1) ?_
        refine qv_iconst (v := nI 1) hk dM_takeOut_81 (by decide) ?_
        refine qn_isub hk (by omega) dM_takeOut_82 ?_
        refine sM_count hk (by omega) dM_takeOut_83 ?_
        exact hret (up2 S1 0 st (nI (((L st).length) - 1))) [(0, .ref (a 0)), (1, .int (nI st)), (3, .int (nI j))] 84 (by rw [hS1, show j + 1 = (L st).length by omega]; rfl) dM_takeOut_84
      · refine qv_iload_n hk 2 rfl dM_takeOut_14 rfl ?_
        refine qv_bipush (v := nI 39) hk dM_takeOut_15 (by decide) ?_
        refine qn_icmp_ge (tgt := 74) hk (by omega) (by omega) dM_takeOut_17 (by decide) (fun h17 => by exfalso; omega) (fun h17 => ?_)
        refine qv_aload_n hk 0 rfl dM_takeOut_20 rfl ?_
        refine gM_key hk dM_takeOut_21 ?_
        refine qv_bipush (v := nI 40) hk dM_takeOut_24 (by decide) ?_
        refine qv_iload_n hk 1 rfl dM_takeOut_26 rfl ?_
        refine qn_imul hk dM_takeOut_27 ?_
        refine qv_iload_n hk 2 rfl dM_takeOut_28 rfl ?_
        refine qn_iadd hk dM_takeOut_29 ?_
        refine qv_aload_n hk 0 rfl dM_takeOut_30 rfl ?_
        refine gM_key hk dM_takeOut_31 ?_
        refine qv_bipush (v := nI 40) hk dM_takeOut_34 (by decide) ?_
        refine qv_iload_n hk 1 rfl dM_takeOut_36 rfl ?_
        refine qn_imul hk dM_takeOut_37 ?_
        refine qv_iload_n hk 2 rfl dM_takeOut_38 rfl ?_
        refine qn_iadd hk dM_takeOut_39 ?_
        refine qv_iconst (v := nI 1) hk dM_takeOut_40 (by decide) ?_
        refine qn_iadd hk dM_takeOut_41 ?_
        refine aM_key hk (by omega) dM_takeOut_42 ?_
        refine sM_key hk (by omega) dM_takeOut_43 ?_
        refine qv_aload_n hk 0 rfl dM_takeOut_44 rfl ?_
        refine gM_value hk dM_takeOut_45 ?_
        refine qv_bipush (v := nI 40) hk dM_takeOut_48 (by decide) ?_
        refine qv_iload_n hk 1 rfl dM_takeOut_50 rfl ?_
        refine qn_imul hk dM_takeOut_51 ?_
        refine qv_iload_n hk 2 rfl dM_takeOut_52 rfl ?_
        refine qn_iadd hk dM_takeOut_53 ?_
        refine qv_aload_n hk 0 rfl dM_takeOut_54 rfl ?_
        refine gM_value hk dM_takeOut_55 ?_
        refine qv_bipush (v := nI 40) hk dM_takeOut_58 (by decide) ?_
        refine qv_iload_n hk 1 rfl dM_takeOut_60 rfl ?_
        refine qn_imul hk dM_takeOut_61 ?_
        refine qv_iload_n hk 2 rfl dM_takeOut_62 rfl ?_
        refine qn_iadd hk dM_takeOut_63 ?_
        refine qv_iconst (v := nI 1) hk dM_takeOut_64 (by decide) ?_
        refine qn_iadd hk dM_takeOut_65 ?_
        refine aM_value hk (by omega) dM_takeOut_66 ?_
        refine sM_value hk (by omega) dM_takeOut_67 ?_
        refine qv_iinc (v := nI (j + 1)) (lv' := [(3, .int (nI (j + 1))), (0, .ref (a 0)), (1, .int (nI st))]) hk 2 rfl dM_takeOut_68 (qn_inc _) (by decide) rfl ?_
        refine qv_goto (tgt := 2) hk dM_takeOut_71 (by decide) ?_
        refine qv_sub [1, 2, 0] rfl ?_
        exact ih2 (j + 1) ((up2 (up2 S1 1 ((40 * st) + j) (S1 1 (((40 * st) + j) + 1))) 2 ((40 * st) + j) ((up2 S1 1 ((40 * st) + j) (S1 1 (((40 * st) + j) + 1))) 2 (((40 * st) + j) + 1)))) (by omega) (by omega) (by omega) (by rw [hS1]; exact drS_step1 (by decide) S st hj1)
  refine qv_sub [1, 2, 0] rfl ?_
  exact L2 _ i S (Nat.lt_succ_self _) (Nat.le_refl _) hi (drS_0 1 2 S st i 1)

set_option maxHeartbeats 4000000 in
set_option maxRecDepth 100000 in
theorem qm_feed (l : Launch) (D : va_G) (a : Nat → Nat) (cI cZ : ClassId) (S : QS) (L : QL) (hL : MR S L) (x1 x2 x3 : Int32) : MetI l yM_feed wM_feed rM_feed D (qty cI cZ) (mw a cI cZ) S [.ref (a 0), .int x1, .int x2, .int x3] (fun r S2 => feedA L (S 3) x1 x2 x3 r (S2 = S) (fun st q => S2 = mfd S st q (L st).length x3)) := by
  refine MetI.of (cc := bM_feed) (maxL := 5) (own := R_M) (by decide) rfl rfl (Nat.le_of_ble_eq_true rfl) (fun k hk hret => ?_)
  have hk : QK k bM_feed R_M 5 rM_feed l D (qty cI cZ) := hk
  show QV k (mw a cI cZ) S [(0, .ref (a 0)), (1, .int x1), (2, .int x2), (3, .int x3)] 0 []
  refine qv_aload_n hk 0 rfl dM_feed_0 rfl ?_
  refine qv_iload_n hk 1 rfl dM_feed_1 rfl ?_
  refine callMI (As := [.int x1]) (rest := []) hk (qm_badStream l D a cI cZ S x1) gM_badStream (by decide) rfl rfl (Nat.le_of_ble_eq_true rfl) dM_feed_2 (fun r2 S2 hw => ?_)
  obtain ⟨hw, e2⟩ := hw
  refine qv_state e2 ?_
  rcases hw with ⟨rfl, st, hst, rfl⟩ | ⟨rfl, hst⟩
  · have hx := hL st hst
    have h40 := hx.1
    refine qv_if_eq (tgt := 10) hk dM_feed_5 (by decide) (fun _ => ?_) (fun h => absurd h (by decide))
    refine qv_aload_n hk 0 rfl dM_feed_10 rfl ?_
    refine qv_iload_n hk 2 rfl dM_feed_11 rfl ?_
    refine callMI (As := [.int x2]) (rest := []) hk (qm_badKey l D a cI cZ S x2) gM_badKey (by decide) rfl rfl (Nat.le_of_ble_eq_true rfl) dM_feed_12 (fun r12 S12 hw => ?_)
    obtain ⟨hw, e2⟩ := hw
    refine qv_state e2 ?_
    rcases hw with ⟨rfl, q, hq, rfl⟩ | ⟨rfl, hq⟩
    · refine qv_if_eq (tgt := 21) hk dM_feed_15 (by decide) (fun _ => ?_) (fun h => absurd h (by decide))
      refine qv_iload_n hk 3 rfl dM_feed_21 rfl ?_
      refine qv_bipush (v := -50) hk dM_feed_22 (by decide) ?_
      refine qv_icmp_lt (tgt := 33) hk dM_feed_24 (by decide) (fun h24 => ?_) (fun h24 => ?_)
      · refine qv_bipush (v := -3) hk dM_feed_33 (by decide) ?_
        exact hret ((-3)) S [(0, .ref (a 0)), (1, .int (nI st)), (2, .int (nI q)), (3, .int x3)] 35 (Or.inr (Or.inr (Or.inl ⟨⟨st, hst, rfl⟩, ⟨q, hq, rfl⟩, okV_n1 h24, rfl, rfl⟩))) rfl dM_feed_35
      · refine qv_iload_n hk 3 rfl dM_feed_27 rfl ?_
        refine qv_bipush (v := nI 50) hk dM_feed_28 (by decide) ?_
        refine qv_icmp_le (tgt := 36) hk dM_feed_30 (by decide) (fun h30 => ?_) (fun h30 => ?_)
        · refine qv_aload_n hk 0 rfl dM_feed_36 rfl ?_
          refine gM_shut hk dM_feed_37 ?_
          refine qv_bipush (v := nI 16) hk dM_feed_40 (by decide) ?_
          refine qv_iload_n hk 1 rfl dM_feed_42 rfl ?_
          refine qn_imul hk dM_feed_43 ?_
          refine qv_iload_n hk 2 rfl dM_feed_44 rfl ?_
          refine qn_iadd hk dM_feed_45 ?_
          refine aM_shut hk (by omega) dM_feed_46 ?_
          refine qv_if_eq (tgt := 53) hk dM_feed_47 (by decide) (fun h47 => ?_) (fun h47 => ?_)
          · refine qv_aload_n hk 0 rfl dM_feed_53 rfl ?_
            refine gM_count hk dM_feed_54 ?_
            refine qv_iload_n hk 1 rfl dM_feed_57 rfl ?_
            refine aM_count hk (by omega) dM_feed_58 ?_
            refine qv_top (y := nI ((L st).length)) (hx.2.1) ?_
            refine qv_istore (lv' := [(4, .int (nI ((L st).length))), (0, .ref (a 0)), (1, .int (nI st)), (2, .int (nI q)), (3, .int x3)]) hk dM_feed_59 (by decide) rfl ?_
            refine qv_iload hk 0 rfl dM_feed_61 ?_
            refine qv_bipush (v := nI 40) hk dM_feed_63 (by decide) ?_
            refine qn_icmp_lt (tgt := 71) hk (by omega) (by omega) dM_feed_65 (by decide) (fun h65 => ?_) (fun h65 => ?_)
            · refine qv_aload_n hk 1 rfl dM_feed_71 rfl ?_
              refine gM_key hk dM_feed_72 ?_
              refine qv_bipush (v := nI 40) hk dM_feed_75 (by decide) ?_
              refine qv_iload_n hk 2 rfl dM_feed_77 rfl ?_
              refine qn_imul hk dM_feed_78 ?_
              refine qv_iload hk 0 rfl dM_feed_79 ?_
              refine qn_iadd hk dM_feed_81 ?_
              refine qv_iload_n hk 3 rfl dM_feed_82 rfl ?_
              refine sM_key hk (by omega) dM_feed_83 ?_
              refine qv_aload_n hk 1 rfl dM_feed_84 rfl ?_
              refine gM_value hk dM_feed_85 ?_
              refine qv_bipush (v := nI 40) hk dM_feed_88 (by decide) ?_
              refine qv_iload_n hk 2 rfl dM_feed_90 rfl ?_
              refine qn_imul hk dM_feed_91 ?_
              refine qv_iload hk 0 rfl dM_feed_92 ?_
              refine qn_iadd hk dM_feed_94 ?_
              refine qv_iload_n hk 4 rfl dM_feed_95 rfl ?_
              refine sM_value hk (by omega) dM_feed_96 ?_
              refine qv_aload_n hk 1 rfl dM_feed_97 rfl ?_
              refine gM_count hk dM_feed_98 ?_
              refine qv_iload_n hk 2 rfl dM_feed_101 rfl ?_
              refine qv_iload hk 0 rfl dM_feed_102 ?_
              refine qv_iconst (v := nI 1) hk dM_feed_104 (by decide) ?_
              refine qn_iadd hk dM_feed_105 ?_
              refine sM_count hk (by omega) dM_feed_106 ?_
              refine qv_iload hk 0 rfl dM_feed_107 ?_
              refine qv_iconst (v := nI 1) hk dM_feed_109 (by decide) ?_
              refine qn_iadd hk dM_feed_110 ?_
              exact hret (nI (((L st).length) + 1)) (up2 (up2 (up2 S 1 ((40 * st) + ((L st).length)) (nI q)) 2 ((40 * st) + ((L st).length)) x3) 0 st (nI (((L st).length) + 1))) [(4, .int (nI ((L st).length))), (0, .ref (a 0)), (1, .int (nI st)), (2, .int (nI q)), (3, .int x3)] 111 (Or.inr (Or.inr (Or.inr ⟨st, q, hst, hq, rfl, rfl, okV_of h24 h30, Or.inr ⟨h47, Or.inr ⟨h65, rfl, rfl⟩⟩⟩))) rfl dM_feed_111
            · refine qv_bipush (v := -5) hk dM_feed_68 (by decide) ?_
              exact hret ((-5)) S [(4, .int (nI ((L st).length))), (0, .ref (a 0)), (1, .int (nI st)), (2, .int (nI q)), (3, .int x3)] 70 (Or.inr (Or.inr (Or.inr ⟨st, q, hst, hq, rfl, rfl, okV_of h24 h30, Or.inr ⟨h47, Or.inl ⟨by omega, rfl, rfl⟩⟩⟩))) rfl dM_feed_70
          · refine qv_bipush (v := -4) hk dM_feed_50 (by decide) ?_
            exact hret ((-4)) S [(0, .ref (a 0)), (1, .int (nI st)), (2, .int (nI q)), (3, .int x3)] 52 (Or.inr (Or.inr (Or.inr ⟨st, q, hst, hq, rfl, rfl, okV_of h24 h30, Or.inl ⟨h47, rfl, rfl⟩⟩))) rfl dM_feed_52
        · refine qv_bipush (v := -3) hk dM_feed_33 (by decide) ?_
          exact hret ((-3)) S [(0, .ref (a 0)), (1, .int (nI st)), (2, .int (nI q)), (3, .int x3)] 35 (Or.inr (Or.inr (Or.inl ⟨⟨st, hst, rfl⟩, ⟨q, hq, rfl⟩, okV_n2 h30, rfl, rfl⟩))) rfl dM_feed_35
    · refine qv_if_eq (tgt := 21) hk dM_feed_15 (by decide) (fun h => absurd h (by decide)) (fun _ => ?_)
      refine qv_bipush (v := -2) hk dM_feed_18 (by decide) ?_
      exact hret ((-2)) S [(0, .ref (a 0)), (1, .int (nI st)), (2, .int x2), (3, .int x3)] 20 (Or.inr (Or.inl ⟨⟨st, hst, rfl⟩, hq, rfl, rfl⟩)) rfl dM_feed_20
  · refine qv_if_eq (tgt := 10) hk dM_feed_5 (by decide) (fun h => absurd h (by decide)) (fun _ => ?_)
    refine qv_iconst (v := -1) hk dM_feed_8 (by decide) ?_
    exact hret ((-1)) S [(0, .ref (a 0)), (1, .int x1), (2, .int x2), (3, .int x3)] 9 (Or.inl ⟨hst, rfl, rfl⟩) rfl dM_feed_9

set_option maxHeartbeats 4000000 in
set_option maxRecDepth 100000 in
theorem qm_retract (l : Launch) (D : va_G) (a : Nat → Nat) (cI cZ : ClassId) (S : QS) (L : QL) (hL : MR S L) (x1 x2 x3 : Int32) : MetI l yM_retract wM_retract rM_retract D (qty cI cZ) (mw a cI cZ) S [.ref (a 0), .int x1, .int x2, .int x3] (fun r S2 => retA L x1 x2 x3 r (S2 = S) (fun st q => ∃ p, (L st)[p]? = some (q, x3) ∧ S2 = mtk S st p (L st).length)) := by
  refine MetI.of (cc := bM_retract) (maxL := 5) (own := R_M) (by decide) rfl rfl (Nat.le_of_ble_eq_true rfl) (fun k hk hret => ?_)
  have hk : QK k bM_retract R_M 5 rM_retract l D (qty cI cZ) := hk
  show QV k (mw a cI cZ) S [(0, .ref (a 0)), (1, .int x1), (2, .int x2), (3, .int x3)] 0 []
  refine qv_aload_n hk 0 rfl dM_retract_0 rfl ?_
  refine qv_iload_n hk 1 rfl dM_retract_1 rfl ?_
  refine callMI (As := [.int x1]) (rest := []) hk (qm_badStream l D a cI cZ S x1) gM_badStream (by decide) rfl rfl (Nat.le_of_ble_eq_true rfl) dM_retract_2 (fun r2 S2 hw => ?_)
  obtain ⟨hw, e2⟩ := hw
  refine qv_state e2 ?_
  rcases hw with ⟨rfl, st, hst, rfl⟩ | ⟨rfl, hst⟩
  · have hx := hL st hst
    have h40 := hx.1
    refine qv_if_eq (tgt := 10) hk dM_retract_5 (by decide) (fun _ => ?_) (fun h => absurd h (by decide))
    refine qv_aload_n hk 0 rfl dM_retract_10 rfl ?_
    refine qv_iload_n hk 2 rfl dM_retract_11 rfl ?_
    refine callMI (As := [.int x2]) (rest := []) hk (qm_badKey l D a cI cZ S x2) gM_badKey (by decide) rfl rfl (Nat.le_of_ble_eq_true rfl) dM_retract_12 (fun r12 S12 hw => ?_)
    obtain ⟨hw, e2⟩ := hw
    refine qv_state e2 ?_
    rcases hw with ⟨rfl, q, hq, rfl⟩ | ⟨rfl, hq⟩
    · refine qv_if_eq (tgt := 21) hk dM_retract_15 (by decide) (fun _ => ?_) (fun h => absurd h (by decide))
      refine qv_iconst (v := nI 0) hk dM_retract_21 (by decide) ?_
      refine qv_istore (lv' := [(4, .int (nI 0)), (0, .ref (a 0)), (1, .int (nI st)), (2, .int (nI q)), (3, .int x3)]) hk dM_retract_22 (by decide) rfl ?_
      have L24 : ∀ (n24 : Nat) (i : Nat), (L st).length - i < n24 → (i ≤ (L st).length) → (∀ (j : Nat) (u : QT), j < i → (L st)[j]? = some u → u ≠ (q, x3)) → QV k (mw a cI cZ) (S) [(0, .ref (a 0)), (1, .int (nI st)), (2, .int (nI q)), (3, .int x3), (4, .int (nI i))] 24 [] := by
        intro n24
        induction n24 with
        | zero => intro i hm; exact absurd hm (Nat.not_lt_zero _)
        | succ n24 ih24 =>
          intro i hm24 hi hno
          refine qv_iload hk 4 rfl dM_retract_24 ?_
          refine qv_aload_n hk 0 rfl dM_retract_26 rfl ?_
          refine gM_count hk dM_retract_27 ?_
          refine qv_iload_n hk 1 rfl dM_retract_30 rfl ?_
          refine aM_count hk (by omega) dM_retract_31 ?_
          refine qv_top (y := nI ((L st).length)) (hx.2.1) ?_
          refine qn_icmp_ge (tgt := 94) hk (by omega) (by omega) dM_retract_32 (by decide) (fun h32 => ?_) (fun h32 => ?_)
          · refine qv_bipush (v := -3) hk dM_retract_94 (by decide) ?_
            exact hret ((-3)) S [(0, .ref (a 0)), (1, .int (nI st)), (2, .int (nI q)), (3, .int x3), (4, .int (nI i))] 96 (Or.inr (Or.inr ⟨st, q, hst, hq, rfl, rfl, Or.inl ⟨fun hm => by obtain ⟨j, hj⟩ := List.getElem?_of_mem hm; exact hno j _ (by have := (List.getElem?_eq_some_iff.mp hj).1; omega) hj rfl, rfl, rfl⟩⟩)) rfl dM_retract_96
          · refine qv_iload hk 4 rfl dM_retract_35 ?_
            refine qv_bipush (v := nI 40) hk dM_retract_37 (by decide) ?_
            refine qn_icmp_ge (tgt := 94) hk (by omega) (by omega) dM_retract_39 (by decide) (fun h39 => by exfalso; omega) (fun h39 => ?_)
            obtain ⟨t, ht⟩ := getq (L := L st) (i := i) (by omega)
            have hlt := hx.2.2.1 i t ht
            have hok := hx.2.2.2 t (List.mem_of_getElem? ht)
            have ht16 := hok.1
            refine qv_aload_n hk 0 rfl dM_retract_42 rfl ?_
            refine gM_key hk dM_retract_43 ?_
            refine qv_bipush (v := nI 40) hk dM_retract_46 (by decide) ?_
            refine qv_iload_n hk 1 rfl dM_retract_48 rfl ?_
            refine qn_imul hk dM_retract_49 ?_
            refine qv_iload hk 4 rfl dM_retract_50 ?_
            refine qn_iadd hk dM_retract_52 ?_
            refine aM_key hk (by omega) dM_retract_53 ?_
            refine qv_top (y := nI t.1) (hlt.1) ?_
            refine qv_iload_n hk 2 rfl dM_retract_54 rfl ?_
            refine qn_icmp_ne (tgt := 88) hk (by omega) (by omega) dM_retract_55 (by decide) (fun h55 => ?_) (fun h55 => ?_)
            · refine qv_iinc (v := nI (i + 1)) (lv' := [(4, .int (nI (i + 1))), (0, .ref (a 0)), (1, .int (nI st)), (2, .int (nI q)), (3, .int x3)]) hk 4 rfl dM_retract_88 (qn_inc _) (by decide) rfl ?_
              refine qv_goto (tgt := 24) hk dM_retract_91 (by decide) ?_
              refine qv_sub [1, 2, 3, 4, 0] rfl ?_
              exact ih24 (i + 1) (by omega) (by omega) (fun j u hj hu => by rcases Nat.lt_or_eq_of_le (Nat.lt_succ_iff.mp hj) with z | z; exact hno j u z hu; rw [z, ht] at hu; cases hu; exact fun e => h55 (by rw [e]))
            · refine qv_aload_n hk 0 rfl dM_retract_58 rfl ?_
              refine gM_value hk dM_retract_59 ?_
              refine qv_bipush (v := nI 40) hk dM_retract_62 (by decide) ?_
              refine qv_iload_n hk 1 rfl dM_retract_64 rfl ?_
              refine qn_imul hk dM_retract_65 ?_
              refine qv_iload hk 4 rfl dM_retract_66 ?_
              refine qn_iadd hk dM_retract_68 ?_
              refine aM_value hk (by omega) dM_retract_69 ?_
              refine qv_top (y := t.2) (hlt.2) ?_
              refine qv_iload_n hk 3 rfl dM_retract_70 rfl ?_
              refine qv_icmp_ne (tgt := 88) hk dM_retract_71 (by decide) (fun h71 => ?_) (fun h71 => ?_)
              · refine qv_iinc (v := nI (i + 1)) (lv' := [(4, .int (nI (i + 1))), (0, .ref (a 0)), (1, .int (nI st)), (2, .int (nI q)), (3, .int x3)]) hk 4 rfl dM_retract_88 (qn_inc _) (by decide) rfl ?_
                refine qv_goto (tgt := 24) hk dM_retract_91 (by decide) ?_
                refine qv_sub [1, 2, 3, 4, 0] rfl ?_
                exact ih24 (i + 1) (by omega) (by omega) (fun j u hj hu => by rcases Nat.lt_or_eq_of_le (Nat.lt_succ_iff.mp hj) with z | z; exact hno j u z hu; rw [z, ht] at hu; cases hu; exact fun e => h71 (by rw [e]))
              · refine qv_aload_n hk 0 rfl dM_retract_74 rfl ?_
                refine qv_iload_n hk 1 rfl dM_retract_75 rfl ?_
                refine qv_iload hk 4 rfl dM_retract_76 ?_
                have hq2 : t = (q, x3) := Prod.ext h55 h71
                rw [hq2] at ht
                refine callMN (As := [.int (nI st), .int (nI i)]) (rest := []) hk (qm_takeOut l D a cI cZ S L hL st i hst (by omega)) gM_takeOut (by decide) rfl rfl (Nat.le_of_ble_eq_true rfl) dM_retract_78 (fun S78 hw78 => ?_)
                refine qv_aload_n hk 0 rfl dM_retract_81 rfl ?_
                refine gM_count hk dM_retract_82 ?_
                refine qv_iload_n hk 1 rfl dM_retract_85 rfl ?_
                refine aM_count hk (by omega) dM_retract_86 ?_
                refine qv_top (y := nI ((L st).length - 1)) (by rw [hw78]; exact mtk_at) ?_
                exact hret (nI ((L st).length - 1)) S78 [(0, .ref (a 0)), (1, .int (nI st)), (2, .int (nI q)), (3, .int x3), (4, .int (nI i))] 87 (Or.inr (Or.inr ⟨st, q, hst, hq, rfl, rfl, Or.inr ⟨List.mem_of_getElem? ht, rfl, i, ht, hw78⟩⟩)) rfl dM_retract_87
      refine qv_sub [1, 2, 3, 4, 0] rfl ?_
      exact L24 _ 0 (Nat.lt_succ_self _) (Nat.zero_le _) (fun j u hj => absurd hj (Nat.not_lt_zero _))
    · refine qv_if_eq (tgt := 21) hk dM_retract_15 (by decide) (fun h => absurd h (by decide)) (fun _ => ?_)
      refine qv_bipush (v := -2) hk dM_retract_18 (by decide) ?_
      exact hret ((-2)) S [(0, .ref (a 0)), (1, .int (nI st)), (2, .int x2), (3, .int x3)] 20 (Or.inr (Or.inl ⟨⟨st, hst, rfl⟩, hq, rfl, rfl⟩)) rfl dM_retract_20
  · refine qv_if_eq (tgt := 10) hk dM_retract_5 (by decide) (fun h => absurd h (by decide)) (fun _ => ?_)
    refine qv_iconst (v := -1) hk dM_retract_8 (by decide) ?_
    exact hret ((-1)) S [(0, .ref (a 0)), (1, .int x1), (2, .int x2), (3, .int x3)] 9 (Or.inl ⟨hst, rfl, rfl⟩) rfl dM_retract_9

set_option maxHeartbeats 4000000 in
set_option maxRecDepth 100000 in
theorem qm_held (l : Launch) (D : va_G) (a : Nat → Nat) (cI cZ : ClassId) (S : QS) (L : QL) (hL : MR S L) (x1 : Int32) : MetI l yM_held wM_held rM_held D (qty cI cZ) (mw a cI cZ) S [.ref (a 0), .int x1] (fun r S2 => qans x1 2 (-1) (fun st => nI (L st).length) r ∧ S2 = S) := by
  refine MetI.of (cc := bM_held) (maxL := 2) (own := R_M) (by decide) rfl rfl (Nat.le_of_ble_eq_true rfl) (fun k hk hret => ?_)
  have hk : QK k bM_held R_M 2 rM_held l D (qty cI cZ) := hk
  show QV k (mw a cI cZ) S [(0, .ref (a 0)), (1, .int x1)] 0 []
  refine qv_aload_n hk 0 rfl dM_held_0 rfl ?_
  refine qv_iload_n hk 1 rfl dM_held_1 rfl ?_
  refine callMI (As := [.int x1]) (rest := []) hk (qm_badStream l D a cI cZ S x1) gM_badStream (by decide) rfl rfl (Nat.le_of_ble_eq_true rfl) dM_held_2 (fun r2 S2 hw => ?_)
  obtain ⟨hw, e2⟩ := hw
  refine qv_state e2 ?_
  rcases hw with ⟨rfl, st, hst, rfl⟩ | ⟨rfl, hst⟩
  · refine qv_if_eq (tgt := 12) hk dM_held_5 (by decide) (fun _ => ?_) (fun h => absurd h (by decide))
    refine qv_aload_n hk 0 rfl dM_held_12 rfl ?_
    refine gM_count hk dM_held_13 ?_
    refine qv_iload_n hk 1 rfl dM_held_16 rfl ?_
    refine aM_count hk (by omega) dM_held_17 ?_
    refine qv_top (y := nI ((L st).length)) ((hL st hst).2.1) ?_
    exact hret (nI ((L st).length)) S [(0, .ref (a 0)), (1, .int (nI st))] 18 (⟨Or.inr ⟨st, hst, rfl, rfl⟩, rfl⟩) rfl dM_held_18
  · refine qv_if_eq (tgt := 12) hk dM_held_5 (by decide) (fun h => absurd h (by decide)) (fun _ => ?_)
    refine qv_iconst (v := -1) hk dM_held_8 (by decide) ?_
    refine qv_goto (tgt := 18) hk dM_held_9 (by decide) ?_
    exact hret ((-1)) S [(0, .ref (a 0)), (1, .int x1)] 18 (⟨Or.inl ⟨hst, rfl⟩, rfl⟩) rfl dM_held_18

set_option maxHeartbeats 4000000 in
set_option maxRecDepth 100000 in
theorem qm_heldWith (l : Launch) (D : va_G) (a : Nat → Nat) (cI cZ : ClassId) (S : QS) (L : QL) (hL : MR S L) (x1 x2 : Int32) : MetI l yM_heldWith wM_heldWith rM_heldWith D (qty cI cZ) (mw a cI cZ) S [.ref (a 0), .int x1, .int x2] (fun r S2 => qans2 x1 x2 (fun st q => nI (cK q (L st))) r ∧ S2 = S) := by
  refine MetI.of (cc := bM_heldWith) (maxL := 5) (own := R_M) (by decide) rfl rfl (Nat.le_of_ble_eq_true rfl) (fun k hk hret => ?_)
  have hk : QK k bM_heldWith R_M 5 rM_heldWith l D (qty cI cZ) := hk
  show QV k (mw a cI cZ) S [(0, .ref (a 0)), (1, .int x1), (2, .int x2)] 0 []
  refine qv_aload_n hk 0 rfl dM_heldWith_0 rfl ?_
  refine qv_iload_n hk 1 rfl dM_heldWith_1 rfl ?_
  refine callMI (As := [.int x1]) (rest := []) hk (qm_badStream l D a cI cZ S x1) gM_badStream (by decide) rfl rfl (Nat.le_of_ble_eq_true rfl) dM_heldWith_2 (fun r2 S2 hw => ?_)
  obtain ⟨hw, e2⟩ := hw
  refine qv_state e2 ?_
  rcases hw with ⟨rfl, st, hst, rfl⟩ | ⟨rfl, hst⟩
  · have hx := hL st hst
    have h40 := hx.1
    refine qv_if_eq (tgt := 10) hk dM_heldWith_5 (by decide) (fun _ => ?_) (fun h => absurd h (by decide))
    refine qv_aload_n hk 0 rfl dM_heldWith_10 rfl ?_
    refine qv_iload_n hk 2 rfl dM_heldWith_11 rfl ?_
    refine callMI (As := [.int x2]) (rest := []) hk (qm_badKey l D a cI cZ S x2) gM_badKey (by decide) rfl rfl (Nat.le_of_ble_eq_true rfl) dM_heldWith_12 (fun r12 S12 hw => ?_)
    obtain ⟨hw, e2⟩ := hw
    refine qv_state e2 ?_
    rcases hw with ⟨rfl, q, hq, rfl⟩ | ⟨rfl, hq⟩
    · refine qv_if_eq (tgt := 21) hk dM_heldWith_15 (by decide) (fun _ => ?_) (fun h => absurd h (by decide))
      refine qv_iconst (v := nI 0) hk dM_heldWith_21 (by decide) ?_
      refine qv_istore_n (lv' := [(3, .int (nI 0)), (0, .ref (a 0)), (1, .int (nI st)), (2, .int (nI q))]) hk dM_heldWith_22 rfl (by decide) rfl ?_
      refine qv_iconst (v := nI 0) hk dM_heldWith_23 (by decide) ?_
      refine qv_istore (lv' := [(4, .int (nI 0)), (3, .int (nI 0)), (0, .ref (a 0)), (1, .int (nI st)), (2, .int (nI q))]) hk dM_heldWith_24 (by decide) rfl ?_
      have L26 : ∀ (n26 : Nat) (i : Nat) (n : Nat), (L st).length - i < n26 → (i ≤ (L st).length) → (n = cK q ((L st).take i)) → QV k (mw a cI cZ) (S) [(0, .ref (a 0)), (1, .int (nI st)), (2, .int (nI q)), (3, .int (nI n)), (4, .int (nI i))] 26 [] := by
        intro n26
        induction n26 with
        | zero => intro i n hm; exact absurd hm (Nat.not_lt_zero _)
        | succ n26 ih26 =>
          intro i n hm26 hi hn
          refine qv_iload hk 4 rfl dM_heldWith_26 ?_
          refine qv_aload_n hk 0 rfl dM_heldWith_28 rfl ?_
          refine gM_count hk dM_heldWith_29 ?_
          refine qv_iload_n hk 1 rfl dM_heldWith_32 rfl ?_
          refine aM_count hk (by omega) dM_heldWith_33 ?_
          refine qv_top (y := nI ((L st).length)) (hx.2.1) ?_
          refine qn_icmp_ge (tgt := 69) hk (by omega) (by omega) dM_heldWith_34 (by decide) (fun h34 => ?_) (fun h34 => ?_)
          · refine qv_iload_n hk 3 rfl dM_heldWith_69 rfl ?_
            exact hret (nI n) S [(0, .ref (a 0)), (1, .int (nI st)), (2, .int (nI q)), (3, .int (nI n)), (4, .int (nI i))] 70 (⟨Or.inr (Or.inr ⟨st, q, hst, hq, rfl, rfl, by rw [hn, show i = (L st).length by omega, List.take_length]⟩), rfl⟩) rfl dM_heldWith_70
          · refine qv_iload hk 4 rfl dM_heldWith_37 ?_
            refine qv_bipush (v := nI 40) hk dM_heldWith_39 (by decide) ?_
            refine qn_icmp_ge (tgt := 69) hk (by omega) (by omega) dM_heldWith_41 (by decide) (fun h41 => by exfalso; omega) (fun h41 => ?_)
            obtain ⟨t, ht⟩ := getq (L := L st) (i := i) (by omega)
            have hlt := hx.2.2.1 i t ht
            have hok := hx.2.2.2 t (List.mem_of_getElem? ht)
            have ht16 := hok.1
            refine qv_aload_n hk 0 rfl dM_heldWith_44 rfl ?_
            refine gM_key hk dM_heldWith_45 ?_
            refine qv_bipush (v := nI 40) hk dM_heldWith_48 (by decide) ?_
            refine qv_iload_n hk 1 rfl dM_heldWith_50 rfl ?_
            refine qn_imul hk dM_heldWith_51 ?_
            refine qv_iload hk 4 rfl dM_heldWith_52 ?_
            refine qn_iadd hk dM_heldWith_54 ?_
            refine aM_key hk (by omega) dM_heldWith_55 ?_
            refine qv_top (y := nI t.1) (hlt.1) ?_
            refine qv_iload_n hk 2 rfl dM_heldWith_56 rfl ?_
            refine qn_icmp_ne (tgt := 63) hk (by omega) (by omega) dM_heldWith_57 (by decide) (fun h57 => ?_) (fun h57 => ?_)
            · refine qv_iinc (v := nI (i + 1)) (lv' := [(4, .int (nI (i + 1))), (0, .ref (a 0)), (1, .int (nI st)), (2, .int (nI q)), (3, .int (nI n))]) hk 4 rfl dM_heldWith_63 (qn_inc _) (by decide) rfl ?_
              refine qv_goto (tgt := 26) hk dM_heldWith_66 (by decide) ?_
              refine qv_sub [1, 2, 3, 4, 0] rfl ?_
              exact ih26 (i + 1) n (by omega) (by omega) (by rw [tk ht, cK_snoc, if_neg h57, hn]; rfl)
            · refine qv_iinc (v := nI (n + 1)) (lv' := [(3, .int (nI (n + 1))), (0, .ref (a 0)), (1, .int (nI st)), (2, .int (nI q)), (4, .int (nI i))]) hk 3 rfl dM_heldWith_60 (qn_inc _) (by decide) rfl ?_
              refine qv_iinc (v := nI (i + 1)) (lv' := [(4, .int (nI (i + 1))), (3, .int (nI (n + 1))), (0, .ref (a 0)), (1, .int (nI st)), (2, .int (nI q))]) hk 4 rfl dM_heldWith_63 (qn_inc _) (by decide) rfl ?_
              refine qv_goto (tgt := 26) hk dM_heldWith_66 (by decide) ?_
              refine qv_sub [2, 3, 4, 1, 0] rfl ?_
              exact ih26 (i + 1) ((n + 1)) (by omega) (by omega) (by rw [tk ht, cK_snoc, if_pos h57, hn])
      refine qv_sub [2, 3, 4, 1, 0] rfl ?_
      exact L26 _ 0 0 (Nat.lt_succ_self _) (Nat.zero_le _) rfl
    · refine qv_if_eq (tgt := 21) hk dM_heldWith_15 (by decide) (fun h => absurd h (by decide)) (fun _ => ?_)
      refine qv_bipush (v := -2) hk dM_heldWith_18 (by decide) ?_
      exact hret ((-2)) S [(0, .ref (a 0)), (1, .int (nI st)), (2, .int x2)] 20 (⟨Or.inr (Or.inl ⟨⟨st, hst, rfl⟩, hq, rfl⟩), rfl⟩) rfl dM_heldWith_20
  · refine qv_if_eq (tgt := 10) hk dM_heldWith_5 (by decide) (fun h => absurd h (by decide)) (fun _ => ?_)
    refine qv_iconst (v := -1) hk dM_heldWith_8 (by decide) ?_
    exact hret ((-1)) S [(0, .ref (a 0)), (1, .int x1), (2, .int x2)] 9 (⟨Or.inl ⟨hst, rfl⟩, rfl⟩) rfl dM_heldWith_9

set_option maxHeartbeats 4000000 in
set_option maxRecDepth 100000 in
theorem qm_closed (l : Launch) (D : va_G) (a : Nat → Nat) (cI cZ : ClassId) (S : QS) (x1 x2 : Int32) : MetI l yM_closed wM_closed rM_closed D (qty cI cZ) (mw a cI cZ) S [.ref (a 0), .int x1, .int x2] (fun r S2 => qans2 x1 x2 (fun st q => if S 3 (16 * st + q) = 0 then 0 else 1) r ∧ S2 = S) := by
  refine MetI.of (cc := bM_closed) (maxL := 3) (own := R_M) (by decide) rfl rfl (Nat.le_of_ble_eq_true rfl) (fun k hk hret => ?_)
  have hk : QK k bM_closed R_M 3 rM_closed l D (qty cI cZ) := hk
  show QV k (mw a cI cZ) S [(0, .ref (a 0)), (1, .int x1), (2, .int x2)] 0 []
  refine qv_aload_n hk 0 rfl dM_closed_0 rfl ?_
  refine qv_iload_n hk 1 rfl dM_closed_1 rfl ?_
  refine callMI (As := [.int x1]) (rest := []) hk (qm_badStream l D a cI cZ S x1) gM_badStream (by decide) rfl rfl (Nat.le_of_ble_eq_true rfl) dM_closed_2 (fun r2 S2 hw => ?_)
  obtain ⟨hw, e2⟩ := hw
  refine qv_state e2 ?_
  rcases hw with ⟨rfl, st, hst, rfl⟩ | ⟨rfl, hst⟩
  · refine qv_if_eq (tgt := 10) hk dM_closed_5 (by decide) (fun _ => ?_) (fun h => absurd h (by decide))
    refine qv_aload_n hk 0 rfl dM_closed_10 rfl ?_
    refine qv_iload_n hk 2 rfl dM_closed_11 rfl ?_
    refine callMI (As := [.int x2]) (rest := []) hk (qm_badKey l D a cI cZ S x2) gM_badKey (by decide) rfl rfl (Nat.le_of_ble_eq_true rfl) dM_closed_12 (fun r12 S12 hw => ?_)
    obtain ⟨hw, e2⟩ := hw
    refine qv_state e2 ?_
    rcases hw with ⟨rfl, q, hq, rfl⟩ | ⟨rfl, hq⟩
    · refine qv_if_eq (tgt := 21) hk dM_closed_15 (by decide) (fun _ => ?_) (fun h => absurd h (by decide))
      refine qv_aload_n hk 0 rfl dM_closed_21 rfl ?_
      refine gM_shut hk dM_closed_22 ?_
      refine qv_bipush (v := nI 16) hk dM_closed_25 (by decide) ?_
      refine qv_iload_n hk 1 rfl dM_closed_27 rfl ?_
      refine qn_imul hk dM_closed_28 ?_
      refine qv_iload_n hk 2 rfl dM_closed_29 rfl ?_
      refine qn_iadd hk dM_closed_30 ?_
      refine aM_shut hk (by omega) dM_closed_31 ?_
      refine qv_if_eq (tgt := 39) hk dM_closed_32 (by decide) (fun h32 => ?_) (fun h32 => ?_)
      · refine qv_iconst (v := nI 0) hk dM_closed_39 (by decide) ?_
        exact hret (nI 0) S [(0, .ref (a 0)), (1, .int (nI st)), (2, .int (nI q))] 40 (⟨Or.inr (Or.inr ⟨st, q, hst, hq, rfl, rfl, (if_pos h32).symm⟩), rfl⟩) rfl dM_closed_40
      · refine qv_iconst (v := nI 1) hk dM_closed_35 (by decide) ?_
        refine qv_goto (tgt := 40) hk dM_closed_36 (by decide) ?_
        exact hret (nI 1) S [(0, .ref (a 0)), (1, .int (nI st)), (2, .int (nI q))] 40 (⟨Or.inr (Or.inr ⟨st, q, hst, hq, rfl, rfl, (if_neg h32).symm⟩), rfl⟩) rfl dM_closed_40
    · refine qv_if_eq (tgt := 21) hk dM_closed_15 (by decide) (fun h => absurd h (by decide)) (fun _ => ?_)
      refine qv_bipush (v := -2) hk dM_closed_18 (by decide) ?_
      exact hret ((-2)) S [(0, .ref (a 0)), (1, .int (nI st)), (2, .int x2)] 20 (⟨Or.inr (Or.inl ⟨⟨st, hst, rfl⟩, hq, rfl⟩), rfl⟩) rfl dM_closed_20
  · refine qv_if_eq (tgt := 10) hk dM_closed_5 (by decide) (fun h => absurd h (by decide)) (fun _ => ?_)
    refine qv_iconst (v := -1) hk dM_closed_8 (by decide) ?_
    exact hret ((-1)) S [(0, .ref (a 0)), (1, .int x1), (2, .int x2)] 9 (⟨Or.inl ⟨hst, rfl⟩, rfl⟩) rfl dM_closed_9

set_option maxHeartbeats 4000000 in
set_option maxRecDepth 100000 in
theorem qm_noResult (l : Launch) (D : va_G) (a : Nat → Nat) (cI cZ : ClassId) (S : QS) (o : Nat) (hO : S 9 0 = nI o) (ho : o ≤ 16) (x : Int32) : MetI l yM_noResult wM_noResult rM_noResult D (qty cI cZ) (mw a cI cZ) S [.ref (a 0), .int x] (fun r S2 => ((r = 0 ∧ isN x o) ∨ (r = 1 ∧ ¬ isN x o)) ∧ S2 = S) := by
  refine MetI.of (cc := bM_noResult) (maxL := 2) (own := R_M) (by decide) rfl rfl (Nat.le_of_ble_eq_true rfl) (fun k hk hret => ?_)
  have hk : QK k bM_noResult R_M 2 rM_noResult l D (qty cI cZ) := hk
  show QV k (mw a cI cZ) S [(0, .ref (a 0)), (1, .int x)] 0 []
  refine qv_iload_n hk 1 rfl dM_noResult_0 rfl ?_
  refine qv_if_lt (tgt := 18) hk dM_noResult_1 (by decide) (fun h1 => ?_) (fun h1 => ?_)
  · refine qv_iconst (v := nI 1) hk dM_noResult_18 (by decide) ?_
    refine qv_goto (tgt := 23) hk dM_noResult_19 (by decide) ?_
    exact hret (nI 1) S [(0, .ref (a 0)), (1, .int x)] 23 (⟨Or.inr ⟨rfl, fun q => ((isN_of (by omega)).mp q).1 h1⟩, rfl⟩) rfl dM_noResult_23
  · refine qv_iload_n hk 1 rfl dM_noResult_4 rfl ?_
    refine qv_aload_n hk 0 rfl dM_noResult_5 rfl ?_
    refine gM_results hk dM_noResult_6 ?_
    refine qv_top (y := nI o) (hO) ?_
    refine qv_icmp_ge (tgt := 18) hk dM_noResult_9 (by decide) (fun h9 => ?_) (fun h9 => ?_)
    · refine qv_iconst (v := nI 1) hk dM_noResult_18 (by decide) ?_
      refine qv_goto (tgt := 23) hk dM_noResult_19 (by decide) ?_
      exact hret (nI 1) S [(0, .ref (a 0)), (1, .int x)] 23 (⟨Or.inr ⟨rfl, fun q => ((isN_of (by omega)).mp q).2 h9⟩, rfl⟩) rfl dM_noResult_23
    · refine qv_iload_n hk 1 rfl dM_noResult_12 rfl ?_
      refine qv_bipush (v := nI 16) hk dM_noResult_13 (by decide) ?_
      refine qv_icmp_lt (tgt := 22) hk dM_noResult_15 (by decide) (fun h15 => ?_) (fun h15 => ?_)
      · refine qv_iconst (v := nI 0) hk dM_noResult_22 (by decide) ?_
        exact hret (nI 0) S [(0, .ref (a 0)), (1, .int x)] 23 (⟨Or.inl ⟨rfl, (isN_of (by omega)).mpr ⟨h1, h9⟩⟩, rfl⟩) rfl dM_noResult_23
      · refine qv_iconst (v := nI 1) hk dM_noResult_18 (by decide) ?_
        refine qv_goto (tgt := 23) hk dM_noResult_19 (by decide) ?_
        exact hret (nI 1) S [(0, .ref (a 0)), (1, .int x)] 23 (⟨Or.inr ⟨rfl, fun q => by obtain ⟨n, hn, e⟩ := q; exact h15 (by rw [e]; exact nI_lt (by omega) (by decide))⟩, rfl⟩) rfl dM_noResult_23

set_option maxHeartbeats 4000000 in
set_option maxRecDepth 100000 in
theorem qm_resultKey (l : Launch) (D : va_G) (a : Nat → Nat) (cI cZ : ClassId) (S : QS) (o : Nat) (hO : S 9 0 = nI o) (ho : o ≤ 16) (x : Int32) : MetI l yM_resultKey wM_resultKey rM_resultKey D (qty cI cZ) (mw a cI cZ) S [.ref (a 0), .int x] (fun r S2 => qans x o (-1) (S 4) r ∧ S2 = S) := by
  refine MetI.of (cc := bM_resultKey) (maxL := 2) (own := R_M) (by decide) rfl rfl (Nat.le_of_ble_eq_true rfl) (fun k hk hret => ?_)
  have hk : QK k bM_resultKey R_M 2 rM_resultKey l D (qty cI cZ) := hk
  show QV k (mw a cI cZ) S [(0, .ref (a 0)), (1, .int x)] 0 []
  refine qv_aload_n hk 0 rfl dM_resultKey_0 rfl ?_
  refine qv_iload_n hk 1 rfl dM_resultKey_1 rfl ?_
  refine callMI (As := [.int x]) (rest := []) hk (qm_noResult l D a cI cZ S o hO ho x) gM_noResult (by decide) rfl rfl (Nat.le_of_ble_eq_true rfl) dM_resultKey_2 (fun r2 S2 hw => ?_)
  obtain ⟨hw, e2⟩ := hw
  refine qv_state e2 ?_
  rcases hw with ⟨rfl, i, hi, rfl⟩ | ⟨rfl, hi⟩
  · refine qv_if_eq (tgt := 12) hk dM_resultKey_5 (by decide) (fun _ => ?_) (fun h => absurd h (by decide))
    refine qv_aload_n hk 0 rfl dM_resultKey_12 rfl ?_
    refine gM_resultKey hk dM_resultKey_13 ?_
    refine qv_iload_n hk 1 rfl dM_resultKey_16 rfl ?_
    refine aM_resultKey hk (by omega) dM_resultKey_17 ?_
    exact hret (S 4 i) S [(0, .ref (a 0)), (1, .int (nI i))] 18 (⟨Or.inr ⟨i, hi, rfl, rfl⟩, rfl⟩) rfl dM_resultKey_18
  · refine qv_if_eq (tgt := 12) hk dM_resultKey_5 (by decide) (fun h => absurd h (by decide)) (fun _ => ?_)
    refine qv_iconst (v := -1) hk dM_resultKey_8 (by decide) ?_
    refine qv_goto (tgt := 18) hk dM_resultKey_9 (by decide) ?_
    exact hret ((-1)) S [(0, .ref (a 0)), (1, .int x)] 18 (⟨Or.inl ⟨hi, rfl⟩, rfl⟩) rfl dM_resultKey_18

set_option maxHeartbeats 4000000 in
set_option maxRecDepth 100000 in
theorem qm_resultPairs (l : Launch) (D : va_G) (a : Nat → Nat) (cI cZ : ClassId) (S : QS) (o : Nat) (hO : S 9 0 = nI o) (ho : o ≤ 16) (x : Int32) : MetI l yM_resultPairs wM_resultPairs rM_resultPairs D (qty cI cZ) (mw a cI cZ) S [.ref (a 0), .int x] (fun r S2 => qans x o (-1) (S 5) r ∧ S2 = S) := by
  refine MetI.of (cc := bM_resultPairs) (maxL := 2) (own := R_M) (by decide) rfl rfl (Nat.le_of_ble_eq_true rfl) (fun k hk hret => ?_)
  have hk : QK k bM_resultPairs R_M 2 rM_resultPairs l D (qty cI cZ) := hk
  show QV k (mw a cI cZ) S [(0, .ref (a 0)), (1, .int x)] 0 []
  refine qv_aload_n hk 0 rfl dM_resultPairs_0 rfl ?_
  refine qv_iload_n hk 1 rfl dM_resultPairs_1 rfl ?_
  refine callMI (As := [.int x]) (rest := []) hk (qm_noResult l D a cI cZ S o hO ho x) gM_noResult (by decide) rfl rfl (Nat.le_of_ble_eq_true rfl) dM_resultPairs_2 (fun r2 S2 hw => ?_)
  obtain ⟨hw, e2⟩ := hw
  refine qv_state e2 ?_
  rcases hw with ⟨rfl, i, hi, rfl⟩ | ⟨rfl, hi⟩
  · refine qv_if_eq (tgt := 12) hk dM_resultPairs_5 (by decide) (fun _ => ?_) (fun h => absurd h (by decide))
    refine qv_aload_n hk 0 rfl dM_resultPairs_12 rfl ?_
    refine gM_resultPairs hk dM_resultPairs_13 ?_
    refine qv_iload_n hk 1 rfl dM_resultPairs_16 rfl ?_
    refine aM_resultPairs hk (by omega) dM_resultPairs_17 ?_
    exact hret (S 5 i) S [(0, .ref (a 0)), (1, .int (nI i))] 18 (⟨Or.inr ⟨i, hi, rfl, rfl⟩, rfl⟩) rfl dM_resultPairs_18
  · refine qv_if_eq (tgt := 12) hk dM_resultPairs_5 (by decide) (fun h => absurd h (by decide)) (fun _ => ?_)
    refine qv_iconst (v := -1) hk dM_resultPairs_8 (by decide) ?_
    refine qv_goto (tgt := 18) hk dM_resultPairs_9 (by decide) ?_
    exact hret ((-1)) S [(0, .ref (a 0)), (1, .int x)] 18 (⟨Or.inl ⟨hi, rfl⟩, rfl⟩) rfl dM_resultPairs_18

set_option maxHeartbeats 4000000 in
set_option maxRecDepth 100000 in
theorem qm_resultSum (l : Launch) (D : va_G) (a : Nat → Nat) (cI cZ : ClassId) (S : QS) (o : Nat) (hO : S 9 0 = nI o) (ho : o ≤ 16) (x : Int32) : MetI l yM_resultSum wM_resultSum rM_resultSum D (qty cI cZ) (mw a cI cZ) S [.ref (a 0), .int x] (fun r S2 => qans x o (0) (S 6) r ∧ S2 = S) := by
  refine MetI.of (cc := bM_resultSum) (maxL := 2) (own := R_M) (by decide) rfl rfl (Nat.le_of_ble_eq_true rfl) (fun k hk hret => ?_)
  have hk : QK k bM_resultSum R_M 2 rM_resultSum l D (qty cI cZ) := hk
  show QV k (mw a cI cZ) S [(0, .ref (a 0)), (1, .int x)] 0 []
  refine qv_aload_n hk 0 rfl dM_resultSum_0 rfl ?_
  refine qv_iload_n hk 1 rfl dM_resultSum_1 rfl ?_
  refine callMI (As := [.int x]) (rest := []) hk (qm_noResult l D a cI cZ S o hO ho x) gM_noResult (by decide) rfl rfl (Nat.le_of_ble_eq_true rfl) dM_resultSum_2 (fun r2 S2 hw => ?_)
  obtain ⟨hw, e2⟩ := hw
  refine qv_state e2 ?_
  rcases hw with ⟨rfl, i, hi, rfl⟩ | ⟨rfl, hi⟩
  · refine qv_if_eq (tgt := 12) hk dM_resultSum_5 (by decide) (fun _ => ?_) (fun h => absurd h (by decide))
    refine qv_aload_n hk 0 rfl dM_resultSum_12 rfl ?_
    refine gM_resultSum hk dM_resultSum_13 ?_
    refine qv_iload_n hk 1 rfl dM_resultSum_16 rfl ?_
    refine aM_resultSum hk (by omega) dM_resultSum_17 ?_
    exact hret (S 6 i) S [(0, .ref (a 0)), (1, .int (nI i))] 18 (⟨Or.inr ⟨i, hi, rfl, rfl⟩, rfl⟩) rfl dM_resultSum_18
  · refine qv_if_eq (tgt := 12) hk dM_resultSum_5 (by decide) (fun h => absurd h (by decide)) (fun _ => ?_)
    refine qv_iconst (v := nI 0) hk dM_resultSum_8 (by decide) ?_
    refine qv_goto (tgt := 18) hk dM_resultSum_9 (by decide) ?_
    exact hret (nI 0) S [(0, .ref (a 0)), (1, .int x)] 18 (⟨Or.inl ⟨hi, rfl⟩, rfl⟩) rfl dM_resultSum_18

set_option maxHeartbeats 4000000 in
set_option maxRecDepth 100000 in
theorem qm_resultLeast (l : Launch) (D : va_G) (a : Nat → Nat) (cI cZ : ClassId) (S : QS) (o : Nat) (hO : S 9 0 = nI o) (ho : o ≤ 16) (x : Int32) : MetI l yM_resultLeast wM_resultLeast rM_resultLeast D (qty cI cZ) (mw a cI cZ) S [.ref (a 0), .int x] (fun r S2 => qans x o (0) (S 7) r ∧ S2 = S) := by
  refine MetI.of (cc := bM_resultLeast) (maxL := 2) (own := R_M) (by decide) rfl rfl (Nat.le_of_ble_eq_true rfl) (fun k hk hret => ?_)
  have hk : QK k bM_resultLeast R_M 2 rM_resultLeast l D (qty cI cZ) := hk
  show QV k (mw a cI cZ) S [(0, .ref (a 0)), (1, .int x)] 0 []
  refine qv_aload_n hk 0 rfl dM_resultLeast_0 rfl ?_
  refine qv_iload_n hk 1 rfl dM_resultLeast_1 rfl ?_
  refine callMI (As := [.int x]) (rest := []) hk (qm_noResult l D a cI cZ S o hO ho x) gM_noResult (by decide) rfl rfl (Nat.le_of_ble_eq_true rfl) dM_resultLeast_2 (fun r2 S2 hw => ?_)
  obtain ⟨hw, e2⟩ := hw
  refine qv_state e2 ?_
  rcases hw with ⟨rfl, i, hi, rfl⟩ | ⟨rfl, hi⟩
  · refine qv_if_eq (tgt := 12) hk dM_resultLeast_5 (by decide) (fun _ => ?_) (fun h => absurd h (by decide))
    refine qv_aload_n hk 0 rfl dM_resultLeast_12 rfl ?_
    refine gM_resultLeast hk dM_resultLeast_13 ?_
    refine qv_iload_n hk 1 rfl dM_resultLeast_16 rfl ?_
    refine aM_resultLeast hk (by omega) dM_resultLeast_17 ?_
    exact hret (S 7 i) S [(0, .ref (a 0)), (1, .int (nI i))] 18 (⟨Or.inr ⟨i, hi, rfl, rfl⟩, rfl⟩) rfl dM_resultLeast_18
  · refine qv_if_eq (tgt := 12) hk dM_resultLeast_5 (by decide) (fun h => absurd h (by decide)) (fun _ => ?_)
    refine qv_iconst (v := nI 0) hk dM_resultLeast_8 (by decide) ?_
    refine qv_goto (tgt := 18) hk dM_resultLeast_9 (by decide) ?_
    exact hret (nI 0) S [(0, .ref (a 0)), (1, .int x)] 18 (⟨Or.inl ⟨hi, rfl⟩, rfl⟩) rfl dM_resultLeast_18

set_option maxHeartbeats 4000000 in
set_option maxRecDepth 100000 in
theorem qm_resultGreatest (l : Launch) (D : va_G) (a : Nat → Nat) (cI cZ : ClassId) (S : QS) (o : Nat) (hO : S 9 0 = nI o) (ho : o ≤ 16) (x : Int32) : MetI l yM_resultGreatest wM_resultGreatest rM_resultGreatest D (qty cI cZ) (mw a cI cZ) S [.ref (a 0), .int x] (fun r S2 => qans x o (0) (S 8) r ∧ S2 = S) := by
  refine MetI.of (cc := bM_resultGreatest) (maxL := 2) (own := R_M) (by decide) rfl rfl (Nat.le_of_ble_eq_true rfl) (fun k hk hret => ?_)
  have hk : QK k bM_resultGreatest R_M 2 rM_resultGreatest l D (qty cI cZ) := hk
  show QV k (mw a cI cZ) S [(0, .ref (a 0)), (1, .int x)] 0 []
  refine qv_aload_n hk 0 rfl dM_resultGreatest_0 rfl ?_
  refine qv_iload_n hk 1 rfl dM_resultGreatest_1 rfl ?_
  refine callMI (As := [.int x]) (rest := []) hk (qm_noResult l D a cI cZ S o hO ho x) gM_noResult (by decide) rfl rfl (Nat.le_of_ble_eq_true rfl) dM_resultGreatest_2 (fun r2 S2 hw => ?_)
  obtain ⟨hw, e2⟩ := hw
  refine qv_state e2 ?_
  rcases hw with ⟨rfl, i, hi, rfl⟩ | ⟨rfl, hi⟩
  · refine qv_if_eq (tgt := 12) hk dM_resultGreatest_5 (by decide) (fun _ => ?_) (fun h => absurd h (by decide))
    refine qv_aload_n hk 0 rfl dM_resultGreatest_12 rfl ?_
    refine gM_resultGreatest hk dM_resultGreatest_13 ?_
    refine qv_iload_n hk 1 rfl dM_resultGreatest_16 rfl ?_
    refine aM_resultGreatest hk (by omega) dM_resultGreatest_17 ?_
    exact hret (S 8 i) S [(0, .ref (a 0)), (1, .int (nI i))] 18 (⟨Or.inr ⟨i, hi, rfl, rfl⟩, rfl⟩) rfl dM_resultGreatest_18
  · refine qv_if_eq (tgt := 12) hk dM_resultGreatest_5 (by decide) (fun h => absurd h (by decide)) (fun _ => ?_)
    refine qv_iconst (v := nI 0) hk dM_resultGreatest_8 (by decide) ?_
    refine qv_goto (tgt := 18) hk dM_resultGreatest_9 (by decide) ?_
    exact hret (nI 0) S [(0, .ref (a 0)), (1, .int x)] 18 (⟨Or.inl ⟨hi, rfl⟩, rfl⟩) rfl dM_resultGreatest_18

set_option maxHeartbeats 4000000 in
set_option maxRecDepth 100000 in
theorem qm_results (l : Launch) (D : va_G) (a : Nat → Nat) (cI cZ : ClassId) (S : QS) : MetI l yM_results wM_results rM_results D (qty cI cZ) (mw a cI cZ) S [.ref (a 0)] (fun r S2 => r = S 9 0 ∧ S2 = S) := by
  refine MetI.of (cc := bM_results) (maxL := 1) (own := R_M) (by decide) rfl rfl (Nat.le_of_ble_eq_true rfl) (fun k hk hret => ?_)
  have hk : QK k bM_results R_M 1 rM_results l D (qty cI cZ) := hk
  show QV k (mw a cI cZ) S [(0, .ref (a 0))] 0 []
  refine qv_aload_n hk 0 rfl dM_results_0 rfl ?_
  refine gM_results hk dM_results_1 ?_
  exact hret (S 9 0) S [(0, .ref (a 0))] 4 (⟨rfl, rfl⟩) rfl dM_results_4

set_option maxHeartbeats 4000000 in
set_option maxRecDepth 100000 in
theorem qm_finished (l : Launch) (D : va_G) (a : Nat → Nat) (cI cZ : ClassId) (S : QS) (q : Nat) (hq : q < 16) : MetI l yM_finished wM_finished rM_finished D (qty cI cZ) (mw a cI cZ) S [.ref (a 0), .int (nI q)] (fun r S2 => ((r = 1 ∧ (¬ S 3 q = 0 ∧ ¬ S 3 (16 + q) = 0)) ∨ (r = 0 ∧ ¬ (¬ S 3 q = 0 ∧ ¬ S 3 (16 + q) = 0))) ∧ S2 = S) := by
  refine MetI.of (cc := bM_finished) (maxL := 2) (own := R_M) (by decide) rfl rfl (Nat.le_of_ble_eq_true rfl) (fun k hk hret => ?_)
  have hk : QK k bM_finished R_M 2 rM_finished l D (qty cI cZ) := hk
  show QV k (mw a cI cZ) S [(0, .ref (a 0)), (1, .int (nI q))] 0 []
  refine qv_aload_n hk 0 rfl dM_finished_0 rfl ?_
  refine gM_shut hk dM_finished_1 ?_
  refine qv_iload_n hk 1 rfl dM_finished_4 rfl ?_
  refine aM_shut hk (by omega) dM_finished_5 ?_
  refine qv_if_eq (tgt := 25) hk dM_finished_6 (by decide) (fun h6 => ?_) (fun h6 => ?_)
  · refine qv_iconst (v := nI 0) hk dM_finished_25 (by decide) ?_
    exact hret (nI 0) S [(0, .ref (a 0)), (1, .int (nI q))] 26 (⟨Or.inr ⟨rfl, fun z => z.1 h6⟩, rfl⟩) rfl dM_finished_26
  · refine qv_aload_n hk 0 rfl dM_finished_9 rfl ?_
    refine gM_shut hk dM_finished_10 ?_
    refine qv_bipush (v := nI 16) hk dM_finished_13 (by decide) ?_
    refine qv_iload_n hk 1 rfl dM_finished_15 rfl ?_
    refine qn_iadd hk dM_finished_16 ?_
    refine aM_shut hk (by omega) dM_finished_17 ?_
    refine qv_if_eq (tgt := 25) hk dM_finished_18 (by decide) (fun h18 => ?_) (fun h18 => ?_)
    · refine qv_iconst (v := nI 0) hk dM_finished_25 (by decide) ?_
      exact hret (nI 0) S [(0, .ref (a 0)), (1, .int (nI q))] 26 (⟨Or.inr ⟨rfl, fun z => z.2 h18⟩, rfl⟩) rfl dM_finished_26
    · refine qv_iconst (v := nI 1) hk dM_finished_21 (by decide) ?_
      refine qv_goto (tgt := 26) hk dM_finished_22 (by decide) ?_
      exact hret (nI 1) S [(0, .ref (a 0)), (1, .int (nI q))] 26 (⟨Or.inl ⟨rfl, h6, h18⟩, rfl⟩) rfl dM_finished_26

set_option maxHeartbeats 4000000 in
set_option maxRecDepth 100000 in
theorem qm_bandDone (l : Launch) (D : va_G) (a : Nat → Nat) (cI cZ : ClassId) (S : QS) (g : Nat) (hg : g < 4) : MetI l yM_bandDone wM_bandDone rM_bandDone D (qty cI cZ) (mw a cI cZ) S [.ref (a 0), .int (nI g)] (fun r S2 => ((r = 1 ∧ bD (S 3) g = true) ∨ (r = 0 ∧ bD (S 3) g = false)) ∧ S2 = S) := by
  refine MetI.of (cc := bM_bandDone) (maxL := 3) (own := R_M) (by decide) rfl rfl (Nat.le_of_ble_eq_true rfl) (fun k hk hret => ?_)
  have hk : QK k bM_bandDone R_M 3 rM_bandDone l D (qty cI cZ) := hk
  show QV k (mw a cI cZ) S [(0, .ref (a 0)), (1, .int (nI g))] 0 []
  refine qv_iconst (v := nI 4) hk dM_bandDone_0 (by decide) ?_
  refine qv_iload_n hk 1 rfl dM_bandDone_1 rfl ?_
  refine qn_imul hk dM_bandDone_2 ?_
  refine qv_istore_n (lv' := [(2, .int (nI (4 * g))), (0, .ref (a 0)), (1, .int (nI g))]) hk dM_bandDone_3 rfl (by decide) rfl ?_
  have L4 : ∀ (n4 : Nat) (i : Nat), 4 - i < n4 → (i ≤ 4) → (∀ j, j < i → S 3 (4 * g + j) ≠ 0 ∧ S 3 (16 + (4 * g + j)) ≠ 0) → QV k (mw a cI cZ) (S) [(0, .ref (a 0)), (1, .int (nI g)), (2, .int (nI (4 * g + i)))] 4 [] := by
    intro n4
    induction n4 with
    | zero => intro i hm; exact absurd hm (Nat.not_lt_zero _)
    | succ n4 ih4 =>
      intro i hm4 hi hall
      refine qv_iload_n hk 2 rfl dM_bandDone_4 rfl ?_
      refine qv_iconst (v := nI 4) hk dM_bandDone_5 (by decide) ?_
      refine qv_iload_n hk 1 rfl dM_bandDone_6 rfl ?_
      refine qn_imul hk dM_bandDone_7 ?_
      refine qv_iconst (v := nI 4) hk dM_bandDone_8 (by decide) ?_
      refine qn_iadd hk dM_bandDone_9 ?_
      refine qn_icmp_ge (tgt := 29) hk (by omega) (by omega) dM_bandDone_10 (by decide) (fun h10 => ?_) (fun h10 => ?_)
      · refine qv_iconst (v := nI 1) hk dM_bandDone_29 (by decide) ?_
        exact hret (nI 1) S [(0, .ref (a 0)), (1, .int (nI g)), (2, .int (nI (4 * g + i)))] 30 (⟨Or.inl ⟨rfl, bD_iff.mpr (fun j hj => hall j (by omega))⟩, rfl⟩) rfl dM_bandDone_30
      · refine qv_aload_n hk 0 rfl dM_bandDone_13 rfl ?_
        refine qv_iload_n hk 2 rfl dM_bandDone_14 rfl ?_
        refine callMI (As := [.int (nI (4 * g + i))]) (rest := []) hk (qm_finished l D a cI cZ S (4 * g + i) (by omega)) gM_finished (by decide) rfl rfl (Nat.le_of_ble_eq_true rfl) dM_bandDone_15 (fun r15 S15 hw => ?_)
        obtain ⟨hw, e2⟩ := hw
        refine qv_state e2 ?_
        rcases hw with ⟨rfl, hf⟩ | ⟨rfl, hf⟩
        · refine qv_if_ne (tgt := 23) hk dM_bandDone_18 (by decide) (fun _ => ?_) (fun h => absurd h (by decide))
          refine qv_iinc (v := nI ((4 * g + i) + 1)) (lv' := [(2, .int (nI ((4 * g + i) + 1))), (0, .ref (a 0)), (1, .int (nI g))]) hk 2 rfl dM_bandDone_23 (qn_inc _) (by decide) rfl ?_
          refine qv_goto (tgt := 4) hk dM_bandDone_26 (by decide) ?_
          refine qv_sub [1, 2, 0] rfl ?_
          exact ih4 (i + 1) (by omega) (by omega) (lt_s hall hf)
        · refine qv_if_ne (tgt := 23) hk dM_bandDone_18 (by decide) (fun h => absurd h (by decide)) (fun _ => ?_)
          refine qv_iconst (v := nI 0) hk dM_bandDone_21 (by decide) ?_
          exact hret (nI 0) S [(0, .ref (a 0)), (1, .int (nI g)), (2, .int (nI (4 * g + i)))] 22 (⟨Or.inr ⟨rfl, by cases hb : bD (S 3) g with | false => rfl | true => exact absurd (bD_iff.mp hb i (by omega)) hf⟩, rfl⟩) rfl dM_bandDone_22
  refine qv_sub [1, 2, 0] rfl ?_
  exact L4 _ 0 (Nat.lt_succ_self _) (by omega) lt_0

set_option maxHeartbeats 4000000 in
set_option maxRecDepth 100000 in
theorem qm_bandsFinished (l : Launch) (D : va_G) (a : Nat → Nat) (cI cZ : ClassId) (S : QS) : MetI l yM_bandsFinished wM_bandsFinished rM_bandsFinished D (qty cI cZ) (mw a cI cZ) S [.ref (a 0)] (fun r S2 => r = nI (bC (S 3) 4) ∧ S2 = S) := by
  refine MetI.of (cc := bM_bandsFinished) (maxL := 3) (own := R_M) (by decide) rfl rfl (Nat.le_of_ble_eq_true rfl) (fun k hk hret => ?_)
  have hk : QK k bM_bandsFinished R_M 3 rM_bandsFinished l D (qty cI cZ) := hk
  show QV k (mw a cI cZ) S [(0, .ref (a 0))] 0 []
  refine qv_iconst (v := nI 0) hk dM_bandsFinished_0 (by decide) ?_
  refine qv_istore_n (lv' := [(1, .int (nI 0)), (0, .ref (a 0))]) hk dM_bandsFinished_1 rfl (by decide) rfl ?_
  refine qv_iconst (v := nI 0) hk dM_bandsFinished_2 (by decide) ?_
  refine qv_istore_n (lv' := [(2, .int (nI 0)), (1, .int (nI 0)), (0, .ref (a 0))]) hk dM_bandsFinished_3 rfl (by decide) rfl ?_
  have L4 : ∀ (n4 : Nat) (g : Nat) (b : Nat), 4 - g < n4 → (g ≤ 4) → (b = bC (S 3) g) → QV k (mw a cI cZ) (S) [(0, .ref (a 0)), (1, .int (nI b)), (2, .int (nI g))] 4 [] := by
    intro n4
    induction n4 with
    | zero => intro g b hm; exact absurd hm (Nat.not_lt_zero _)
    | succ n4 ih4 =>
      intro g b hm4 hg hb
      refine qv_iload_n hk 2 rfl dM_bandsFinished_4 rfl ?_
      refine qv_iconst (v := nI 4) hk dM_bandsFinished_5 (by decide) ?_
      refine qn_icmp_ge (tgt := 26) hk (by omega) (by omega) dM_bandsFinished_6 (by decide) (fun h6 => ?_) (fun h6 => ?_)
      · refine qv_iload_n hk 1 rfl dM_bandsFinished_26 rfl ?_
        exact hret (nI b) S [(0, .ref (a 0)), (1, .int (nI b)), (2, .int (nI g))] 27 (⟨by rw [hb, show g = 4 by omega], rfl⟩) rfl dM_bandsFinished_27
      · refine qv_aload_n hk 0 rfl dM_bandsFinished_9 rfl ?_
        refine qv_iload_n hk 2 rfl dM_bandsFinished_10 rfl ?_
        refine callMI (As := [.int (nI g)]) (rest := []) hk (qm_bandDone l D a cI cZ S g (by omega)) gM_bandDone (by decide) rfl rfl (Nat.le_of_ble_eq_true rfl) dM_bandsFinished_11 (fun r11 S11 hw => ?_)
        obtain ⟨hw, e2⟩ := hw
        refine qv_state e2 ?_
        rcases hw with ⟨rfl, hc⟩ | ⟨rfl, hc⟩
        · refine qv_if_eq (tgt := 20) hk dM_bandsFinished_14 (by decide) (fun h => absurd h (by decide)) (fun _ => ?_)
          refine qv_iinc (v := nI (b + 1)) (lv' := [(1, .int (nI (b + 1))), (0, .ref (a 0)), (2, .int (nI g))]) hk 1 rfl dM_bandsFinished_17 (qn_inc _) (by decide) rfl ?_
          refine qv_iinc (v := nI (g + 1)) (lv' := [(2, .int (nI (g + 1))), (1, .int (nI (b + 1))), (0, .ref (a 0))]) hk 2 rfl dM_bandsFinished_20 (qn_inc _) (by decide) rfl ?_
          refine qv_goto (tgt := 4) hk dM_bandsFinished_23 (by decide) ?_
          refine qv_sub [2, 1, 0] rfl ?_
          exact ih4 (g + 1) ((b + 1)) (by omega) (by omega) (by simp [bC, hc, hb])
        · refine qv_if_eq (tgt := 20) hk dM_bandsFinished_14 (by decide) (fun _ => ?_) (fun h => absurd h (by decide))
          refine qv_iinc (v := nI (g + 1)) (lv' := [(2, .int (nI (g + 1))), (0, .ref (a 0)), (1, .int (nI b))]) hk 2 rfl dM_bandsFinished_20 (qn_inc _) (by decide) rfl ?_
          refine qv_goto (tgt := 4) hk dM_bandsFinished_23 (by decide) ?_
          refine qv_sub [1, 2, 0] rfl ?_
          exact ih4 (g + 1) b (by omega) (by omega) (by simp [bC, hc, hb])
  refine qv_sub [2, 1, 0] rfl ?_
  exact L4 _ 0 0 (Nat.lt_succ_self _) (by omega) rfl

set_option maxHeartbeats 4000000 in
set_option maxRecDepth 100000 in
theorem qm_bandSum (l : Launch) (D : va_G) (a : Nat → Nat) (cI cZ : ClassId) (S : QS) (R : List QE) (hR : outR (S 9 0) (S 4) (S 5) (S 6) (S 7) (S 8) R) (x : Int32) : MetI l yM_bandSum wM_bandSum rM_bandSum D (qty cI cZ) (mw a cI cZ) S [.ref (a 0), .int x] (fun r S2 => qans x 4 (-1000000) (fun g => if bD (S 3) g = true then bS g R else -2000000) r ∧ S2 = S) := by
  refine MetI.of (cc := bM_bandSum) (maxL := 4) (own := R_M) (by decide) rfl rfl (Nat.le_of_ble_eq_true rfl) (fun k hk hret => ?_)
  have hk : QK k bM_bandSum R_M 4 rM_bandSum l D (qty cI cZ) := hk
  have hO := hR.1
  have h16 := hR.2.1
  show QV k (mw a cI cZ) S [(0, .ref (a 0)), (1, .int x)] 0 []
  refine qv_iload_n hk 1 rfl dM_bandSum_0 rfl ?_
  refine qv_if_lt (tgt := 9) hk dM_bandSum_1 (by decide) (fun h1 => ?_) (fun h1 => ?_)
  · refine qv_ldc hk k_cn_M_84 dM_bandSum_9 ?_
    exact hret ((-1000000)) S [(0, .ref (a 0)), (1, .int x)] 11 (⟨Or.inl ⟨isN_lt (by decide) h1, rfl⟩, rfl⟩) rfl dM_bandSum_11
  · refine qv_iload_n hk 1 rfl dM_bandSum_4 rfl ?_
    refine qv_iconst (v := nI 3) hk dM_bandSum_5 (by decide) ?_
    refine qv_icmp_le (tgt := 12) hk dM_bandSum_6 (by decide) (fun h6 => ?_) (fun h6 => ?_)
    · obtain ⟨g, hg, rfl⟩ : isN x 4 := isN_le (by omega) h1 h6
      refine qv_aload_n hk 0 rfl dM_bandSum_12 rfl ?_
      refine qv_iload_n hk 1 rfl dM_bandSum_13 rfl ?_
      refine callMI (As := [.int (nI g)]) (rest := []) hk (qm_bandDone l D a cI cZ S g hg) gM_bandDone (by decide) rfl rfl (Nat.le_of_ble_eq_true rfl) dM_bandSum_14 (fun r14 S14 hw => ?_)
      obtain ⟨hw, e2⟩ := hw
      refine qv_state e2 ?_
      rcases hw with ⟨rfl, hc⟩ | ⟨rfl, hc⟩
      · refine qv_if_ne (tgt := 23) hk dM_bandSum_17 (by decide) (fun _ => ?_) (fun h => absurd h (by decide))
        refine qv_iconst (v := nI 0) hk dM_bandSum_23 (by decide) ?_
        refine qv_istore_n (lv' := [(2, .int (nI 0)), (0, .ref (a 0)), (1, .int (nI g))]) hk dM_bandSum_24 rfl (by decide) rfl ?_
        refine qv_iconst (v := nI 0) hk dM_bandSum_25 (by decide) ?_
        refine qv_istore_n (lv' := [(3, .int (nI 0)), (2, .int (nI 0)), (0, .ref (a 0)), (1, .int (nI g))]) hk dM_bandSum_26 rfl (by decide) rfl ?_
        have L27 : ∀ (n27 : Nat) (i : Nat) (s : Int32), R.length - i < n27 → (i ≤ R.length) → (s = bS g (R.take i)) → QV k (mw a cI cZ) (S) [(0, .ref (a 0)), (1, .int (nI g)), (2, .int s), (3, .int (nI i))] 27 [] := by
          intro n27
          induction n27 with
          | zero => intro i s hm; exact absurd hm (Nat.not_lt_zero _)
          | succ n27 ih27 =>
            intro i s hm27 hi hs
            refine qv_iload_n hk 3 rfl dM_bandSum_27 rfl ?_
            refine qv_aload_n hk 0 rfl dM_bandSum_28 rfl ?_
            refine gM_results hk dM_bandSum_29 ?_
            refine qv_top (y := nI R.length) (hO) ?_
            refine qn_icmp_ge (tgt := 68) hk (by omega) (by omega) dM_bandSum_32 (by decide) (fun h32 => ?_) (fun h32 => ?_)
            · refine qv_iload_n hk 2 rfl dM_bandSum_68 rfl ?_
              exact hret s S [(0, .ref (a 0)), (1, .int (nI g)), (2, .int s), (3, .int (nI i))] 69 (⟨Or.inr ⟨g, hg, rfl, by dsimp only; rw [if_pos hc, hs, show i = R.length by omega, List.take_length]⟩, rfl⟩) rfl dM_bandSum_69
            · refine qv_iload_n hk 3 rfl dM_bandSum_35 rfl ?_
              refine qv_bipush (v := nI 16) hk dM_bandSum_36 (by decide) ?_
              refine qn_icmp_ge (tgt := 68) hk (by omega) (by omega) dM_bandSum_38 (by decide) (fun h38 => by exfalso; omega) (fun h38 => ?_)
              obtain ⟨e, he⟩ := getq (L := R) (i := i) (by omega)
              have hlt := hR.2.2 i e he
              refine qv_aload_n hk 0 rfl dM_bandSum_41 rfl ?_
              refine gM_resultKey hk dM_bandSum_42 ?_
              refine qv_iload_n hk 3 rfl dM_bandSum_45 rfl ?_
              refine aM_resultKey hk (by omega) dM_bandSum_46 ?_
              refine qv_top (y := nI e.1) (hlt.2.1) ?_
              refine qv_iconst (v := nI 4) hk dM_bandSum_47 (by decide) ?_
              refine qv_idiv hk (by decide) dM_bandSum_48 ?_
              refine qv_top (y := nI (e.1 / 4)) (pk_div (by omega) (by omega) (by omega)) ?_
              refine qv_iload_n hk 1 rfl dM_bandSum_49 rfl ?_
              refine qn_icmp_ne (tgt := 62) hk (by omega) (by omega) dM_bandSum_50 (by decide) (fun h50 => ?_) (fun h50 => ?_)
              · refine qv_iinc (v := nI (i + 1)) (lv' := [(3, .int (nI (i + 1))), (0, .ref (a 0)), (1, .int (nI g)), (2, .int s)]) hk 3 rfl dM_bandSum_62 (qn_inc _) (by decide) rfl ?_
                refine qv_goto (tgt := 27) hk dM_bandSum_65 (by decide) ?_
                refine qv_sub [1, 2, 3, 0] rfl ?_
                exact ih27 (i + 1) s (by omega) (by omega) (by rw [tk he, bS_snoc, if_neg h50, hs])
              · refine qv_iload_n hk 2 rfl dM_bandSum_53 rfl ?_
                refine qv_aload_n hk 0 rfl dM_bandSum_54 rfl ?_
                refine gM_resultSum hk dM_bandSum_55 ?_
                refine qv_iload_n hk 3 rfl dM_bandSum_58 rfl ?_
                refine aM_resultSum hk (by omega) dM_bandSum_59 ?_
                refine qv_top (y := e.2.2.1) (hlt.2.2.2.1) ?_
                refine qv_iadd hk dM_bandSum_60 ?_
                refine qv_istore_n (lv' := [(2, .int (s + e.2.2.1)), (0, .ref (a 0)), (1, .int (nI g)), (3, .int (nI i))]) hk dM_bandSum_61 rfl (by decide) rfl ?_
                refine qv_iinc (v := nI (i + 1)) (lv' := [(3, .int (nI (i + 1))), (2, .int (s + e.2.2.1)), (0, .ref (a 0)), (1, .int (nI g))]) hk 3 rfl dM_bandSum_62 (qn_inc _) (by decide) rfl ?_
                refine qv_goto (tgt := 27) hk dM_bandSum_65 (by decide) ?_
                refine qv_sub [2, 3, 1, 0] rfl ?_
                exact ih27 (i + 1) ((s + e.2.2.1)) (by omega) (by omega) (by rw [tk he, bS_snoc, if_pos h50, hs])
        refine qv_sub [2, 3, 1, 0] rfl ?_
        exact L27 _ 0 (nI 0) (Nat.lt_succ_self _) (Nat.zero_le _) rfl
      · refine qv_if_ne (tgt := 23) hk dM_bandSum_17 (by decide) (fun h => absurd h (by decide)) (fun _ => ?_)
        refine qv_ldc hk k_cn_M_85 dM_bandSum_20 ?_
        exact hret ((-2000000)) S [(0, .ref (a 0)), (1, .int (nI g))] 22 (⟨Or.inr ⟨g, hg, rfl, (if_neg (by rw [hc]; decide)).symm⟩, rfl⟩) rfl dM_bandSum_22
    · refine qv_ldc hk k_cn_M_84 dM_bandSum_9 ?_
      exact hret ((-1000000)) S [(0, .ref (a 0)), (1, .int x)] 11 (⟨Or.inl ⟨isN_gt (by decide) h6, rfl⟩, rfl⟩) rfl dM_bandSum_11
end
section
set_option maxHeartbeats 4000000 in
set_option maxRecDepth 100000 in
theorem qm_look (l : Launch) (D : va_G) (a : Nat → Nat) (cI cZ : ClassId) (S : QS) (L : QL) (hL : MR S L) (q : Nat) (hq : q < 16) : MetN l yM_look wM_look rM_look D (qty cI cZ) (mw a cI cZ) S [.ref (a 0), .int (nI q)] (fun S2 => lk S2 S (pl q (L 0) (L 1))) := by
  refine MetN.of (cc := bM_look) (maxL := 5) (own := R_M) (by decide) rfl rfl (Nat.le_of_ble_eq_true rfl) (fun k hk hret => ?_)
  have hk : QK k bM_look R_M 5 rM_look l D (qty cI cZ) := hk
  have h0 := hL 0 (by omega)
  have h1 := hL 1 (by omega)
  have z0 := h0.1
  have z1 := h1.1
  show QV k (mw a cI cZ) S [(0, .ref (a 0)), (1, .int (nI q))] 0 []
  refine qv_aload_n hk 0 rfl dM_look_0 rfl ?_
  refine qv_iconst (v := nI 0) hk dM_look_1 (by decide) ?_
  refine pM_pairs hk dM_look_2 ?_
  refine qv_aload_n hk 0 rfl dM_look_5 rfl ?_
  refine qv_iconst (v := nI 0) hk dM_look_6 (by decide) ?_
  refine pM_sum hk dM_look_7 ?_
  refine qv_aload_n hk 0 rfl dM_look_10 rfl ?_
  refine qv_sipush (v := nI 10000) hk dM_look_11 (by decide) ?_
  refine pM_least hk dM_look_14 ?_
  refine qv_aload_n hk 0 rfl dM_look_17 rfl ?_
  refine qv_sipush (v := -10000) hk dM_look_18 (by decide) ?_
  refine pM_greatest hk dM_look_21 ?_
  refine qv_iconst (v := nI 0) hk dM_look_24 (by decide) ?_
  refine qv_istore_n (lv' := [(2, .int (nI 0)), (0, .ref (a 0)), (1, .int (nI q))]) hk dM_look_25 rfl (by decide) rfl ?_
  have L26 : ∀ (n26 : Nat) (i : Nat) (S1 : QS), (L 0).length - i < n26 → (i ≤ (L 0).length) → (lk S1 S (pl q ((L 0).take i) (L 1))) → QV k (mw a cI cZ) (S1) [(0, .ref (a 0)), (1, .int (nI q)), (2, .int (nI i))] 26 [] := by
    intro n26
    induction n26 with
    | zero => intro i S1 hm; exact absurd hm (Nat.not_lt_zero _)
    | succ n26 ih26 =>
      intro i S1 hm26 hi hP
      refine qv_iload_n hk 2 rfl dM_look_26 rfl ?_
      refine qv_aload_n hk 0 rfl dM_look_27 rfl ?_
      refine gM_count hk dM_look_28 ?_
      refine qv_iconst (v := nI 0) hk dM_look_31 (by decide) ?_
      refine aM_count hk (by omega) dM_look_32 ?_
      refine qv_top (y := nI ((L 0).length)) ((congrFun (hP.1.1 0 (by decide)) 0).trans h0.2.1) ?_
      refine qn_icmp_ge (tgt := 164) hk (by omega) (by omega) dM_look_33 (by decide) (fun h33 => ?_) (fun h33 => ?_)
      · exact hret S1 [(0, .ref (a 0)), (1, .int (nI q)), (2, .int (nI i))] 164 (by rw [show i = (L 0).length by omega, List.take_length] at hP; exact hP) dM_look_164
      · refine qv_iload_n hk 2 rfl dM_look_36 rfl ?_
        refine qv_bipush (v := nI 40) hk dM_look_37 (by decide) ?_
        refine qn_icmp_ge (tgt := 164) hk (by omega) (by omega) dM_look_39 (by decide) (fun h39 => by exfalso; omega) (fun h39 => ?_)
        obtain ⟨t, ht⟩ := getq (L := L 0) (i := i) (by omega)
        have hlt := h0.2.2.1 i t ht
        have hlt1 : S 1 i = nI t.1 := by simpa using hlt.1
        have hlt2 : S 2 i = t.2 := by simpa using hlt.2
        have ht16 := (h0.2.2.2 t (List.mem_of_getElem? ht)).1
        refine qv_iconst (v := nI 0) hk dM_look_42 (by decide) ?_
        refine qv_istore_n (lv' := [(3, .int (nI 0)), (0, .ref (a 0)), (1, .int (nI q)), (2, .int (nI i))]) hk dM_look_43 rfl (by decide) rfl ?_
        have L44 : ∀ (n44 : Nat) (j : Nat) (S2 : QS) (P : List Int32), (L 1).length - j < n44 → (j ≤ (L 1).length) → (lk S2 S P) → (P = pl q ((L 0).take i) (L 1) ++ pl1 q t ((L 1).take j)) → QV k (mw a cI cZ) (S2) [(0, .ref (a 0)), (1, .int (nI q)), (2, .int (nI i)), (3, .int (nI j))] 44 [] := by
          intro n44
          induction n44 with
          | zero => intro j S2 P hm; exact absurd hm (Nat.not_lt_zero _)
          | succ n44 ih44 =>
            intro j S2 P hm44 hj hQ hPe
            refine qv_iload_n hk 3 rfl dM_look_44 rfl ?_
            refine qv_aload_n hk 0 rfl dM_look_45 rfl ?_
            refine gM_count hk dM_look_46 ?_
            refine qv_iconst (v := nI 1) hk dM_look_49 (by decide) ?_
            refine aM_count hk (by omega) dM_look_50 ?_
            refine qv_top (y := nI ((L 1).length)) ((congrFun (hQ.1.1 0 (by decide)) 1).trans h1.2.1) ?_
            refine qn_icmp_ge (tgt := 158) hk (by omega) (by omega) dM_look_51 (by decide) (fun h51 => ?_) (fun h51 => ?_)
            · refine qv_iinc (v := nI (i + 1)) (lv' := [(2, .int (nI (i + 1))), (0, .ref (a 0)), (1, .int (nI q)), (3, .int (nI j))]) hk 2 rfl dM_look_158 (qn_inc _) (by decide) rfl ?_
              refine qv_goto (tgt := 26) hk dM_look_161 (by decide) ?_
              refine qv_sub [1, 2, 0] rfl ?_
              exact ih26 (i + 1) S2 (by omega) (by omega) (by rw [tk ht, pl_snoc]; rw [hPe, show j = (L 1).length by omega, List.take_length] at hQ; exact hQ)
            · refine qv_iload_n hk 3 rfl dM_look_54 rfl ?_
              refine qv_bipush (v := nI 40) hk dM_look_55 (by decide) ?_
              refine qn_icmp_ge (tgt := 158) hk (by omega) (by omega) dM_look_57 (by decide) (fun h57 => by exfalso; omega) (fun h57 => ?_)
              obtain ⟨u, hu⟩ := getq (L := L 1) (i := j) (by omega)
              have hlu := h1.2.2.1 j u hu
              have hlu1 : S 1 (40 + j) = nI u.1 := by simpa using hlu.1
              have hlu2 : S 2 (40 + j) = u.2 := by simpa using hlu.2
              have hu16 := (h1.2.2.2 u (List.mem_of_getElem? hu)).1
              refine qv_aload_n hk 0 rfl dM_look_60 rfl ?_
              refine gM_key hk dM_look_61 ?_
              refine qv_iload_n hk 2 rfl dM_look_64 rfl ?_
              refine aM_key hk (by omega) dM_look_65 ?_
              refine qv_top (y := nI t.1) ((congrFun (hQ.1.1 1 (by decide)) i).trans hlt1) ?_
              refine qv_iload_n hk 1 rfl dM_look_66 rfl ?_
              refine qn_icmp_ne (tgt := 152) hk (by omega) (by omega) dM_look_67 (by decide) (fun h67 => ?_) (fun h67 => ?_)
              · refine qv_iinc (v := nI (j + 1)) (lv' := [(3, .int (nI (j + 1))), (0, .ref (a 0)), (1, .int (nI q)), (2, .int (nI i))]) hk 3 rfl dM_look_152 (qn_inc _) (by decide) rfl ?_
                refine qv_goto (tgt := 44) hk dM_look_155 (by decide) ?_
                refine qv_sub [1, 2, 3, 0] rfl ?_
                exact ih44 (j + 1) S2 P (by omega) (by omega) hQ (by rw [tk hu, pl1_snoc, if_neg (fun z => h67 z.1), List.append_nil, ← hPe])
              · refine qv_aload_n hk 0 rfl dM_look_70 rfl ?_
                refine gM_key hk dM_look_71 ?_
                refine qv_bipush (v := nI 40) hk dM_look_74 (by decide) ?_
                refine qv_iload_n hk 3 rfl dM_look_76 rfl ?_
                refine qn_iadd hk dM_look_77 ?_
                refine aM_key hk (by omega) dM_look_78 ?_
                refine qv_top (y := nI u.1) ((congrFun (hQ.1.1 1 (by decide)) (40 + j)).trans hlu1) ?_
                refine qv_iload_n hk 1 rfl dM_look_79 rfl ?_
                refine qn_icmp_ne (tgt := 152) hk (by omega) (by omega) dM_look_80 (by decide) (fun h80 => ?_) (fun h80 => ?_)
                · refine qv_iinc (v := nI (j + 1)) (lv' := [(3, .int (nI (j + 1))), (0, .ref (a 0)), (1, .int (nI q)), (2, .int (nI i))]) hk 3 rfl dM_look_152 (qn_inc _) (by decide) rfl ?_
                  refine qv_goto (tgt := 44) hk dM_look_155 (by decide) ?_
                  refine qv_sub [1, 2, 3, 0] rfl ?_
                  exact ih44 (j + 1) S2 P (by omega) (by omega) hQ (by rw [tk hu, pl1_snoc, if_neg (fun z => h80 z.2), List.append_nil, ← hPe])
                · refine qv_aload_n hk 0 rfl dM_look_83 rfl ?_
                  refine gM_value hk dM_look_84 ?_
                  refine qv_iload_n hk 2 rfl dM_look_87 rfl ?_
                  refine aM_value hk (by omega) dM_look_88 ?_
                  refine qv_top (y := t.2) ((congrFun (hQ.1.1 2 (by decide)) i).trans hlt2) ?_
                  refine qv_aload_n hk 0 rfl dM_look_89 rfl ?_
                  refine gM_value hk dM_look_90 ?_
                  refine qv_bipush (v := nI 40) hk dM_look_93 (by decide) ?_
                  refine qv_iload_n hk 3 rfl dM_look_95 rfl ?_
                  refine qn_iadd hk dM_look_96 ?_
                  refine aM_value hk (by omega) dM_look_97 ?_
                  refine qv_top (y := u.2) ((congrFun (hQ.1.1 2 (by decide)) (40 + j)).trans hlu2) ?_
                  refine qv_imul hk dM_look_98 ?_
                  refine qv_istore (lv' := [(4, .int (t.2 * u.2)), (0, .ref (a 0)), (1, .int (nI q)), (2, .int (nI i)), (3, .int (nI j))]) hk dM_look_99 (by decide) rfl ?_
                  refine qv_aload_n hk 1 rfl dM_look_101 rfl ?_
                  refine qv_dup hk dM_look_102 rfl ?_
                  refine gM_pairs hk dM_look_103 ?_
                  refine qv_top (y := nI P.length) (hQ.2.1) ?_
                  refine qv_iconst (v := nI 1) hk dM_look_106 (by decide) ?_
                  refine qn_iadd hk dM_look_107 ?_
                  refine pM_pairs hk dM_look_108 ?_
                  refine qv_aload_n hk 1 rfl dM_look_111 rfl ?_
                  refine qv_dup hk dM_look_112 rfl ?_
                  refine gM_sum hk dM_look_113 ?_
                  refine qv_top (y := smF P) (hQ.2.2.1) ?_
                  refine qv_iload hk 0 rfl dM_look_116 ?_
                  refine qv_iadd hk dM_look_118 ?_
                  refine pM_sum hk dM_look_119 ?_
                  refine qv_iload hk 0 rfl dM_look_122 ?_
                  refine qv_aload_n hk 1 rfl dM_look_124 rfl ?_
                  refine gM_least hk dM_look_125 ?_
                  refine qv_top (y := P.foldl mn 10000) (hQ.2.2.2.1) ?_
                  refine qv_icmp_ge (tgt := 137) hk dM_look_128 (by decide) (fun h128 => ?_) (fun h128 => ?_)
                  · refine qv_iload hk 0 rfl dM_look_137 ?_
                    refine qv_aload_n hk 1 rfl dM_look_139 rfl ?_
                    refine gM_greatest hk dM_look_140 ?_
                    refine qv_top (y := P.foldl mx (-10000)) (hQ.2.2.2.2) ?_
                    refine qv_icmp_le (tgt := 152) hk dM_look_143 (by decide) (fun h143 => ?_) (fun h143 => ?_)
                    · refine qv_iinc (v := nI (j + 1)) (lv' := [(3, .int (nI (j + 1))), (4, .int (t.2 * u.2)), (0, .ref (a 0)), (1, .int (nI q)), (2, .int (nI i))]) hk 4 rfl dM_look_152 (qn_inc _) (by decide) rfl ?_
                      refine qv_goto (tgt := 44) hk dM_look_155 (by decide) ?_
                      refine qv_sub [2, 3, 4, 0] rfl ?_
                      exact ih44 (j + 1) ((up2 (up2 S2 9 1 (nI (P.length + 1))) 9 2 ((smF P) + (t.2 * u.2)))) (P ++ [t.2 * u.2]) (by omega) (by omega) (lk_add hQ (fun c hc => by simp only [up2, if_neg hc]) rfl rfl rfl (hQ.2.2.2.1.trans (if_neg (fun z => absurd h128 (Int32.not_le.mpr z))).symm) (hQ.2.2.2.2.trans (if_neg (fun z => absurd h143 (Int32.not_le.mpr z))).symm)) (by rw [tk hu, pl1_snoc, if_pos ⟨h67, h80⟩, ← List.append_assoc, ← hPe])
                    · refine qv_aload_n hk 1 rfl dM_look_146 rfl ?_
                      refine qv_iload hk 0 rfl dM_look_147 ?_
                      refine pM_greatest hk dM_look_149 ?_
                      refine qv_iinc (v := nI (j + 1)) (lv' := [(3, .int (nI (j + 1))), (4, .int (t.2 * u.2)), (0, .ref (a 0)), (1, .int (nI q)), (2, .int (nI i))]) hk 4 rfl dM_look_152 (qn_inc _) (by decide) rfl ?_
                      refine qv_goto (tgt := 44) hk dM_look_155 (by decide) ?_
                      refine qv_sub [2, 3, 4, 0] rfl ?_
                      exact ih44 (j + 1) ((up2 (up2 (up2 S2 9 1 (nI (P.length + 1))) 9 2 ((smF P) + (t.2 * u.2))) 9 4 (t.2 * u.2))) (P ++ [t.2 * u.2]) (by omega) (by omega) (lk_add hQ (fun c hc => by simp only [up2, if_neg hc]) rfl rfl rfl (hQ.2.2.2.1.trans (if_neg (fun z => absurd h128 (Int32.not_le.mpr z))).symm) (if_pos (Int32.not_le.mp h143)).symm) (by rw [tk hu, pl1_snoc, if_pos ⟨h67, h80⟩, ← List.append_assoc, ← hPe])
                  · refine qv_aload_n hk 1 rfl dM_look_131 rfl ?_
                    refine qv_iload hk 0 rfl dM_look_132 ?_
                    refine pM_least hk dM_look_134 ?_
                    refine qv_iload hk 0 rfl dM_look_137 ?_
                    refine qv_aload_n hk 1 rfl dM_look_139 rfl ?_
                    refine gM_greatest hk dM_look_140 ?_
                    refine qv_top (y := P.foldl mx (-10000)) (hQ.2.2.2.2) ?_
                    refine qv_icmp_le (tgt := 152) hk dM_look_143 (by decide) (fun h143 => ?_) (fun h143 => ?_)
                    · refine qv_iinc (v := nI (j + 1)) (lv' := [(3, .int (nI (j + 1))), (4, .int (t.2 * u.2)), (0, .ref (a 0)), (1, .int (nI q)), (2, .int (nI i))]) hk 4 rfl dM_look_152 (qn_inc _) (by decide) rfl ?_
                      refine qv_goto (tgt := 44) hk dM_look_155 (by decide) ?_
                      refine qv_sub [2, 3, 4, 0] rfl ?_
                      exact ih44 (j + 1) ((up2 (up2 (up2 S2 9 1 (nI (P.length + 1))) 9 2 ((smF P) + (t.2 * u.2))) 9 3 (t.2 * u.2))) (P ++ [t.2 * u.2]) (by omega) (by omega) (lk_add hQ (fun c hc => by simp only [up2, if_neg hc]) rfl rfl rfl (if_pos (Int32.not_le.mp h128)).symm (hQ.2.2.2.2.trans (if_neg (fun z => absurd h143 (Int32.not_le.mpr z))).symm)) (by rw [tk hu, pl1_snoc, if_pos ⟨h67, h80⟩, ← List.append_assoc, ← hPe])
                    · refine qv_aload_n hk 1 rfl dM_look_146 rfl ?_
                      refine qv_iload hk 0 rfl dM_look_147 ?_
                      refine pM_greatest hk dM_look_149 ?_
                      refine qv_iinc (v := nI (j + 1)) (lv' := [(3, .int (nI (j + 1))), (4, .int (t.2 * u.2)), (0, .ref (a 0)), (1, .int (nI q)), (2, .int (nI i))]) hk 4 rfl dM_look_152 (qn_inc _) (by decide) rfl ?_
                      refine qv_goto (tgt := 44) hk dM_look_155 (by decide) ?_
                      refine qv_sub [2, 3, 4, 0] rfl ?_
                      exact ih44 (j + 1) ((up2 (up2 (up2 (up2 S2 9 1 (nI (P.length + 1))) 9 2 ((smF P) + (t.2 * u.2))) 9 3 (t.2 * u.2)) 9 4 (t.2 * u.2))) (P ++ [t.2 * u.2]) (by omega) (by omega) (lk_add hQ (fun c hc => by simp only [up2, if_neg hc]) rfl rfl rfl (if_pos (Int32.not_le.mp h128)).symm (if_pos (Int32.not_le.mp h143)).symm) (by rw [tk hu, pl1_snoc, if_pos ⟨h67, h80⟩, ← List.append_assoc, ← hPe])
        refine qv_sub [1, 2, 3, 0] rfl ?_
        exact L44 _ 0 S1 (pl q ((L 0).take i) (L 1)) (Nat.lt_succ_self _) (Nat.zero_le _) hP (by rw [List.take_zero, pl1_nil, List.append_nil])
  refine qv_sub [1, 2, 0] rfl ?_
  exact L26 _ 0 ((up2 (up2 (up2 (up2 S 9 1 (nI 0)) 9 2 (nI 0)) 9 3 (nI 10000)) 9 4 ((-10000)))) (Nat.lt_succ_self _) (Nat.zero_le _) (lk_0 S)

set_option maxHeartbeats 4000000 in
set_option maxRecDepth 100000 in
theorem qm_pairs (l : Launch) (D : va_G) (a : Nat → Nat) (cI cZ : ClassId) (S : QS) (L : QL) (hL : MR S L) (x : Int32) : MetI l yM_pairs wM_pairs rM_pairs D (qty cI cZ) (mw a cI cZ) S [.ref (a 0), .int x] (fun r S2 => qans x 16 (-1) (fun q => nI (cK q (L 0) * cK q (L 1))) r ∧ sameM S2 S) := by
  refine MetI.of (cc := bM_pairs) (maxL := 2) (own := R_M) (by decide) rfl rfl (Nat.le_of_ble_eq_true rfl) (fun k hk hret => ?_)
  have hk : QK k bM_pairs R_M 2 rM_pairs l D (qty cI cZ) := hk
  show QV k (mw a cI cZ) S [(0, .ref (a 0)), (1, .int x)] 0 []
  refine qv_aload_n hk 0 rfl dM_pairs_0 rfl ?_
  refine qv_iload_n hk 1 rfl dM_pairs_1 rfl ?_
  refine callMI (As := [.int x]) (rest := []) hk (qm_badKey l D a cI cZ S x) gM_badKey (by decide) rfl rfl (Nat.le_of_ble_eq_true rfl) dM_pairs_2 (fun r2 S2 hw => ?_)
  obtain ⟨hw, e2⟩ := hw
  refine qv_state e2 ?_
  rcases hw with ⟨rfl, q, hq, rfl⟩ | ⟨rfl, hq⟩
  · refine qv_if_eq (tgt := 10) hk dM_pairs_5 (by decide) (fun _ => ?_) (fun h => absurd h (by decide))
    refine qv_aload_n hk 0 rfl dM_pairs_10 rfl ?_
    refine qv_iload_n hk 1 rfl dM_pairs_11 rfl ?_
    refine callMN (As := [.int (nI q)]) (rest := []) hk (qm_look l D a cI cZ S L hL q hq) gM_look (by decide) rfl rfl (Nat.le_of_ble_eq_true rfl) dM_pairs_12 (fun S12 hw12 => ?_)
    refine qv_aload_n hk 0 rfl dM_pairs_15 rfl ?_
    refine gM_pairs hk dM_pairs_16 ?_
    refine qv_top (y := nI (cK q (L 0) * cK q (L 1))) (hw12.2.1.trans (by rw [pl_len])) ?_
    exact hret (nI (cK q (L 0) * cK q (L 1))) S12 [(0, .ref (a 0)), (1, .int (nI q))] 19 (⟨Or.inr ⟨q, hq, rfl, rfl⟩, hw12.1⟩) rfl dM_pairs_19
  · refine qv_if_eq (tgt := 10) hk dM_pairs_5 (by decide) (fun h => absurd h (by decide)) (fun _ => ?_)
    refine qv_iconst (v := -1) hk dM_pairs_8 (by decide) ?_
    exact hret ((-1)) S [(0, .ref (a 0)), (1, .int x)] 9 (⟨Or.inl ⟨hq, rfl⟩, sameM_rfl S⟩) rfl dM_pairs_9

set_option maxHeartbeats 4000000 in
set_option maxRecDepth 100000 in
theorem qm_sum (l : Launch) (D : va_G) (a : Nat → Nat) (cI cZ : ClassId) (S : QS) (L : QL) (hL : MR S L) (x : Int32) : MetI l yM_sum wM_sum rM_sum D (qty cI cZ) (mw a cI cZ) S [.ref (a 0), .int x] (fun r S2 => qans x 16 0 (fun q => sK q (L 0) * sK q (L 1)) r ∧ sameM S2 S) := by
  refine MetI.of (cc := bM_sum) (maxL := 2) (own := R_M) (by decide) rfl rfl (Nat.le_of_ble_eq_true rfl) (fun k hk hret => ?_)
  have hk : QK k bM_sum R_M 2 rM_sum l D (qty cI cZ) := hk
  show QV k (mw a cI cZ) S [(0, .ref (a 0)), (1, .int x)] 0 []
  refine qv_aload_n hk 0 rfl dM_sum_0 rfl ?_
  refine qv_iload_n hk 1 rfl dM_sum_1 rfl ?_
  refine callMI (As := [.int x]) (rest := []) hk (qm_badKey l D a cI cZ S x) gM_badKey (by decide) rfl rfl (Nat.le_of_ble_eq_true rfl) dM_sum_2 (fun r2 S2 hw => ?_)
  obtain ⟨hw, e2⟩ := hw
  refine qv_state e2 ?_
  rcases hw with ⟨rfl, q, hq, rfl⟩ | ⟨rfl, hq⟩
  · refine qv_if_eq (tgt := 10) hk dM_sum_5 (by decide) (fun _ => ?_) (fun h => absurd h (by decide))
    refine qv_aload_n hk 0 rfl dM_sum_10 rfl ?_
    refine qv_iload_n hk 1 rfl dM_sum_11 rfl ?_
    refine callMN (As := [.int (nI q)]) (rest := []) hk (qm_look l D a cI cZ S L hL q hq) gM_look (by decide) rfl rfl (Nat.le_of_ble_eq_true rfl) dM_sum_12 (fun S12 hw12 => ?_)
    refine qv_aload_n hk 0 rfl dM_sum_15 rfl ?_
    refine gM_sum hk dM_sum_16 ?_
    refine qv_top (y := sK q (L 0) * sK q (L 1)) (hw12.2.2.1.trans (pl_sum q (L 1) (L 0))) ?_
    exact hret (sK q (L 0) * sK q (L 1)) S12 [(0, .ref (a 0)), (1, .int (nI q))] 19 (⟨Or.inr ⟨q, hq, rfl, rfl⟩, hw12.1⟩) rfl dM_sum_19
  · refine qv_if_eq (tgt := 10) hk dM_sum_5 (by decide) (fun h => absurd h (by decide)) (fun _ => ?_)
    refine qv_iconst (v := nI 0) hk dM_sum_8 (by decide) ?_
    exact hret (nI 0) S [(0, .ref (a 0)), (1, .int x)] 9 (⟨Or.inl ⟨hq, rfl⟩, sameM_rfl S⟩) rfl dM_sum_9

set_option maxHeartbeats 4000000 in
set_option maxRecDepth 100000 in
theorem qm_least (l : Launch) (D : va_G) (a : Nat → Nat) (cI cZ : ClassId) (S : QS) (L : QL) (hL : MR S L) (x : Int32) : MetI l yM_least wM_least rM_least D (qty cI cZ) (mw a cI cZ) S [.ref (a 0), .int x] (fun r S2 => qans x 16 10000 (fun q => loF q (L 0) (L 1)) r ∧ sameM S2 S) := by
  refine MetI.of (cc := bM_least) (maxL := 2) (own := R_M) (by decide) rfl rfl (Nat.le_of_ble_eq_true rfl) (fun k hk hret => ?_)
  have hk : QK k bM_least R_M 2 rM_least l D (qty cI cZ) := hk
  show QV k (mw a cI cZ) S [(0, .ref (a 0)), (1, .int x)] 0 []
  refine qv_aload_n hk 0 rfl dM_least_0 rfl ?_
  refine qv_iload_n hk 1 rfl dM_least_1 rfl ?_
  refine callMI (As := [.int x]) (rest := []) hk (qm_badKey l D a cI cZ S x) gM_badKey (by decide) rfl rfl (Nat.le_of_ble_eq_true rfl) dM_least_2 (fun r2 S2 hw => ?_)
  obtain ⟨hw, e2⟩ := hw
  refine qv_state e2 ?_
  rcases hw with ⟨rfl, q, hq, rfl⟩ | ⟨rfl, hq⟩
  · refine qv_if_eq (tgt := 12) hk dM_least_5 (by decide) (fun _ => ?_) (fun h => absurd h (by decide))
    refine qv_aload_n hk 0 rfl dM_least_12 rfl ?_
    refine qv_iload_n hk 1 rfl dM_least_13 rfl ?_
    refine callMN (As := [.int (nI q)]) (rest := []) hk (qm_look l D a cI cZ S L hL q hq) gM_look (by decide) rfl rfl (Nat.le_of_ble_eq_true rfl) dM_least_14 (fun S14 hw14 => ?_)
    refine qv_aload_n hk 0 rfl dM_least_17 rfl ?_
    refine gM_least hk dM_least_18 ?_
    refine qv_top (y := loF q (L 0) (L 1)) (hw14.2.2.2.1) ?_
    exact hret (loF q (L 0) (L 1)) S14 [(0, .ref (a 0)), (1, .int (nI q))] 21 (⟨Or.inr ⟨q, hq, rfl, rfl⟩, hw14.1⟩) rfl dM_least_21
  · refine qv_if_eq (tgt := 12) hk dM_least_5 (by decide) (fun h => absurd h (by decide)) (fun _ => ?_)
    refine qv_sipush (v := nI 10000) hk dM_least_8 (by decide) ?_
    exact hret (nI 10000) S [(0, .ref (a 0)), (1, .int x)] 11 (⟨Or.inl ⟨hq, rfl⟩, sameM_rfl S⟩) rfl dM_least_11

set_option maxHeartbeats 4000000 in
set_option maxRecDepth 100000 in
theorem qm_greatest (l : Launch) (D : va_G) (a : Nat → Nat) (cI cZ : ClassId) (S : QS) (L : QL) (hL : MR S L) (x : Int32) : MetI l yM_greatest wM_greatest rM_greatest D (qty cI cZ) (mw a cI cZ) S [.ref (a 0), .int x] (fun r S2 => qans x 16 (-10000) (fun q => hiF q (L 0) (L 1)) r ∧ sameM S2 S) := by
  refine MetI.of (cc := bM_greatest) (maxL := 2) (own := R_M) (by decide) rfl rfl (Nat.le_of_ble_eq_true rfl) (fun k hk hret => ?_)
  have hk : QK k bM_greatest R_M 2 rM_greatest l D (qty cI cZ) := hk
  show QV k (mw a cI cZ) S [(0, .ref (a 0)), (1, .int x)] 0 []
  refine qv_aload_n hk 0 rfl dM_greatest_0 rfl ?_
  refine qv_iload_n hk 1 rfl dM_greatest_1 rfl ?_
  refine callMI (As := [.int x]) (rest := []) hk (qm_badKey l D a cI cZ S x) gM_badKey (by decide) rfl rfl (Nat.le_of_ble_eq_true rfl) dM_greatest_2 (fun r2 S2 hw => ?_)
  obtain ⟨hw, e2⟩ := hw
  refine qv_state e2 ?_
  rcases hw with ⟨rfl, q, hq, rfl⟩ | ⟨rfl, hq⟩
  · refine qv_if_eq (tgt := 12) hk dM_greatest_5 (by decide) (fun _ => ?_) (fun h => absurd h (by decide))
    refine qv_aload_n hk 0 rfl dM_greatest_12 rfl ?_
    refine qv_iload_n hk 1 rfl dM_greatest_13 rfl ?_
    refine callMN (As := [.int (nI q)]) (rest := []) hk (qm_look l D a cI cZ S L hL q hq) gM_look (by decide) rfl rfl (Nat.le_of_ble_eq_true rfl) dM_greatest_14 (fun S14 hw14 => ?_)
    refine qv_aload_n hk 0 rfl dM_greatest_17 rfl ?_
    refine gM_greatest hk dM_greatest_18 ?_
    refine qv_top (y := hiF q (L 0) (L 1)) (hw14.2.2.2.2) ?_
    exact hret (hiF q (L 0) (L 1)) S14 [(0, .ref (a 0)), (1, .int (nI q))] 21 (⟨Or.inr ⟨q, hq, rfl, rfl⟩, hw14.1⟩) rfl dM_greatest_21
  · refine qv_if_eq (tgt := 12) hk dM_greatest_5 (by decide) (fun h => absurd h (by decide)) (fun _ => ?_)
    refine qv_sipush (v := -10000) hk dM_greatest_8 (by decide) ?_
    exact hret ((-10000)) S [(0, .ref (a 0)), (1, .int x)] 11 (⟨Or.inl ⟨hq, rfl⟩, sameM_rfl S⟩) rfl dM_greatest_11

set_option maxHeartbeats 4000000 in
set_option maxRecDepth 100000 in
theorem qm_pairsFrom (l : Launch) (D : va_G) (a : Nat → Nat) (cI cZ : ClassId) (S : QS) (L : QL) (hL : MR S L) (b : Int32) : MetI l yM_pairsFrom wM_pairsFrom rM_pairsFrom D (qty cI cZ) (mw a cI cZ) S [.ref (a 0), .int b] (fun r S2 => r = nI (pF b (L 0) (L 1)) ∧ S2 = S) := by
  refine MetI.of (cc := bM_pairsFrom) (maxL := 5) (own := R_M) (by decide) rfl rfl (Nat.le_of_ble_eq_true rfl) (fun k hk hret => ?_)
  have hk : QK k bM_pairsFrom R_M 5 rM_pairsFrom l D (qty cI cZ) := hk
  have h0 := hL 0 (by omega)
  have h1 := hL 1 (by omega)
  have z0 := h0.1
  have z1 := h1.1
  show QV k (mw a cI cZ) S [(0, .ref (a 0)), (1, .int b)] 0 []
  refine qv_iconst (v := nI 0) hk dM_pairsFrom_0 (by decide) ?_
  refine qv_istore_n (lv' := [(2, .int (nI 0)), (0, .ref (a 0)), (1, .int b)]) hk dM_pairsFrom_1 rfl (by decide) rfl ?_
  refine qv_iconst (v := nI 0) hk dM_pairsFrom_2 (by decide) ?_
  refine qv_istore_n (lv' := [(3, .int (nI 0)), (2, .int (nI 0)), (0, .ref (a 0)), (1, .int b)]) hk dM_pairsFrom_3 rfl (by decide) rfl ?_
  have L4 : ∀ (n4 : Nat) (i : Nat) (n : Nat), (L 0).length - i < n4 → (i ≤ (L 0).length) → (n = pF b ((L 0).take i) (L 1)) → QV k (mw a cI cZ) (S) [(0, .ref (a 0)), (1, .int b), (2, .int (nI n)), (3, .int (nI i))] 4 [] := by
    intro n4
    induction n4 with
    | zero => intro i n hm; exact absurd hm (Nat.not_lt_zero _)
    | succ n4 ih4 =>
      intro i n hm4 hi hn
      refine qv_iload_n hk 3 rfl dM_pairsFrom_4 rfl ?_
      refine qv_aload_n hk 0 rfl dM_pairsFrom_5 rfl ?_
      refine gM_count hk dM_pairsFrom_6 ?_
      refine qv_iconst (v := nI 0) hk dM_pairsFrom_9 (by decide) ?_
      refine aM_count hk (by omega) dM_pairsFrom_10 ?_
      refine qv_top (y := nI ((L 0).length)) (h0.2.1) ?_
      refine qn_icmp_ge (tgt := 96) hk (by omega) (by omega) dM_pairsFrom_11 (by decide) (fun h11 => ?_) (fun h11 => ?_)
      · refine qv_iload_n hk 2 rfl dM_pairsFrom_96 rfl ?_
        exact hret (nI n) S [(0, .ref (a 0)), (1, .int b), (2, .int (nI n)), (3, .int (nI i))] 97 (⟨by rw [hn, show i = (L 0).length by omega, List.take_length], rfl⟩) rfl dM_pairsFrom_97
      · refine qv_iload_n hk 3 rfl dM_pairsFrom_14 rfl ?_
        refine qv_bipush (v := nI 40) hk dM_pairsFrom_15 (by decide) ?_
        refine qn_icmp_ge (tgt := 96) hk (by omega) (by omega) dM_pairsFrom_17 (by decide) (fun h17 => by exfalso; omega) (fun h17 => ?_)
        obtain ⟨t, ht⟩ := getq (L := L 0) (i := i) (by omega)
        have hlt := h0.2.2.1 i t ht
        have hlt1 : S 1 i = nI t.1 := by simpa using hlt.1
        have hlt2 : S 2 i = t.2 := by simpa using hlt.2
        have ht16 := (h0.2.2.2 t (List.mem_of_getElem? ht)).1
        refine qv_iconst (v := nI 0) hk dM_pairsFrom_20 (by decide) ?_
        refine qv_istore (lv' := [(4, .int (nI 0)), (0, .ref (a 0)), (1, .int b), (2, .int (nI n)), (3, .int (nI i))]) hk dM_pairsFrom_21 (by decide) rfl ?_
        have L23 : ∀ (n23 : Nat) (j : Nat) (n2 : Nat), (L 1).length - j < n23 → (j ≤ (L 1).length) → (n2 = pF b ((L 0).take i) (L 1) + pt b t ((L 1).take j)) → QV k (mw a cI cZ) (S) [(0, .ref (a 0)), (1, .int b), (2, .int (nI n2)), (3, .int (nI i)), (4, .int (nI j))] 23 [] := by
          intro n23
          induction n23 with
          | zero => intro j n2 hm; exact absurd hm (Nat.not_lt_zero _)
          | succ n23 ih23 =>
            intro j n2 hm23 hj hn2
            refine qv_iload hk 4 rfl dM_pairsFrom_23 ?_
            refine qv_aload_n hk 0 rfl dM_pairsFrom_25 rfl ?_
            refine gM_count hk dM_pairsFrom_26 ?_
            refine qv_iconst (v := nI 1) hk dM_pairsFrom_29 (by decide) ?_
            refine aM_count hk (by omega) dM_pairsFrom_30 ?_
            refine qv_top (y := nI ((L 1).length)) (h1.2.1) ?_
            refine qn_icmp_ge (tgt := 90) hk (by omega) (by omega) dM_pairsFrom_31 (by decide) (fun h31 => ?_) (fun h31 => ?_)
            · refine qv_iinc (v := nI (i + 1)) (lv' := [(3, .int (nI (i + 1))), (0, .ref (a 0)), (1, .int b), (2, .int (nI n2)), (4, .int (nI j))]) hk 3 rfl dM_pairsFrom_90 (qn_inc _) (by decide) rfl ?_
              refine qv_goto (tgt := 4) hk dM_pairsFrom_93 (by decide) ?_
              refine qv_sub [1, 2, 3, 0] rfl ?_
              exact ih4 (i + 1) n2 (by omega) (by omega) (by rw [tk ht, pF_snoc, hn2, show j = (L 1).length by omega, List.take_length])
            · refine qv_iload hk 4 rfl dM_pairsFrom_34 ?_
              refine qv_bipush (v := nI 40) hk dM_pairsFrom_36 (by decide) ?_
              refine qn_icmp_ge (tgt := 90) hk (by omega) (by omega) dM_pairsFrom_38 (by decide) (fun h38 => by exfalso; omega) (fun h38 => ?_)
              obtain ⟨u, hu⟩ := getq (L := L 1) (i := j) (by omega)
              have hlu := h1.2.2.1 j u hu
              have hlu1 : S 1 (40 + j) = nI u.1 := by simpa using hlu.1
              have hlu2 : S 2 (40 + j) = u.2 := by simpa using hlu.2
              have hu16 := (h1.2.2.2 u (List.mem_of_getElem? hu)).1
              refine qv_aload_n hk 0 rfl dM_pairsFrom_41 rfl ?_
              refine gM_key hk dM_pairsFrom_42 ?_
              refine qv_iload_n hk 3 rfl dM_pairsFrom_45 rfl ?_
              refine aM_key hk (by omega) dM_pairsFrom_46 ?_
              refine qv_top (y := nI t.1) (hlt1) ?_
              refine qv_aload_n hk 0 rfl dM_pairsFrom_47 rfl ?_
              refine gM_key hk dM_pairsFrom_48 ?_
              refine qv_bipush (v := nI 40) hk dM_pairsFrom_51 (by decide) ?_
              refine qv_iload hk 4 rfl dM_pairsFrom_53 ?_
              refine qn_iadd hk dM_pairsFrom_55 ?_
              refine aM_key hk (by omega) dM_pairsFrom_56 ?_
              refine qv_top (y := nI u.1) (hlu1) ?_
              refine qn_icmp_ne (tgt := 84) hk (by omega) (by omega) dM_pairsFrom_57 (by decide) (fun h57 => ?_) (fun h57 => ?_)
              · refine qv_iinc (v := nI (j + 1)) (lv' := [(4, .int (nI (j + 1))), (0, .ref (a 0)), (1, .int b), (2, .int (nI n2)), (3, .int (nI i))]) hk 4 rfl dM_pairsFrom_84 (qn_inc _) (by decide) rfl ?_
                refine qv_goto (tgt := 23) hk dM_pairsFrom_87 (by decide) ?_
                refine qv_sub [1, 2, 3, 4, 0] rfl ?_
                exact ih23 (j + 1) n2 (by omega) (by omega) (by rw [tk hu, pt_snoc, if_neg (fun z => h57 z.1.symm), hn2]; rfl)
              · refine qv_aload_n hk 0 rfl dM_pairsFrom_60 rfl ?_
                refine gM_value hk dM_pairsFrom_61 ?_
                refine qv_iload_n hk 3 rfl dM_pairsFrom_64 rfl ?_
                refine aM_value hk (by omega) dM_pairsFrom_65 ?_
                refine qv_top (y := t.2) (hlt2) ?_
                refine qv_aload_n hk 0 rfl dM_pairsFrom_66 rfl ?_
                refine gM_value hk dM_pairsFrom_67 ?_
                refine qv_bipush (v := nI 40) hk dM_pairsFrom_70 (by decide) ?_
                refine qv_iload hk 4 rfl dM_pairsFrom_72 ?_
                refine qn_iadd hk dM_pairsFrom_74 ?_
                refine aM_value hk (by omega) dM_pairsFrom_75 ?_
                refine qv_top (y := u.2) (hlu2) ?_
                refine qv_imul hk dM_pairsFrom_76 ?_
                refine qv_iload_n hk 1 rfl dM_pairsFrom_77 rfl ?_
                refine qv_icmp_lt (tgt := 84) hk dM_pairsFrom_78 (by decide) (fun h78 => ?_) (fun h78 => ?_)
                · refine qv_iinc (v := nI (j + 1)) (lv' := [(4, .int (nI (j + 1))), (0, .ref (a 0)), (1, .int b), (2, .int (nI n2)), (3, .int (nI i))]) hk 4 rfl dM_pairsFrom_84 (qn_inc _) (by decide) rfl ?_
                  refine qv_goto (tgt := 23) hk dM_pairsFrom_87 (by decide) ?_
                  refine qv_sub [1, 2, 3, 4, 0] rfl ?_
                  exact ih23 (j + 1) n2 (by omega) (by omega) (by rw [tk hu, pt_snoc, if_neg (fun z => absurd h78 (Int32.not_lt.mpr z.2)), hn2]; rfl)
                · refine qv_iinc (v := nI (n2 + 1)) (lv' := [(2, .int (nI (n2 + 1))), (0, .ref (a 0)), (1, .int b), (3, .int (nI i)), (4, .int (nI j))]) hk 2 rfl dM_pairsFrom_81 (qn_inc _) (by decide) rfl ?_
                  refine qv_iinc (v := nI (j + 1)) (lv' := [(4, .int (nI (j + 1))), (2, .int (nI (n2 + 1))), (0, .ref (a 0)), (1, .int b), (3, .int (nI i))]) hk 4 rfl dM_pairsFrom_84 (qn_inc _) (by decide) rfl ?_
                  refine qv_goto (tgt := 23) hk dM_pairsFrom_87 (by decide) ?_
                  refine qv_sub [2, 3, 1, 4, 0] rfl ?_
                  exact ih23 (j + 1) ((n2 + 1)) (by omega) (by omega) (by rw [tk hu, pt_snoc, if_pos ⟨h57.symm, Int32.not_lt.mp h78⟩, hn2]; rfl)
        refine qv_sub [1, 2, 3, 4, 0] rfl ?_
        exact L23 _ 0 n (Nat.lt_succ_self _) (Nat.zero_le _) (by rw [hn]; rfl)
  refine qv_sub [2, 3, 1, 0] rfl ?_
  exact L4 _ 0 0 (Nat.lt_succ_self _) (Nat.zero_le _) rfl

set_option maxHeartbeats 4000000 in
set_option maxRecDepth 100000 in
theorem qm_dropAll (l : Launch) (D : va_G) (a : Nat → Nat) (cI cZ : ClassId) (S : QS) (L : QL) (hL : MR S L) (st q : Nat) (hst : st < 2) (hq : q < 16) : MetN l yM_dropAll wM_dropAll rM_dropAll D (qty cI cZ) (mw a cI cZ) S [.ref (a 0), .int (nI st), .int (nI q)] (fun S2 => MR S2 (va_up L st (wo q (L st))) ∧ ∀ c, 3 ≤ c → S2 c = S c) := by
  refine MetN.of (cc := bM_dropAll) (maxL := 4) (own := R_M) (by decide) rfl rfl (Nat.le_of_ble_eq_true rfl) (fun k hk hret => ?_)
  have hk : QK k bM_dropAll R_M 4 rM_dropAll l D (qty cI cZ) := hk
  have h40 := (hL st hst).1
  show QV k (mw a cI cZ) S [(0, .ref (a 0)), (1, .int (nI st)), (2, .int (nI q))] 0 []
  refine qv_bipush (v := nI 39) hk dM_dropAll_0 (by decide) ?_
  refine qv_istore_n (lv' := [(3, .int (nI 39)), (0, .ref (a 0)), (1, .int (nI st)), (2, .int (nI q))]) hk dM_dropAll_2 rfl (by decide) rfl ?_
  have L3 : ∀ (n3 : Nat) (m : Nat) (S1 : QS) (L1 : QL), m < n3 → (m ≤ 40) → (MR S1 L1) → (L1 st = (L st).take m ++ wo q ((L st).drop m)) → (∀ s, s ≠ st → L1 s = L s) → (∀ c, 3 ≤ c → S1 c = S c) → QV k (mw a cI cZ) (S1) [(0, .ref (a 0)), (1, .int (nI st)), (2, .int (nI q)), (3, .int (nI m - nI 1))] 3 [] := by
    intro n3
    induction n3 with
    | zero => intro m S1 L1 hm; exact absurd hm (Nat.not_lt_zero _)
    | succ n3 ih3 =>
      intro m S1 L1 hm3 hm hM hl1 ho hc
      refine qv_iload_n hk 3 rfl dM_dropAll_3 rfl ?_
      refine qv_if_lt (tgt := 44) hk dM_dropAll_4 (by decide) (fun h4 => ?_) (fun h4 => ?_)
      · have hm0 : m = 0 := by
          rcases Nat.eq_zero_or_pos m with z | z
          · exact z
          · exfalso
            rw [pk_sub (by omega)] at h4
            exact nI_pos (by omega) h4
        subst hm0
        exact hret S1 [(0, .ref (a 0)), (1, .int (nI st)), (2, .int (nI q)), (3, .int (nI 0 - nI 1))] 44 (⟨hM.cong (fun s hs => by by_cases e : s = st; rw [e, va_up_self, hl1, List.take_zero, List.nil_append, List.drop_zero]; rw [va_up_ne _ _ e]; exact (ho s e).symm), hc⟩) dM_dropAll_44
      · obtain ⟨i, rfl⟩ : ∃ i, m = i + 1 := ⟨m - 1, by
          rcases Nat.eq_zero_or_pos m with z | z
          · subst z
            exact absurd (by decide) h4
          · omega⟩
        rw [show nI (i + 1) - nI 1 = nI i from by rw [pk_sub (by omega)]; rfl]
        have hx1 := hM st hst
        have h401 := hx1.1
        refine qv_iload_n hk 3 rfl dM_dropAll_7 rfl ?_
        refine qv_aload_n hk 0 rfl dM_dropAll_8 rfl ?_
        refine gM_count hk dM_dropAll_9 ?_
        refine qv_iload_n hk 1 rfl dM_dropAll_12 rfl ?_
        refine aM_count hk (by omega) dM_dropAll_13 ?_
        refine qv_top (y := nI ((L1 st).length)) (hx1.2.1) ?_
        refine qn_icmp_ge (tgt := 38) hk (by omega) (by omega) dM_dropAll_14 (by decide) (fun h14 => ?_) (fun h14 => ?_)
        · refine qv_iinc (v := nI i - nI 1) (lv' := [(3, .int (nI i - nI 1)), (0, .ref (a 0)), (1, .int (nI st)), (2, .int (nI q))]) hk 3 rfl dM_dropAll_38 (qn_decI i) (by decide) rfl ?_
          refine qv_goto (tgt := 3) hk dM_dropAll_41 (by decide) ?_
          refine qv_sub [1, 2, 3, 0] rfl ?_
          exact ih3 i S1 L1 (by omega) (by omega) hM (da_skip hl1 h14) ho hc
        · obtain ⟨t, ht⟩ := getq (L := L1 st) (i := i) (by omega)
          have hlt := hx1.2.2.1 i t ht
          have ht16 := (hx1.2.2.2 t (List.mem_of_getElem? ht)).1
          have htl := da_get hl1 ht
          refine qv_aload_n hk 0 rfl dM_dropAll_17 rfl ?_
          refine gM_key hk dM_dropAll_18 ?_
          refine qv_bipush (v := nI 40) hk dM_dropAll_21 (by decide) ?_
          refine qv_iload_n hk 1 rfl dM_dropAll_23 rfl ?_
          refine qn_imul hk dM_dropAll_24 ?_
          refine qv_iload_n hk 3 rfl dM_dropAll_25 rfl ?_
          refine qn_iadd hk dM_dropAll_26 ?_
          refine aM_key hk (by omega) dM_dropAll_27 ?_
          refine qv_top (y := nI t.1) (hlt.1) ?_
          refine qv_iload_n hk 2 rfl dM_dropAll_28 rfl ?_
          refine qn_icmp_ne (tgt := 38) hk (by omega) (by omega) dM_dropAll_29 (by decide) (fun h29 => ?_) (fun h29 => ?_)
          · refine qv_iinc (v := nI i - nI 1) (lv' := [(3, .int (nI i - nI 1)), (0, .ref (a 0)), (1, .int (nI st)), (2, .int (nI q))]) hk 3 rfl dM_dropAll_38 (qn_decI i) (by decide) rfl ?_
            refine qv_goto (tgt := 3) hk dM_dropAll_41 (by decide) ?_
            refine qv_sub [1, 2, 3, 0] rfl ?_
            exact ih3 i S1 L1 (by omega) (by omega) hM (da_keep hl1 htl h29) ho hc
          · refine qv_aload_n hk 0 rfl dM_dropAll_32 rfl ?_
            refine qv_iload_n hk 1 rfl dM_dropAll_33 rfl ?_
            refine qv_iload_n hk 3 rfl dM_dropAll_34 rfl ?_
            refine callMN (As := [.int (nI st), .int (nI i)]) (rest := []) hk (qm_takeOut l D a cI cZ S1 L1 hM st i hst (by omega)) gM_takeOut (by decide) rfl rfl (Nat.le_of_ble_eq_true rfl) dM_dropAll_35 (fun S35 hw35 => ?_)
            have hM2 := tk_ok hM hst (i := i) (by omega)
            rw [← hw35] at hM2
            refine qv_iinc (v := nI i - nI 1) (lv' := [(3, .int (nI i - nI 1)), (0, .ref (a 0)), (1, .int (nI st)), (2, .int (nI q))]) hk 3 rfl dM_dropAll_38 (qn_decI i) (by decide) rfl ?_
            refine qv_goto (tgt := 3) hk dM_dropAll_41 (by decide) ?_
            refine qv_sub [1, 2, 3, 0] rfl ?_
            exact ih3 i S35 (va_up L1 st (rmv (L1 st) i 1)) (by omega) (by omega) hM2 (by rw [va_up_self]; exact da_del hl1 htl h29) (fun s hs => by rw [va_up_ne _ _ hs]; exact ho s hs) (fun c hcc => by rw [hw35, mtk_hi _ _ _ _ c hcc]; exact hc c hcc)
  refine qv_sub [1, 2, 3, 0] rfl ?_
  exact L3 _ 40 S L (Nat.lt_succ_self _) (by omega) hL (da_0 h40) (fun _ _ => rfl) (fun _ _ => rfl)

set_option maxHeartbeats 4000000 in
set_option maxRecDepth 100000 in
theorem qm_finish (l : Launch) (D : va_G) (a : Nat → Nat) (cI cZ : ClassId) (S : QS) (L : QL) (hL : MR S L) (R : List QE) (hR : outR (S 9 0) (S 4) (S 5) (S 6) (S 7) (S 8) R) (q : Nat) (hq : q < 16) : MetN l yM_finish wM_finish rM_finish D (qty cI cZ) (mw a cI cZ) S [.ref (a 0), .int (nI q)] (fun S2 => MR S2 (fun st => wo q (L st)) ∧ outR (S2 9 0) (S2 4) (S2 5) (S2 6) (S2 7) (S2 8) (fnR q (L 0) (L 1) R) ∧ S2 3 = S 3) := by
  refine MetN.of (cc := bM_finish) (maxL := 2) (own := R_M) (by decide) rfl rfl (Nat.le_of_ble_eq_true rfl) (fun k hk hret => ?_)
  have hk : QK k bM_finish R_M 2 rM_finish l D (qty cI cZ) := hk
  have hO := hR.1
  have h16 := hR.2.1
  have c16 := cK40m hL q
  show QV k (mw a cI cZ) S [(0, .ref (a 0)), (1, .int (nI q))] 0 []
  refine qv_aload_n hk 0 rfl dM_finish_0 rfl ?_
  refine qv_iload_n hk 1 rfl dM_finish_1 rfl ?_
  refine callMN (As := [.int (nI q)]) (rest := []) hk (qm_look l D a cI cZ S L hL q hq) gM_look (by decide) rfl rfl (Nat.le_of_ble_eq_true rfl) dM_finish_2 (fun S2 hw2 => ?_)
  have hpp : S2 9 1 = nI (cK q (L 0) * cK q (L 1)) := hw2.2.1.trans (by rw [pl_len])
  have hss : S2 9 2 = sK q (L 0) * sK q (L 1) := hw2.2.2.1.trans (pl_sum q (L 1) (L 0))
  have J93 : ∀ (S1 : QS), (MR S1 L) → (outR (S1 9 0) (S1 4) (S1 5) (S1 6) (S1 7) (S1 8) (fnR q (L 0) (L 1) R)) → (S1 3 = S 3) → QV k (mw a cI cZ) (S1) [(0, .ref (a 0)), (1, .int (nI q))] 93 [] := by
    intro S1 hL1 hR1 h51
    refine qv_aload_n hk 0 rfl dM_finish_93 rfl ?_
    refine qv_iconst (v := nI 0) hk dM_finish_94 (by decide) ?_
    refine qv_iload_n hk 1 rfl dM_finish_95 rfl ?_
    refine callMN (As := [.int (nI 0), .int (nI q)]) (rest := []) hk (qm_dropAll l D a cI cZ S1 L hL1 0 q (by omega) hq) gM_dropAll (by decide) rfl rfl (Nat.le_of_ble_eq_true rfl) dM_finish_96 (fun S96 hw96 => ?_)
    have hv1 : va_up L 0 (wo q (L 0)) 1 = L 1 := va_up_ne _ _ (by decide)
    refine qv_aload_n hk 0 rfl dM_finish_99 rfl ?_
    refine qv_iconst (v := nI 1) hk dM_finish_100 (by decide) ?_
    refine qv_iload_n hk 1 rfl dM_finish_101 rfl ?_
    refine callMN (As := [.int (nI 1), .int (nI q)]) (rest := []) hk (qm_dropAll l D a cI cZ S96 (va_up L 0 (wo q (L 0))) hw96.1 1 q (by omega) hq) gM_dropAll (by decide) rfl rfl (Nat.le_of_ble_eq_true rfl) dM_finish_102 (fun S102 hw102 => ?_)
    exact hret S102 [(0, .ref (a 0)), (1, .int (nI q))] 105 (by have hA := hw102.1; rw [hv1] at hA; have hh : ∀ c, 3 ≤ c → S102 c = S1 c := fun c hc => (hw102.2 c hc).trans (hw96.2 c hc); exact ⟨hA.cong (fun st hst => by rcases (show st = 0 ∨ st = 1 by omega) with rfl | rfl; rw [va_up_ne _ _ (by decide), va_up_self]; rw [va_up_self]), hR1.cong (by rw [hh 9 (by omega)]) (hh 4 (by omega)) (hh 5 (by omega)) (hh 6 (by omega)) (hh 7 (by omega)) (hh 8 (by omega)), (hh 3 (by omega)).trans h51⟩) dM_finish_105
  refine qv_aload_n hk 0 rfl dM_finish_5 rfl ?_
  refine gM_pairs hk dM_finish_6 ?_
  refine qv_top (y := nI (cK q (L 0) * cK q (L 1))) (hpp) ?_
  refine qv_if_le (tgt := 93) hk dM_finish_9 (by decide) (fun h9 => ?_) (fun h9 => ?_)
  · exact J93 S2 (hL.same (fun c hc => hw2.1.1 c (by omega))) (by rw [fnR_no (fun z => by rw [show (0 : Int32) = nI 0 from rfl, nI_leI (by omega) (by omega)] at h9; omega)]; exact hR.cong hw2.1.2 (hw2.1.1 4 (by decide)) (hw2.1.1 5 (by decide)) (hw2.1.1 6 (by decide)) (hw2.1.1 7 (by decide)) (hw2.1.1 8 (by decide))) (hw2.1.1 3 (by decide))
  · refine qv_aload_n hk 0 rfl dM_finish_12 rfl ?_
    refine gM_results hk dM_finish_13 ?_
    refine qv_top (y := nI R.length) (hw2.1.2.trans hO) ?_
    refine qv_bipush (v := nI 16) hk dM_finish_16 (by decide) ?_
    refine qn_icmp_ge (tgt := 93) hk (by omega) (by omega) dM_finish_18 (by decide) (fun h18 => ?_) (fun h18 => ?_)
    · exact J93 S2 (hL.same (fun c hc => hw2.1.1 c (by omega))) (by rw [fnR_no (fun z => by omega)]; exact hR.cong hw2.1.2 (hw2.1.1 4 (by decide)) (hw2.1.1 5 (by decide)) (hw2.1.1 6 (by decide)) (hw2.1.1 7 (by decide)) (hw2.1.1 8 (by decide))) (hw2.1.1 3 (by decide))
    · have h16b : R.length < 16 := h18
      have hne : 0 < cK q (L 0) * cK q (L 1) := Nat.pos_of_ne_zero (fun z => h9 (by rw [z]; decide))
      refine qv_aload_n hk 0 rfl dM_finish_21 rfl ?_
      refine gM_resultKey hk dM_finish_22 ?_
      refine qv_aload_n hk 0 rfl dM_finish_25 rfl ?_
      refine gM_results hk dM_finish_26 ?_
      refine qv_top (y := nI R.length) (hw2.1.2.trans hO) ?_
      refine qv_iload_n hk 1 rfl dM_finish_29 rfl ?_
      refine sM_resultKey hk (by omega) dM_finish_30 ?_
      refine qv_aload_n hk 0 rfl dM_finish_31 rfl ?_
      refine gM_resultPairs hk dM_finish_32 ?_
      refine qv_aload_n hk 0 rfl dM_finish_35 rfl ?_
      refine gM_results hk dM_finish_36 ?_
      refine qv_top (y := nI R.length) (hw2.1.2.trans hO) ?_
      refine qv_aload_n hk 0 rfl dM_finish_39 rfl ?_
      refine gM_pairs hk dM_finish_40 ?_
      refine qv_top (y := nI (cK q (L 0) * cK q (L 1))) (hpp) ?_
      refine sM_resultPairs hk (by omega) dM_finish_43 ?_
      refine qv_aload_n hk 0 rfl dM_finish_44 rfl ?_
      refine gM_resultSum hk dM_finish_45 ?_
      refine qv_aload_n hk 0 rfl dM_finish_48 rfl ?_
      refine gM_results hk dM_finish_49 ?_
      refine qv_top (y := nI R.length) (hw2.1.2.trans hO) ?_
      refine qv_aload_n hk 0 rfl dM_finish_52 rfl ?_
      refine gM_sum hk dM_finish_53 ?_
      refine qv_top (y := sK q (L 0) * sK q (L 1)) (hss) ?_
      refine sM_resultSum hk (by omega) dM_finish_56 ?_
      refine qv_aload_n hk 0 rfl dM_finish_57 rfl ?_
      refine gM_resultLeast hk dM_finish_58 ?_
      refine qv_aload_n hk 0 rfl dM_finish_61 rfl ?_
      refine gM_results hk dM_finish_62 ?_
      refine qv_top (y := nI R.length) (hw2.1.2.trans hO) ?_
      refine qv_aload_n hk 0 rfl dM_finish_65 rfl ?_
      refine gM_least hk dM_finish_66 ?_
      refine qv_top (y := loF q (L 0) (L 1)) (hw2.2.2.2.1) ?_
      refine sM_resultLeast hk (by omega) dM_finish_69 ?_
      refine qv_aload_n hk 0 rfl dM_finish_70 rfl ?_
      refine gM_resultGreatest hk dM_finish_71 ?_
      refine qv_aload_n hk 0 rfl dM_finish_74 rfl ?_
      refine gM_results hk dM_finish_75 ?_
      refine qv_top (y := nI R.length) (hw2.1.2.trans hO) ?_
      refine qv_aload_n hk 0 rfl dM_finish_78 rfl ?_
      refine gM_greatest hk dM_finish_79 ?_
      refine qv_top (y := hiF q (L 0) (L 1)) (hw2.2.2.2.2) ?_
      refine sM_resultGreatest hk (by omega) dM_finish_82 ?_
      refine qv_aload_n hk 0 rfl dM_finish_83 rfl ?_
      refine qv_dup hk dM_finish_84 rfl ?_
      refine gM_results hk dM_finish_85 ?_
      refine qv_top (y := nI R.length) (hw2.1.2.trans hO) ?_
      refine qv_iconst (v := nI 1) hk dM_finish_88 (by decide) ?_
      refine qn_iadd hk dM_finish_89 ?_
      refine pM_results hk dM_finish_90 ?_
      exact J93 ((up2 (up2 (up2 (up2 (up2 (up2 S2 4 R.length (nI q)) 5 R.length (nI (cK q (L 0) * cK q (L 1)))) 6 R.length (sK q (L 0) * sK q (L 1))) 7 R.length (loF q (L 0) (L 1))) 8 R.length (hiF q (L 0) (L 1))) 9 0 (nI (R.length + 1)))) (hL.same (fun c hc => (omS_lo S2 R.length q _ _ _ _ c (by omega)).trans (hw2.1.1 c (by omega)))) (by rw [fnR_yes hne h16b]; exact omS_out hR hw2.1 h16b hq _ _ _ _) (hw2.1.1 3 (by decide))

set_option maxHeartbeats 4000000 in
set_option maxRecDepth 100000 in
theorem qm_close (l : Launch) (D : va_G) (a : Nat → Nat) (cI cZ : ClassId) (S : QS) (q0 : QA) (h0 : MA S q0) (x1 x2 x3 : Int32) : MetI l yM_close wM_close rM_close D (qty cI cZ) (mw a cI cZ) S [.ref (a 0), .int x1, .int x2, .int x3] (fun r S2 => cloA q0 x1 x2 x3 r (S2 = S) (fun q => MA S2 q)) := by
  refine MetI.of (cc := bM_close) (maxL := 7) (own := R_M) (by decide) rfl rfl (Nat.le_of_ble_eq_true rfl) (fun k hk hret => ?_)
  have hk : QK k bM_close R_M 7 rM_close l D (qty cI cZ) := hk
  show QV k (mw a cI cZ) S [(0, .ref (a 0)), (1, .int x1), (2, .int x2), (3, .int x3)] 0 []
  refine qv_aload_n hk 0 rfl dM_close_0 rfl ?_
  refine qv_iload_n hk 1 rfl dM_close_1 rfl ?_
  refine callMI (As := [.int x1]) (rest := []) hk (qm_badStream l D a cI cZ S x1) gM_badStream (by decide) rfl rfl (Nat.le_of_ble_eq_true rfl) dM_close_2 (fun r2 S2 hw => ?_)
  obtain ⟨hw, e2⟩ := hw
  refine qv_state e2 ?_
  rcases hw with ⟨rfl, st, hst, rfl⟩ | ⟨rfl, hst⟩
  · refine qv_if_eq (tgt := 10) hk dM_close_5 (by decide) (fun _ => ?_) (fun h => absurd h (by decide))
    refine qv_iload_n hk 2 rfl dM_close_10 rfl ?_
    refine qv_if_lt (tgt := 25) hk dM_close_11 (by decide) (fun h11 => ?_) (fun h11 => ?_)
    · refine qv_bipush (v := -2) hk dM_close_25 (by decide) ?_
      exact hret ((-2)) S [(0, .ref (a 0)), (1, .int (nI st)), (2, .int x2), (3, .int x3)] 27 (Or.inr (Or.inl ⟨⟨st, hst, rfl⟩, rng_n1 h11, rfl, rfl⟩)) rfl dM_close_27
    · refine qv_iload_n hk 2 rfl dM_close_14 rfl ?_
      refine qv_iload_n hk 3 rfl dM_close_15 rfl ?_
      refine qv_icmp_gt (tgt := 25) hk dM_close_16 (by decide) (fun h16 => ?_) (fun h16 => ?_)
      · refine qv_bipush (v := -2) hk dM_close_25 (by decide) ?_
        exact hret ((-2)) S [(0, .ref (a 0)), (1, .int (nI st)), (2, .int x2), (3, .int x3)] 27 (Or.inr (Or.inl ⟨⟨st, hst, rfl⟩, rng_n2 h16, rfl, rfl⟩)) rfl dM_close_27
      · refine qv_iload_n hk 3 rfl dM_close_19 rfl ?_
        refine qv_bipush (v := nI 15) hk dM_close_20 (by decide) ?_
        refine qv_icmp_le (tgt := 28) hk dM_close_22 (by decide) (fun h22 => ?_) (fun h22 => ?_)
        · obtain ⟨f, e, hfe, he, rfl, rfl⟩ : rng x2 x3 := rng_of15 h11 h16 h22
          refine qv_iconst (v := nI 0) hk dM_close_28 (by decide) ?_
          refine qv_istore (lv' := [(4, .int (nI 0)), (0, .ref (a 0)), (1, .int (nI st)), (2, .int (nI f)), (3, .int (nI e))]) hk dM_close_29 (by decide) rfl ?_
          refine qv_iload_n hk 3 rfl dM_close_31 rfl ?_
          refine qv_istore (lv' := [(5, .int (nI f)), (4, .int (nI 0)), (0, .ref (a 0)), (1, .int (nI st)), (2, .int (nI f)), (3, .int (nI e))]) hk dM_close_32 (by decide) rfl ?_
          have L34 : ∀ (n34 : Nat) (j : Nat) (S1 : QS) (c : Nat), e + 1 - (f + j) < n34 → (f + j ≤ e + 1) → (MA S1 (clN st f j q0).1) → (c = (clN st f j q0).2) → QV k (mw a cI cZ) (S1) [(0, .ref (a 0)), (1, .int (nI st)), (3, .int (nI e)), (4, .int (nI c)), (5, .int (nI (f + j)))] 34 [] := by
            intro n34
            induction n34 with
            | zero => intro j S1 c hm; exact absurd hm (Nat.not_lt_zero _)
            | succ n34 ih34 =>
              intro j S1 c hm34 hj hA hc
              refine qv_iload hk 4 rfl dM_close_34 ?_
              refine qv_iload_n hk 2 rfl dM_close_36 rfl ?_
              refine qn_icmp_gt (tgt := 90) hk (by omega) (by omega) dM_close_37 (by decide) (fun h37 => ?_) (fun h37 => ?_)
              · refine qv_iload hk 3 rfl dM_close_90 ?_
                exact hret (nI c) S1 [(0, .ref (a 0)), (1, .int (nI st)), (3, .int (nI e)), (4, .int (nI c)), (5, .int (nI (f + j)))] 92 (Or.inr (Or.inr ⟨st, f, e, hst, hfe, he, rfl, rfl, rfl, by rw [hc, show e + 1 - f = j by omega], by rw [show e + 1 - f = j by omega]; exact hA⟩)) rfl dM_close_92
              · refine qv_aload_n hk 0 rfl dM_close_40 rfl ?_
                refine qv_iload hk 4 rfl dM_close_41 ?_
                refine callMI (As := [.int (nI (f + j))]) (rest := []) hk (qm_finished l D a cI cZ S1 (f + j) (by omega)) gM_finished (by decide) rfl rfl (Nat.le_of_ble_eq_true rfl) dM_close_43 (fun r43 S43 hw => ?_)
                obtain ⟨hw, e2⟩ := hw
                refine qv_state e2 ?_
                rcases hw with ⟨rfl, hb⟩ | ⟨rfl, hb⟩
                · refine qv_istore (lv' := [(6, .int 1), (0, .ref (a 0)), (1, .int (nI st)), (3, .int (nI e)), (4, .int (nI c)), (5, .int (nI (f + j)))]) hk dM_close_46 (by decide) rfl ?_
                  refine qv_aload_n hk 1 rfl dM_close_48 rfl ?_
                  refine gM_shut hk dM_close_49 ?_
                  refine qv_bipush (v := nI 16) hk dM_close_52 (by decide) ?_
                  refine qv_iload_n hk 2 rfl dM_close_54 rfl ?_
                  refine qn_imul hk dM_close_55 ?_
                  refine qv_iload hk 5 rfl dM_close_56 ?_
                  refine qn_iadd hk dM_close_58 ?_
                  refine qv_iconst (v := nI 1) hk dM_close_59 (by decide) ?_
                  refine sM_shut hk (by decide) (by omega) dM_close_60 ?_
                  refine qv_iload hk 0 rfl dM_close_61 ?_
                  refine qv_if_ne (tgt := 84) hk dM_close_63 (by decide) (fun _ => ?_) (fun h => absurd h (by decide))
                  refine qv_iinc (v := nI ((f + j) + 1)) (lv' := [(5, .int (nI ((f + j) + 1))), (6, .int 1), (0, .ref (a 0)), (1, .int (nI st)), (3, .int (nI e)), (4, .int (nI c))]) hk 5 rfl dM_close_84 (qn_inc _) (by decide) rfl ?_
                  refine qv_goto (tgt := 34) hk dM_close_87 (by decide) ?_
                  refine qv_sub [2, 3, 4, 5, 0] rfl ?_
                  exact ih34 (j + 1) ((up2 S1 3 ((16 * st) + (f + j)) (nI 1))) c (by omega) (by omega) (cm_a hA hst hb).1 (by rw [clN, (cm_a hA hst hb).2, hc]; rfl)
                · refine qv_istore (lv' := [(6, .int 0), (0, .ref (a 0)), (1, .int (nI st)), (3, .int (nI e)), (4, .int (nI c)), (5, .int (nI (f + j)))]) hk dM_close_46 (by decide) rfl ?_
                  refine qv_aload_n hk 1 rfl dM_close_48 rfl ?_
                  refine gM_shut hk dM_close_49 ?_
                  refine qv_bipush (v := nI 16) hk dM_close_52 (by decide) ?_
                  refine qv_iload_n hk 2 rfl dM_close_54 rfl ?_
                  refine qn_imul hk dM_close_55 ?_
                  refine qv_iload hk 5 rfl dM_close_56 ?_
                  refine qn_iadd hk dM_close_58 ?_
                  refine qv_iconst (v := nI 1) hk dM_close_59 (by decide) ?_
                  refine sM_shut hk (by decide) (by omega) dM_close_60 ?_
                  refine qv_iload hk 0 rfl dM_close_61 ?_
                  refine qv_if_ne (tgt := 84) hk dM_close_63 (by decide) (fun h => absurd h (by decide)) (fun _ => ?_)
                  refine qv_aload_n hk 1 rfl dM_close_66 rfl ?_
                  refine qv_iload hk 5 rfl dM_close_67 ?_
                  refine callMI (As := [.int (nI (f + j))]) (rest := []) hk (qm_finished l D a cI cZ (up2 S1 3 ((16 * st) + (f + j)) (nI 1)) (f + j) (by omega)) gM_finished (by decide) rfl rfl (Nat.le_of_ble_eq_true rfl) dM_close_69 (fun r69 S69 hw => ?_)
                  obtain ⟨hw, e2⟩ := hw
                  refine qv_state e2 ?_
                  rcases hw with ⟨rfl, hc2⟩ | ⟨rfl, hc2⟩
                  · refine qv_if_eq (tgt := 84) hk dM_close_72 (by decide) (fun h => absurd h (by decide)) (fun _ => ?_)
                    refine qv_aload_n hk 1 rfl dM_close_75 rfl ?_
                    refine qv_iload hk 5 rfl dM_close_76 ?_
                    refine callMN (As := [.int (nI (f + j))]) (rest := []) hk (qm_finish l D a cI cZ (up2 S1 3 (16 * st + (f + j)) (nI 1)) (clN st f j q0).1.1 (hA.1.same (fun c hc => if_neg (by omega))) (clN st f j q0).1.2.2 (hA.2.2.1.cong rfl rfl rfl rfl rfl rfl) (f + j) (by omega)) gM_finish (by decide) rfl rfl (Nat.le_of_ble_eq_true rfl) dM_close_78 (fun S78 hw78 => ?_)
                    have hcc := cm_c hA hst hb hc2 hw78
                    refine qv_iinc (v := nI (c + 1)) (lv' := [(4, .int (nI (c + 1))), (6, .int 0), (0, .ref (a 0)), (1, .int (nI st)), (3, .int (nI e)), (5, .int (nI (f + j)))]) hk 4 rfl dM_close_81 (qn_inc _) (by decide) rfl ?_
                    refine qv_iinc (v := nI ((f + j) + 1)) (lv' := [(5, .int (nI ((f + j) + 1))), (4, .int (nI (c + 1))), (6, .int 0), (0, .ref (a 0)), (1, .int (nI st)), (3, .int (nI e))]) hk 5 rfl dM_close_84 (qn_inc _) (by decide) rfl ?_
                    refine qv_goto (tgt := 34) hk dM_close_87 (by decide) ?_
                    refine qv_sub [3, 4, 5, 1, 0] rfl ?_
                    exact ih34 (j + 1) S78 ((c + 1)) (by omega) (by omega) hcc.1 (by rw [clN, hcc.2, hc])
                  · refine qv_if_eq (tgt := 84) hk dM_close_72 (by decide) (fun _ => ?_) (fun h => absurd h (by decide))
                    refine qv_iinc (v := nI ((f + j) + 1)) (lv' := [(5, .int (nI ((f + j) + 1))), (6, .int 0), (0, .ref (a 0)), (1, .int (nI st)), (3, .int (nI e)), (4, .int (nI c))]) hk 5 rfl dM_close_84 (qn_inc _) (by decide) rfl ?_
                    refine qv_goto (tgt := 34) hk dM_close_87 (by decide) ?_
                    refine qv_sub [2, 3, 4, 5, 0] rfl ?_
                    exact ih34 (j + 1) ((up2 S1 3 (16 * st + (f + j)) (nI 1))) c (by omega) (by omega) (cm_b hA hst hc2).1 (by rw [clN, (cm_b hA hst hc2).2, hc]; rfl)
          refine qv_sub [2, 3, 5, 1, 0] rfl ?_
          exact L34 _ 0 S 0 (Nat.lt_succ_self _) (by omega) h0 rfl
        · refine qv_bipush (v := -2) hk dM_close_25 (by decide) ?_
          exact hret ((-2)) S [(0, .ref (a 0)), (1, .int (nI st)), (2, .int x2), (3, .int x3)] 27 (Or.inr (Or.inl ⟨⟨st, hst, rfl⟩, rng_n15 h22, rfl, rfl⟩)) rfl dM_close_27
  · refine qv_if_eq (tgt := 10) hk dM_close_5 (by decide) (fun h => absurd h (by decide)) (fun _ => ?_)
    refine qv_iconst (v := -1) hk dM_close_8 (by decide) ?_
    exact hret ((-1)) S [(0, .ref (a 0)), (1, .int x1), (2, .int x2), (3, .int x3)] 9 (Or.inl ⟨hst, rfl, rfl⟩) rfl dM_close_9
end
section
/-! both sides tied to one value: the lists are the same up to order, the rest is the same -/
def rel (qx qm : QA) : Prop := (∀ st, st < 2 → (qx.1 st).Perm (qm.1 st)) ∧ qx.2.1 = qm.2.1 ∧ qx.2.2 = qm.2.2
def Inv (S T : QS) : Prop := ∃ qx qm : QA, XA S qx ∧ MA T qm ∧ rel qx qm
theorem pl_perm {A A' B B' : List QT} (hA : A.Perm A') (hB : B.Perm B') (q : Nat) (p : Int32) : p ∈ pl q A B ↔ p ∈ pl q A' B' := by
  rw [mem_pl, mem_pl]
  constructor
  · rintro ⟨t, ht, u, hu, h⟩
    exact ⟨t, hA.mem_iff.mp ht, u, hB.mem_iff.mp hu, h⟩
  · rintro ⟨t, ht, u, hu, h⟩
    exact ⟨t, hA.mem_iff.mpr ht, u, hB.mem_iff.mpr hu, h⟩
theorem loF_perm {A A' B B' : List QT} (hA : A.Perm A') (hB : B.Perm B') (q : Nat) : loF q A B = loF q A' B' := mn_uniq (pl_perm hA hB q)
theorem hiF_perm {A A' B B' : List QT} (hA : A.Perm A') (hB : B.Perm B') (q : Nat) : hiF q A B = hiF q A' B' := mx_uniq (pl_perm hA hB q)
theorem fnR_perm {A A' B B' : List QT} (hA : A.Perm A') (hB : B.Perm B') (q : Nat) (R : List QE) : fnR q A B R = fnR q A' B' R := by
  unfold fnR
  rw [cK_perm hA, cK_perm hB, sK_perm hA, sK_perm hB, loF_perm hA hB, hiF_perm hA hB]
theorem pF_perm {A A' B B' : List QT} (hA : A.Perm A') (hB : B.Perm B') (b : Int32) : pF b A B = pF b A' B' := by
  have e : ∀ t, pt b t B = pt b t B' := fun t => hB.countP_eq _
  unfold pF
  rw [show (fun t => pt b t B) = (fun t => pt b t B') from funext e]
  induction hA with
  | nil => rfl
  | cons x _ ih => rw [List.map_cons, List.map_cons, List.sum_cons, List.sum_cons, ih]
  | swap x y l => simp only [List.map_cons, List.sum_cons]; omega
  | trans _ _ ih1 ih2 => exact ih1.trans ih2
theorem clS_rel {qx qm : QA} (h : rel qx qm) (st k : Nat) : rel (clS st k qx) (clS st k qm) ∧ clC st k qx = clC st k qm := by
  obtain ⟨h1, h2, h3⟩ := h
  unfold clS clC
  rw [← h2, ← h3]
  refine ⟨?_, rfl⟩
  by_cases a : qx.2.1 (16 * st + k) = 0
  · rw [if_pos a, if_pos a]
    by_cases b : qx.2.1 (16 * (1 - st) + k) = 0
    · rw [if_pos b, if_pos b]
      exact ⟨h1, rfl, rfl⟩
    · rw [if_neg b, if_neg b]
      exact ⟨fun st hst => (h1 st hst).filter _, rfl, fnR_perm (h1 0 (by omega)) (h1 1 (by omega)) k _⟩
  · rw [if_neg a, if_neg a]
    exact ⟨h1, h2, h3⟩
theorem clN_rel {qx qm : QA} (h : rel qx qm) (st f : Nat) : ∀ n, rel (clN st f n qx).1 (clN st f n qm).1 ∧ (clN st f n qx).2 = (clN st f n qm).2
  | 0 => ⟨h, rfl⟩
  | n + 1 => by
    obtain ⟨h1, h2⟩ := clN_rel h st f n
    obtain ⟨h3, h4⟩ := clS_rel h1 st (f + n)
    exact ⟨h3, by rw [clN, clN, h2, h4]⟩
theorem feedA_eq {L L' : QL} {Z : Nat → Int32} {x1 x2 x3 r r' : Int32} {sm sm' : Prop} {nx nx' : Nat → Nat → Prop} (hl : ∀ st, st < 2 → (L st).length = (L' st).length) (h : feedA L Z x1 x2 x3 r sm nx) (h' : feedA L' Z x1 x2 x3 r' sm' nx') : r = r' ∧ ((sm ∧ sm') ∨ ∃ st q, st < 2 ∧ q < 16 ∧ okV x3 ∧ (L st).length < 40 ∧ nx st q ∧ nx' st q) := by
  rcases h with ⟨a, b, c⟩ | ⟨a, b, c, d⟩ | ⟨a, b, c, d, e⟩ | ⟨st, q, hst, hq, e1, e2, hv, h⟩
  · rcases h' with ⟨a', b', c'⟩ | ⟨a', b', c', d'⟩ | ⟨a', b', c', d', e'⟩ | ⟨st', q', hst', hq', e1', e2', hv', h'⟩
    · exact ⟨by rw [b, b'], Or.inl ⟨c, c'⟩⟩
    · exact absurd a' a
    · exact absurd a' a
    · exact absurd ⟨st', hst', e1'⟩ a
  · rcases h' with ⟨a', b', c'⟩ | ⟨a', b', c', d'⟩ | ⟨a', b', c', d', e'⟩ | ⟨st', q', hst', hq', e1', e2', hv', h'⟩
    · exact absurd a a'
    · exact ⟨by rw [c, c'], Or.inl ⟨d, d'⟩⟩
    · exact absurd b' b
    · exact absurd ⟨q', hq', e2'⟩ b
  · rcases h' with ⟨a', b', c'⟩ | ⟨a', b', c', d'⟩ | ⟨a', b', c', d', e'⟩ | ⟨st', q', hst', hq', e1', e2', hv', h'⟩
    · exact absurd a a'
    · exact absurd b b'
    · exact ⟨by rw [d, d'], Or.inl ⟨e, e'⟩⟩
    · exact absurd hv' c
  · rcases h' with ⟨a', b', c'⟩ | ⟨a', b', c', d'⟩ | ⟨a', b', c', d', e'⟩ | ⟨st', q', hst', hq', e1', e2', hv', h'⟩
    · exact absurd ⟨st, hst, e1⟩ a'
    · exact absurd ⟨q, hq, e2⟩ b'
    · exact absurd hv c'
    · have u1 := isN_uniq (by omega) (by omega) (e1.symm.trans e1')
      have u2 := isN_uniq (by omega) (by omega) (e2.symm.trans e2')
      subst u1; subst u2
      have hll := hl st hst
      rcases h with ⟨z, b, c⟩ | ⟨z, ⟨y, b, c⟩ | ⟨y, b, c⟩⟩
      · rcases h' with ⟨z', b', c'⟩ | ⟨z', h'⟩
        · exact ⟨by rw [b, b'], Or.inl ⟨c, c'⟩⟩
        · exact absurd z' z
      · rcases h' with ⟨z', b', c'⟩ | ⟨z', ⟨y', b', c'⟩ | ⟨y', b', c'⟩⟩
        · exact absurd z z'
        · exact ⟨by rw [b, b'], Or.inl ⟨c, c'⟩⟩
        · omega
      · rcases h' with ⟨z', b', c'⟩ | ⟨z', ⟨y', b', c'⟩ | ⟨y', b', c'⟩⟩
        · exact absurd z z'
        · omega
        · exact ⟨by rw [b, b', hll], Or.inr ⟨st, q, hst, hq, hv, y, c, c'⟩⟩
theorem retA_eq {L L' : QL} {x1 x2 x3 r r' : Int32} {sm sm' : Prop} {nx nx' : Nat → Nat → Prop} (hl : ∀ st, st < 2 → (L st).Perm (L' st)) (h : retA L x1 x2 x3 r sm nx) (h' : retA L' x1 x2 x3 r' sm' nx') : r = r' ∧ ((sm ∧ sm') ∨ ∃ st q, st < 2 ∧ q < 16 ∧ nx st q ∧ nx' st q) := by
  rcases h with ⟨a, b, c⟩ | ⟨a, b, c, d⟩ | ⟨st, q, hst, hq, e1, e2, h⟩
  · rcases h' with ⟨a', b', c'⟩ | ⟨a', b', c', d'⟩ | ⟨st', q', hst', hq', e1', e2', h'⟩
    · exact ⟨by rw [b, b'], Or.inl ⟨c, c'⟩⟩
    · exact absurd a' a
    · exact absurd ⟨st', hst', e1'⟩ a
  · rcases h' with ⟨a', b', c'⟩ | ⟨a', b', c', d'⟩ | ⟨st', q', hst', hq', e1', e2', h'⟩
    · exact absurd a a'
    · exact ⟨by rw [c, c'], Or.inl ⟨d, d'⟩⟩
    · exact absurd ⟨q', hq', e2'⟩ b
  · rcases h' with ⟨a', b', c'⟩ | ⟨a', b', c', d'⟩ | ⟨st', q', hst', hq', e1', e2', h'⟩
    · exact absurd ⟨st, hst, e1⟩ a'
    · exact absurd ⟨q, hq, e2⟩ b'
    · have u1 := isN_uniq (by omega) (by omega) (e1.symm.trans e1')
      have u2 := isN_uniq (by omega) (by omega) (e2.symm.trans e2')
      subst u1; subst u2
      have hp := hl st hst
      rcases h with ⟨z, b, c⟩ | ⟨z, b, c⟩
      · rcases h' with ⟨z', b', c'⟩ | ⟨z', b', c'⟩
        · exact ⟨by rw [b, b'], Or.inl ⟨c, c'⟩⟩
        · exact absurd (hp.mem_iff.mpr z') z
      · rcases h' with ⟨z', b', c'⟩ | ⟨z', b', c'⟩
        · exact absurd (hp.mem_iff.mp z) z'
        · exact ⟨by rw [b, b', hp.length_eq], Or.inr ⟨st, q, hst, hq, c, c'⟩⟩
theorem XA.keep {S S2 : QS} {q : QA} {L : QL} (h : XA S q) (hL : XR S2 L) (e : ∀ c, 5 ≤ c → S2 c = S c) : XA S2 (L, q.2.1, q.2.2) := ⟨hL, (e 5 (by omega)).trans h.2.1, h.2.2.cong (by rw [e 11 (by omega)]) (e 6 (by omega)) (e 7 (by omega)) (e 8 (by omega)) (e 9 (by omega)) (e 10 (by omega))⟩
theorem MA.keep {S S2 : QS} {q : QA} {L : QL} (h : MA S q) (hL : MR S2 L) (e : ∀ c, 3 ≤ c → S2 c = S c) : MA S2 (L, q.2.1, q.2.2) := ⟨hL, (e 3 (by omega)).trans h.2.1, h.2.2.1.cong (by rw [e 9 (by omega)]) (e 4 (by omega)) (e 5 (by omega)) (e 6 (by omega)) (e 7 (by omega)) (e 8 (by omega)), h.2.2.2⟩
theorem XA.sameX {S S2 : QS} {q : QA} (h : XA S q) (e : sameX S2 S) : XA S2 q := ⟨h.1.same (fun c hc => e.1 c (by omega)), (e.1 5 (by decide)).trans h.2.1, h.2.2.cong e.2 (e.1 6 (by decide)) (e.1 7 (by decide)) (e.1 8 (by decide)) (e.1 9 (by decide)) (e.1 10 (by decide))⟩
theorem MA.sameM {S S2 : QS} {q : QA} (h : MA S q) (e : sameM S2 S) : MA S2 q := ⟨h.1.same (fun c hc => e.1 c (by omega)), (e.1 3 (by decide)).trans h.2.1, h.2.2.1.cong e.2 (e.1 4 (by decide)) (e.1 5 (by decide)) (e.1 6 (by decide)) (e.1 7 (by decide)) (e.1 8 (by decide)), h.2.2.2⟩
theorem va_up_perm {L L' : QL} (h : ∀ st, st < 2 → (L st).Perm (L' st)) (st : Nat) {l l' : List QT} (e : l.Perm l') : ∀ s, s < 2 → (va_up L st l s).Perm (va_up L' st l' s) := by
  intro s hs
  by_cases z : s = st
  · rw [z, va_up_self, va_up_self]; exact e
  · rw [va_up_ne _ _ z, va_up_ne _ _ z]; exact h s hs
section LawCases
variable {S S2 T T2 : QS} {qx qm : QA} {x1 x2 x3 r r' : Int32}
theorem lw_feed (hX : XA S qx) (hM : MA T qm) (hr : rel qx qm) (h1 : feedA qx.1 (S 5) x1 x2 x3 r (S2 = S) (fun st q => S2 = fdF S st q (cP q x3 (qx.1 st)) (qx.1 st).length x3)) (h2 : feedA qm.1 (T 3) x1 x2 x3 r' (T2 = T) (fun st q => T2 = mfd T st q (qm.1 st).length x3)) : r = r' ∧ Inv S2 T2 := by
  rw [hX.2.1] at h1
  rw [hM.2.1, ← hr.2.1] at h2
  obtain ⟨e, h | ⟨st, q, hst, hq, hv, hl, e1, e2⟩⟩ := feedA_eq (fun st hst => (hr.1 st hst).length_eq) h1 h2
  · exact ⟨e, qx, qm, by rw [h.1]; exact hX, by rw [h.2]; exact hM, hr⟩
  · have hp := hr.1 st hst
    have a1 : XR S2 (va_up qx.1 st (ins (qx.1 st) (cP q x3 (qx.1 st)) (q, x3))) := by
      rw [e1]
      exact feed_ok hX.1 hst hq hv.1 hv.2 hl
    have a2 : MR T2 (va_up qm.1 st (qm.1 st ++ [(q, x3)])) := by
      rw [e2]
      exact mfd_ok hM.1 hst hq hv (by rw [← hp.length_eq]; exact hl)
    have b1 : ∀ c, 5 ≤ c → S2 c = S c := by
      rw [e1]
      exact fdF_hi _ _ _ _ _ _
    have b2 : ∀ c, 3 ≤ c → T2 c = T c := by
      rw [e2]
      exact mfd_hi _ _ _ _ _
    exact ⟨e, _, _, hX.keep a1 b1, hM.keep a2 b2, va_up_perm hr.1 st ((ins_perm _ _ _).trans ((hp.cons _).trans (List.perm_append_singleton _ _).symm)), hr.2.1, hr.2.2⟩
theorem lw_retract (hX : XA S qx) (hM : MA T qm) (hr : rel qx qm) (h1 : retA qx.1 x1 x2 x3 r (S2 = S) (fun st q => ∃ p, (qx.1 st)[p]? = some (q, x3) ∧ S2 = rmF S st q p 1 (qx.1 st).length (S 4 (16 * st + q) - x3))) (h2 : retA qm.1 x1 x2 x3 r' (T2 = T) (fun st q => ∃ p, (qm.1 st)[p]? = some (q, x3) ∧ T2 = mtk T st p (qm.1 st).length)) : r = r' ∧ Inv S2 T2 := by
  obtain ⟨e, h | ⟨st, q, hst, hq, ⟨p, hp, e1⟩, ⟨p', hp', e2⟩⟩⟩ := retA_eq hr.1 h1 h2
  · exact ⟨e, qx, qm, by rw [h.1]; exact hX, by rw [h.2]; exact hM, hr⟩
  · have a1 : XR S2 (va_up qx.1 st (rmv (qx.1 st) p 1)) := by
      rw [e1]
      exact retr_ok hX.1 hst hq hp
    have a2 : MR T2 (va_up qm.1 st (rmv (qm.1 st) p' 1)) := by
      rw [e2]
      exact tk_ok hM.1 hst (List.getElem?_eq_some_iff.mp hp').1
    have b1 : ∀ c, 5 ≤ c → S2 c = S c := by
      rw [e1]
      exact rmF_hi _ _ _ _ _ _ _
    have b2 : ∀ c, 3 ≤ c → T2 c = T c := by
      rw [e2]
      exact mtk_hi _ _ _ _
    exact ⟨e, _, _, hX.keep a1 b1, hM.keep a2 b2, va_up_perm hr.1 st (((rmv_perm hp).symm.trans ((hr.1 st hst).trans (rmv_perm hp'))).cons_inv), hr.2.1, hr.2.2⟩
theorem lw_close (hr : rel qx qm) (hX : XA S qx) (hM : MA T qm) (h1 : cloA qx x1 x2 x3 r (S2 = S) (fun q => XA S2 q)) (h2 : cloA qm x1 x2 x3 r' (T2 = T) (fun q => MA T2 q)) : r = r' ∧ Inv S2 T2 := by
  rcases h1 with ⟨a, b, c⟩ | ⟨a, b, c, d⟩ | ⟨st, f, e, hst, hfe, he, e1, e2, e3, h, hn⟩
  · rcases h2 with ⟨a', b', c'⟩ | ⟨a', b', c', d'⟩ | ⟨st', f', e', hst', hfe', he', e1', e2', e3', h', hn'⟩
    · exact ⟨by rw [b, b'], qx, qm, by rw [c]; exact hX, by rw [c']; exact hM, hr⟩
    · exact absurd a' a
    · exact absurd ⟨st', hst', e1'⟩ a
  · rcases h2 with ⟨a', b', c'⟩ | ⟨a', b', c', d'⟩ | ⟨st', f', e', hst', hfe', he', e1', e2', e3', h', hn'⟩
    · exact absurd a a'
    · exact ⟨by rw [c, c'], qx, qm, by rw [d]; exact hX, by rw [d']; exact hM, hr⟩
    · exact absurd ⟨f', e', hfe', he', e2', e3'⟩ b
  · rcases h2 with ⟨a', b', c'⟩ | ⟨a', b', c', d'⟩ | ⟨st', f', e', hst', hfe', he', e1', e2', e3', h', hn'⟩
    · exact absurd ⟨st, hst, e1⟩ a'
    · exact absurd ⟨f, e, hfe, he, e2, e3⟩ b'
    · have u1 := isN_uniq (by omega) (by omega) (e1.symm.trans e1')
      have u2 := isN_uniq (by omega) (by omega) (e2.symm.trans e2')
      have u3 := isN_uniq (by omega) (by omega) (e3.symm.trans e3')
      subst u1; subst u2; subst u3
      obtain ⟨hrel, hc⟩ := clN_rel hr st f (e + 1 - f)
      exact ⟨by rw [h, h', hc], _, _, hn, hn', hrel⟩
theorem lw_same (hX : XA S qx) (hM : MA T qm) (hr : rel qx qm) (e1 : S2 = S) (e2 : T2 = T) : Inv S2 T2 := ⟨qx, qm, by rw [e1]; exact hX, by rw [e2]; exact hM, hr⟩
theorem lw_held (hX : XA S qx) (hM : MA T qm) (hr : rel qx qm) (h1 : qans x1 2 (-1) (fun st => nI (qx.1 st).length) r ∧ S2 = S) (h2 : qans x1 2 (-1) (fun st => nI (qm.1 st).length) r' ∧ T2 = T) : r = r' ∧ Inv S2 T2 :=
  ⟨qans_eq (by decide) h1.1 h2.1 (fun st hst => by rw [(hr.1 st hst).length_eq]), lw_same hX hM hr h1.2 h2.2⟩
theorem lw_heldWith (hX : XA S qx) (hM : MA T qm) (hr : rel qx qm) (h1 : qans2 x1 x2 (fun st q => nI (cK q (qx.1 st))) r ∧ S2 = S) (h2 : qans2 x1 x2 (fun st q => nI (cK q (qm.1 st))) r' ∧ T2 = T) : r = r' ∧ Inv S2 T2 :=
  ⟨qans2_eq h1.1 h2.1 (fun st q hst _ => by rw [cK_perm (hr.1 st hst)]), lw_same hX hM hr h1.2 h2.2⟩
theorem lw_closed (hX : XA S qx) (hM : MA T qm) (hr : rel qx qm) (h1 : qans2 x1 x2 (fun st q => if S 5 (16 * st + q) = 0 then 0 else 1) r ∧ S2 = S) (h2 : qans2 x1 x2 (fun st q => if T 3 (16 * st + q) = 0 then 0 else 1) r' ∧ T2 = T) : r = r' ∧ Inv S2 T2 :=
  ⟨qans2_eq h1.1 h2.1 (fun st q _ _ => by rw [hX.2.1, hM.2.1, hr.2.1]), lw_same hX hM hr h1.2 h2.2⟩
theorem lw_results (hX : XA S qx) (hM : MA T qm) (hr : rel qx qm) (h1 : r = S 11 0 ∧ S2 = S) (h2 : r' = T 9 0 ∧ T2 = T) : r = r' ∧ Inv S2 T2 :=
  ⟨by rw [h1.1, h2.1, hX.2.2.1, hM.2.2.1.1, hr.2.2], lw_same hX hM hr h1.2 h2.2⟩
theorem lw_out (hX : XA S qx) (hM : MA T qm) (hr : rel qx qm) {cx cm : Nat} {d : Int32} (hc : (cx = 6 ∧ cm = 4) ∨ (cx = 7 ∧ cm = 5) ∨ (cx = 8 ∧ cm = 6) ∨ (cx = 9 ∧ cm = 7) ∨ (cx = 10 ∧ cm = 8)) (h1 : qans x1 qx.2.2.length d (S cx) r ∧ S2 = S) (h2 : qans x1 qm.2.2.length d (T cm) r' ∧ T2 = T) : r = r' ∧ Inv S2 T2 := by
  refine ⟨?_, lw_same hX hM hr h1.2 h2.2⟩
  have h16 := hX.2.2.2.1
  have h2 := h2.1
  rw [← hr.2.2] at h2
  refine qans_eq (by omega) h1.1 h2 (fun i hi => ?_)
  obtain ⟨e, he⟩ := getq hi
  have a := hX.2.2.2.2 i e he
  have b := hM.2.2.1.2.2 i e (by rw [← hr.2.2]; exact he)
  rcases hc with ⟨rfl, rfl⟩ | ⟨rfl, rfl⟩ | ⟨rfl, rfl⟩ | ⟨rfl, rfl⟩ | ⟨rfl, rfl⟩
  · rw [a.2.1, b.2.1]
  · rw [a.2.2.1, b.2.2.1]
  · rw [a.2.2.2.1, b.2.2.2.1]
  · rw [a.2.2.2.2.1, b.2.2.2.2.1]
  · rw [a.2.2.2.2.2, b.2.2.2.2.2]
theorem lw_pairs (hX : XA S qx) (hM : MA T qm) (hr : rel qx qm) (h1 : qans x1 16 (-1) (fun q => nI (cK q (qx.1 0) * cK q (qx.1 1))) r ∧ S2 = S) (h2 : qans x1 16 (-1) (fun q => nI (cK q (qm.1 0) * cK q (qm.1 1))) r' ∧ sameM T2 T) : r = r' ∧ Inv S2 T2 :=
  ⟨qans_eq (by decide) h1.1 h2.1 (fun q _ => by rw [cK_perm (hr.1 0 (by omega)), cK_perm (hr.1 1 (by omega))]), qx, qm, by rw [h1.2]; exact hX, hM.sameM h2.2, hr⟩
theorem lw_sum (hX : XA S qx) (hM : MA T qm) (hr : rel qx qm) (h1 : qans x1 16 0 (fun q => sK q (qx.1 0) * sK q (qx.1 1)) r ∧ S2 = S) (h2 : qans x1 16 0 (fun q => sK q (qm.1 0) * sK q (qm.1 1)) r' ∧ sameM T2 T) : r = r' ∧ Inv S2 T2 :=
  ⟨qans_eq (by decide) h1.1 h2.1 (fun q _ => by rw [sK_perm (hr.1 0 (by omega)), sK_perm (hr.1 1 (by omega))]), qx, qm, by rw [h1.2]; exact hX, hM.sameM h2.2, hr⟩
theorem lw_least (hX : XA S qx) (hM : MA T qm) (hr : rel qx qm) (h1 : qans x1 16 10000 (fun q => loF q (qx.1 0) (qx.1 1)) r ∧ sameX S2 S) (h2 : qans x1 16 10000 (fun q => loF q (qm.1 0) (qm.1 1)) r' ∧ sameM T2 T) : r = r' ∧ Inv S2 T2 :=
  ⟨qans_eq (by decide) h1.1 h2.1 (fun q _ => loF_perm (hr.1 0 (by omega)) (hr.1 1 (by omega)) q), qx, qm, hX.sameX h1.2, hM.sameM h2.2, hr⟩
theorem lw_greatest (hX : XA S qx) (hM : MA T qm) (hr : rel qx qm) (h1 : qans x1 16 (-10000) (fun q => hiF q (qx.1 0) (qx.1 1)) r ∧ sameX S2 S) (h2 : qans x1 16 (-10000) (fun q => hiF q (qm.1 0) (qm.1 1)) r' ∧ sameM T2 T) : r = r' ∧ Inv S2 T2 :=
  ⟨qans_eq (by decide) h1.1 h2.1 (fun q _ => hiF_perm (hr.1 0 (by omega)) (hr.1 1 (by omega)) q), qx, qm, hX.sameX h1.2, hM.sameM h2.2, hr⟩
theorem lw_pairsFrom (hX : XA S qx) (hM : MA T qm) (hr : rel qx qm) (h1 : r = nI (pF x1 (qx.1 0) (qx.1 1)) ∧ S2 = S) (h2 : r' = nI (pF x1 (qm.1 0) (qm.1 1)) ∧ T2 = T) : r = r' ∧ Inv S2 T2 :=
  ⟨by rw [h1.1, h2.1, pF_perm (hr.1 0 (by omega)) (hr.1 1 (by omega))], lw_same hX hM hr h1.2 h2.2⟩
theorem lw_bands (hX : XA S qx) (hM : MA T qm) (hr : rel qx qm) (h1 : r = nI (bC (S 5) 4) ∧ S2 = S) (h2 : r' = nI (bC (T 3) 4) ∧ T2 = T) : r = r' ∧ Inv S2 T2 :=
  ⟨by rw [h1.1, h2.1, hX.2.1, hM.2.1, hr.2.1], lw_same hX hM hr h1.2 h2.2⟩
theorem lw_bandSum (hX : XA S qx) (hM : MA T qm) (hr : rel qx qm) (h1 : qans x1 4 (-1000000) (fun g => if bD (S 5) g = true then bS g qx.2.2 else -2000000) r ∧ S2 = S) (h2 : qans x1 4 (-1000000) (fun g => if bD (T 3) g = true then bS g qm.2.2 else -2000000) r' ∧ T2 = T) : r = r' ∧ Inv S2 T2 :=
  ⟨qans_eq (by decide) h1.1 h2.1 (fun g _ => by rw [hX.2.1, hM.2.1, hr.2.1, hr.2.2]), lw_same hX hM hr h1.2 h2.2⟩
end LawCases
/-- the start: everything is empty -/
theorem Inv_0 : Inv (fun _ _ => 0) (fun _ _ => 0) := by
  refine ⟨(fun _ => [], fun _ => 0, []), (fun _ => [], fun _ => 0, []), ⟨fun st hst => ?_, rfl, ?_⟩, ⟨fun st hst => ?_, rfl, ?_, fun _ => Or.inl rfl⟩, fun _ _ => List.Perm.refl _, rfl, rfl⟩
  · exact ⟨Nat.zero_le _, rfl, fun i t h => by simp at h, fun t h => by simp at h, List.Pairwise.nil, fun k _ => rfl, fun k _ => rfl⟩
  · exact ⟨rfl, Nat.zero_le _, fun i e h => by simp at h⟩
  · exact ⟨Nat.zero_le _, rfl, fun i t h => by simp at h, fun t h => by simp at h⟩
  · exact ⟨rfl, Nat.zero_le _, fun i e h => by simp at h⟩
end
section
theorem ra_int {D : va_G} {tys : List (ClassId × FieldType)} {s : State} (hK : va_K D classes tys s) {i j : Nat} {c1 c2 : ClassId} {ty : FieldType} (ht : ty = .int ∨ ty = .boolean) (h1 : tys[i]? = some (c1, ty)) (h2 : tys[j]? = some (c2, ty)) : c1 = c2 := by
  have a := (hK.2 i _ h1).2
  have b := (hK.2 j _ h2).2
  rcases ht with rfl | rfl
  · exact Option.some.inj (a.symm.trans b)
  · exact Option.some.inj (a.symm.trans b)
set_option maxHeartbeats 4000000 in
set_option maxRecDepth 100000 in
theorem qx_init (l : Launch) (D : va_G) (h0 sz : Nat) : Met l yX_init wX_init rX_init (va_Pc [.ref h0] (fun U => U.heap.size = sz ∧ va_P D classes [(h0, .inr (0, [.null, .null, .null, .null, .null, .null, .null, .null, .null, .null, .null, .int 0, .int 0, .int 0]))] U.heap ∧ va_K D classes [] U ∧ va_D (fun _ => True) [(h0, .inr (0, [.null, .null, .null, .null, .null, .null, .null, .null, .null, .null, .null, .int 0, .int 0, .int 0]))])) (va_Qv (fun _ : Unit => True) (fun _ t => ∃ (a : Nat → Nat) (cI cZ : ClassId), a 0 = h0 ∧ va_P D classes (xw a cI cZ (fun _ _ => 0)) t.heap ∧ va_K D classes (qty cI cZ) t ∧ va_D (va_A [(h0, .inr (0, [.null, .null, .null, .null, .null, .null, .null, .null, .null, .null, .null, .int 0, .int 0, .int 0]))] sz) (xw a cI cZ (fun _ _ => 0))) (va_A [(h0, .inr (0, [.null, .null, .null, .null, .null, .null, .null, .null, .null, .null, .null, .int 0, .int 0, .int 0]))] sz)) 11 340 (va_A [(h0, .inr (0, [.null, .null, .null, .null, .null, .null, .null, .null, .null, .null, .null, .int 0, .int 0, .int 0]))] sz) := by
  refine Met.ofW (cc := bX_init) (maxL := 1) (ret := none) (by decide) rfl ?_
  intro p e s m args below meth c s₁ B hml hv
  obtain ⟨rfl, hsz, hP, hK, hD0⟩ := hv
  have hx := B.exec
  have hb := B.bytes
  have hr := B.returns
  have hts0 := atoms_spec (ws := wX_init) B.pre
  have hts : ∀ w ∈ lw_ok, w.before ([.ref h0] : List Value).toArray s = true := fun w h => hts0 w (List.mem_cons_of_mem _ h)
  have hown : s.vm.findClass R_X = some m.cls := findClass_of_methodNamed B.named
  have hlocks := B.notSynchronized
  have hin : meth.name = "<init>" := (name_of_methodNamed B.named B.method).1
  subst hsz
  have hD := hD0.self (sz := s.heap.size)
  generalize hAe : va_A [(h0, .inr (0, [.null, .null, .null, .null, .null, .null, .null, .null, .null, .null, .null, .int 0, .int 0, .int 0]))] s.heap.size = A at hD ⊢
  have hA : ∀ q : Nat, s.heap.size ≤ q → A q := fun q h => by rw [← hAe]; exact Or.inr h
  have hS : va_S A s.heap s.heap [] := va_S.rf
  have hl := lv_entry ([.ref h0]) (n := 1) (Nat.le_of_ble_eq_true rfl)
  rw [lg_entry_eq]
  generalize (lg_sl ([.ref h0]) ++ List.replicate (1 - (lg_sl ([.ref h0])).length) Slot.unset).toArray = ls at hl ⊢
  have hl : lv_has ls 1 [(0, .ref h0)] := hl
  refine lv_aload_n hx hb dX_init_0 rfl (lv_at hl 0 rfl) ?_
  refine W.objInit hx hb hown (hts _ k_ml_X_1) (hts _ k_im_objectInit) (hts _ k_co_objectInit) rfl (by rw [hml]; exact hl.1) rfl dX_init_1 (Nat.le_of_ble_eq_true rfl) (Nat.le_of_ble_eq_true rfl) ?_
  refine W.eq (g2 := F0 m 4 ls []) rfl ?_
  refine lv_aload_n hx hb dX_init_4 rfl (lv_at hl 0 rfl) ?_
  refine lv_bipush (v := 80) hx hb dX_init_5 (by decide) ?_
  refine va_newa (atype := .int) (ty := .int) (N' := 80) (a0 := (80, .inl (fun _ => 0))) hx hb (hts _ k_ar_int) rfl hK hP hD hS hA (fun _ => rfl) (by decide) (by decide) (by decide) (Nat.le_of_ble_eq_true rfl) (Nat.le_of_ble_eq_true rfl) dX_init_7 (fun q1 c1 H hK hP hD hS => ?_)
  have hK : va_K D classes [(c1, .int)] s := hK
  have hP : va_P D classes [(h0, .inr (0, [.null, .null, .null, .null, .null, .null, .null, .null, .null, .null, .null, .int 0, .int 0, .int 0])), (q1, .inl (c1, 80, .inl (fun _ => 0)))] H := hP
  have hD : va_D A [(h0, .inr (0, [.null, .null, .null, .null, .null, .null, .null, .null, .null, .null, .null, .int 0, .int 0, .int 0])), (q1, .inl (c1, 80, .inl (fun _ => 0)))] := hD
  refine W.widen (k := 1) (n := 80) (Nat.le_of_ble_eq_true rfl) (Nat.le_of_ble_eq_true rfl) ?_
  refine va_putF (D := D) (ci := 0) (v := .ref q1) (ty := .array .int) (C := R_X) (T := F_X) (N := 14) hx hb hts i_X t_X t_X_ok n_X hown hK hP hD hS 0 rfl rfl 0 (by decide) (hts _ k_fl_X_7) (fun _ h9 => h9) rfl hin rfl (by decide +kernel) rfl rfl (Nat.le_of_ble_eq_true rfl) dX_init_9 (fun H locs hP hD hS => ?_)
  have hP : va_P D classes [(h0, .inr (0, [.ref q1, .null, .null, .null, .null, .null, .null, .null, .null, .null, .null, .int 0, .int 0, .int 0])), (q1, .inl (c1, 80, .inl (fun _ => 0)))] H := hP
  have hD : va_D A [(h0, .inr (0, [.ref q1, .null, .null, .null, .null, .null, .null, .null, .null, .null, .null, .int 0, .int 0, .int 0])), (q1, .inl (c1, 80, .inl (fun _ => 0)))] := hD
  refine lv_aload_n hx hb dX_init_12 rfl (lv_at hl 0 rfl) ?_
  refine lv_bipush (v := 80) hx hb dX_init_13 (by decide) ?_
  refine va_newa (atype := .int) (ty := .int) (N' := 80) (a0 := (80, .inl (fun _ => 0))) hx hb (hts _ k_ar_int) rfl hK hP hD hS hA (fun _ => rfl) (by decide) (by decide) (by decide) (Nat.le_of_ble_eq_true rfl) (Nat.le_of_ble_eq_true rfl) dX_init_15 (fun q2 c2 H hK hP hD hS => ?_)
  have hc2 : c1 = c2 := ra_int hK (i := 0) (j := 1) (by decide) rfl rfl
  subst hc2
  have hK : va_K D classes [(c1, .int)] s := hK.sub [0] rfl
  have hP : va_P D classes [(h0, .inr (0, [.ref q1, .null, .null, .null, .null, .null, .null, .null, .null, .null, .null, .int 0, .int 0, .int 0])), (q1, .inl (c1, 80, .inl (fun _ => 0))), (q2, .inl (c1, 80, .inl (fun _ => 0)))] H := hP
  have hD : va_D A [(h0, .inr (0, [.ref q1, .null, .null, .null, .null, .null, .null, .null, .null, .null, .null, .int 0, .int 0, .int 0])), (q1, .inl (c1, 80, .inl (fun _ => 0))), (q2, .inl (c1, 80, .inl (fun _ => 0)))] := hD
  refine W.widen (k := 2) (n := 160) (Nat.le_of_ble_eq_true rfl) (Nat.le_of_ble_eq_true rfl) ?_
  refine va_putF (D := D) (ci := 0) (v := .ref q2) (ty := .array .int) (C := R_X) (T := F_X) (N := 14) hx hb hts i_X t_X t_X_ok n_X hown hK hP hD hS 0 rfl rfl 1 (by decide) (hts _ k_fl_X_13) (fun _ h9 => h9) rfl hin rfl (by decide +kernel) rfl rfl (Nat.le_of_ble_eq_true rfl) dX_init_17 (fun H locs hP hD hS => ?_)
  have hP : va_P D classes [(h0, .inr (0, [.ref q1, .ref q2, .null, .null, .null, .null, .null, .null, .null, .null, .null, .int 0, .int 0, .int 0])), (q1, .inl (c1, 80, .inl (fun _ => 0))), (q2, .inl (c1, 80, .inl (fun _ => 0)))] H := hP
  have hD : va_D A [(h0, .inr (0, [.ref q1, .ref q2, .null, .null, .null, .null, .null, .null, .null, .null, .null, .int 0, .int 0, .int 0])), (q1, .inl (c1, 80, .inl (fun _ => 0))), (q2, .inl (c1, 80, .inl (fun _ => 0)))] := hD
  refine lv_aload_n hx hb dX_init_20 rfl (lv_at hl 0 rfl) ?_
  refine lv_iconst (v := 2) hx hb dX_init_21 (by decide) ?_
  refine va_newa (atype := .int) (ty := .int) (N' := 2) (a0 := (2, .inl (fun _ => 0))) hx hb (hts _ k_ar_int) rfl hK hP hD hS hA (fun _ => rfl) (by decide) (by decide) (by decide) (Nat.le_of_ble_eq_true rfl) (Nat.le_of_ble_eq_true rfl) dX_init_22 (fun q3 c3 H hK hP hD hS => ?_)
  have hc3 : c1 = c3 := ra_int hK (i := 0) (j := 1) (by decide) rfl rfl
  subst hc3
  have hK : va_K D classes [(c1, .int)] s := hK.sub [0] rfl
  have hP : va_P D classes [(h0, .inr (0, [.ref q1, .ref q2, .null, .null, .null, .null, .null, .null, .null, .null, .null, .int 0, .int 0, .int 0])), (q1, .inl (c1, 80, .inl (fun _ => 0))), (q2, .inl (c1, 80, .inl (fun _ => 0))), (q3, .inl (c1, 2, .inl (fun _ => 0)))] H := hP
  have hD : va_D A [(h0, .inr (0, [.ref q1, .ref q2, .null, .null, .null, .null, .null, .null, .null, .null, .null, .int 0, .int 0, .int 0])), (q1, .inl (c1, 80, .inl (fun _ => 0))), (q2, .inl (c1, 80, .inl (fun _ => 0))), (q3, .inl (c1, 2, .inl (fun _ => 0)))] := hD
  refine W.widen (k := 3) (n := 162) (Nat.le_of_ble_eq_true rfl) (Nat.le_of_ble_eq_true rfl) ?_
  refine va_putF (D := D) (ci := 0) (v := .ref q3) (ty := .array .int) (C := R_X) (T := F_X) (N := 14) hx hb hts i_X t_X t_X_ok n_X hown hK hP hD hS 0 rfl rfl 2 (by decide) (hts _ k_fl_X_16) (fun _ h9 => h9) rfl hin rfl (by decide +kernel) rfl rfl (Nat.le_of_ble_eq_true rfl) dX_init_24 (fun H locs hP hD hS => ?_)
  have hP : va_P D classes [(h0, .inr (0, [.ref q1, .ref q2, .ref q3, .null, .null, .null, .null, .null, .null, .null, .null, .int 0, .int 0, .int 0])), (q1, .inl (c1, 80, .inl (fun _ => 0))), (q2, .inl (c1, 80, .inl (fun _ => 0))), (q3, .inl (c1, 2, .inl (fun _ => 0)))] H := hP
  have hD : va_D A [(h0, .inr (0, [.ref q1, .ref q2, .ref q3, .null, .null, .null, .null, .null, .null, .null, .null, .int 0, .int 0, .int 0])), (q1, .inl (c1, 80, .inl (fun _ => 0))), (q2, .inl (c1, 80, .inl (fun _ => 0))), (q3, .inl (c1, 2, .inl (fun _ => 0)))] := hD
  refine lv_aload_n hx hb dX_init_27 rfl (lv_at hl 0 rfl) ?_
  refine lv_bipush (v := 34) hx hb dX_init_28 (by decide) ?_
  refine va_newa (atype := .int) (ty := .int) (N' := 34) (a0 := (34, .inl (fun _ => 0))) hx hb (hts _ k_ar_int) rfl hK hP hD hS hA (fun _ => rfl) (by decide) (by decide) (by decide) (Nat.le_of_ble_eq_true rfl) (Nat.le_of_ble_eq_true rfl) dX_init_30 (fun q4 c4 H hK hP hD hS => ?_)
  have hc4 : c1 = c4 := ra_int hK (i := 0) (j := 1) (by decide) rfl rfl
  subst hc4
  have hK : va_K D classes [(c1, .int)] s := hK.sub [0] rfl
  have hP : va_P D classes [(h0, .inr (0, [.ref q1, .ref q2, .ref q3, .null, .null, .null, .null, .null, .null, .null, .null, .int 0, .int 0, .int 0])), (q1, .inl (c1, 80, .inl (fun _ => 0))), (q2, .inl (c1, 80, .inl (fun _ => 0))), (q3, .inl (c1, 2, .inl (fun _ => 0))), (q4, .inl (c1, 34, .inl (fun _ => 0)))] H := hP
  have hD : va_D A [(h0, .inr (0, [.ref q1, .ref q2, .ref q3, .null, .null, .null, .null, .null, .null, .null, .null, .int 0, .int 0, .int 0])), (q1, .inl (c1, 80, .inl (fun _ => 0))), (q2, .inl (c1, 80, .inl (fun _ => 0))), (q3, .inl (c1, 2, .inl (fun _ => 0))), (q4, .inl (c1, 34, .inl (fun _ => 0)))] := hD
  refine W.widen (k := 4) (n := 196) (Nat.le_of_ble_eq_true rfl) (Nat.le_of_ble_eq_true rfl) ?_
  refine va_putF (D := D) (ci := 0) (v := .ref q4) (ty := .array .int) (C := R_X) (T := F_X) (N := 14) hx hb hts i_X t_X t_X_ok n_X hown hK hP hD hS 0 rfl rfl 3 (by decide) (hts _ k_fl_X_19) (fun _ h9 => h9) rfl hin rfl (by decide +kernel) rfl rfl (Nat.le_of_ble_eq_true rfl) dX_init_32 (fun H locs hP hD hS => ?_)
  have hP : va_P D classes [(h0, .inr (0, [.ref q1, .ref q2, .ref q3, .ref q4, .null, .null, .null, .null, .null, .null, .null, .int 0, .int 0, .int 0])), (q1, .inl (c1, 80, .inl (fun _ => 0))), (q2, .inl (c1, 80, .inl (fun _ => 0))), (q3, .inl (c1, 2, .inl (fun _ => 0))), (q4, .inl (c1, 34, .inl (fun _ => 0)))] H := hP
  have hD : va_D A [(h0, .inr (0, [.ref q1, .ref q2, .ref q3, .ref q4, .null, .null, .null, .null, .null, .null, .null, .int 0, .int 0, .int 0])), (q1, .inl (c1, 80, .inl (fun _ => 0))), (q2, .inl (c1, 80, .inl (fun _ => 0))), (q3, .inl (c1, 2, .inl (fun _ => 0))), (q4, .inl (c1, 34, .inl (fun _ => 0)))] := hD
  refine lv_aload_n hx hb dX_init_35 rfl (lv_at hl 0 rfl) ?_
  refine lv_bipush (v := 32) hx hb dX_init_36 (by decide) ?_
  refine va_newa (atype := .int) (ty := .int) (N' := 32) (a0 := (32, .inl (fun _ => 0))) hx hb (hts _ k_ar_int) rfl hK hP hD hS hA (fun _ => rfl) (by decide) (by decide) (by decide) (Nat.le_of_ble_eq_true rfl) (Nat.le_of_ble_eq_true rfl) dX_init_38 (fun q5 c5 H hK hP hD hS => ?_)
  have hc5 : c1 = c5 := ra_int hK (i := 0) (j := 1) (by decide) rfl rfl
  subst hc5
  have hK : va_K D classes [(c1, .int)] s := hK.sub [0] rfl
  have hP : va_P D classes [(h0, .inr (0, [.ref q1, .ref q2, .ref q3, .ref q4, .null, .null, .null, .null, .null, .null, .null, .int 0, .int 0, .int 0])), (q1, .inl (c1, 80, .inl (fun _ => 0))), (q2, .inl (c1, 80, .inl (fun _ => 0))), (q3, .inl (c1, 2, .inl (fun _ => 0))), (q4, .inl (c1, 34, .inl (fun _ => 0))), (q5, .inl (c1, 32, .inl (fun _ => 0)))] H := hP
  have hD : va_D A [(h0, .inr (0, [.ref q1, .ref q2, .ref q3, .ref q4, .null, .null, .null, .null, .null, .null, .null, .int 0, .int 0, .int 0])), (q1, .inl (c1, 80, .inl (fun _ => 0))), (q2, .inl (c1, 80, .inl (fun _ => 0))), (q3, .inl (c1, 2, .inl (fun _ => 0))), (q4, .inl (c1, 34, .inl (fun _ => 0))), (q5, .inl (c1, 32, .inl (fun _ => 0)))] := hD
  refine W.widen (k := 5) (n := 228) (Nat.le_of_ble_eq_true rfl) (Nat.le_of_ble_eq_true rfl) ?_
  refine va_putF (D := D) (ci := 0) (v := .ref q5) (ty := .array .int) (C := R_X) (T := F_X) (N := 14) hx hb hts i_X t_X t_X_ok n_X hown hK hP hD hS 0 rfl rfl 4 (by decide) (hts _ k_fl_X_22) (fun _ h9 => h9) rfl hin rfl (by decide +kernel) rfl rfl (Nat.le_of_ble_eq_true rfl) dX_init_40 (fun H locs hP hD hS => ?_)
  have hP : va_P D classes [(h0, .inr (0, [.ref q1, .ref q2, .ref q3, .ref q4, .ref q5, .null, .null, .null, .null, .null, .null, .int 0, .int 0, .int 0])), (q1, .inl (c1, 80, .inl (fun _ => 0))), (q2, .inl (c1, 80, .inl (fun _ => 0))), (q3, .inl (c1, 2, .inl (fun _ => 0))), (q4, .inl (c1, 34, .inl (fun _ => 0))), (q5, .inl (c1, 32, .inl (fun _ => 0)))] H := hP
  have hD : va_D A [(h0, .inr (0, [.ref q1, .ref q2, .ref q3, .ref q4, .ref q5, .null, .null, .null, .null, .null, .null, .int 0, .int 0, .int 0])), (q1, .inl (c1, 80, .inl (fun _ => 0))), (q2, .inl (c1, 80, .inl (fun _ => 0))), (q3, .inl (c1, 2, .inl (fun _ => 0))), (q4, .inl (c1, 34, .inl (fun _ => 0))), (q5, .inl (c1, 32, .inl (fun _ => 0)))] := hD
  refine lv_aload_n hx hb dX_init_43 rfl (lv_at hl 0 rfl) ?_
  refine lv_bipush (v := 32) hx hb dX_init_44 (by decide) ?_
  refine va_newa (atype := .boolean) (ty := .boolean) (N' := 32) (a0 := (32, .inl (fun _ => 0))) hx hb (hts _ k_ar_boolean) rfl hK hP hD hS hA (fun _ => rfl) (by decide) (by decide) (by decide) (Nat.le_of_ble_eq_true rfl) (Nat.le_of_ble_eq_true rfl) dX_init_46 (fun q6 c6 H hK hP hD hS => ?_)
  have hK : va_K D classes [(c1, .int), (c6, .boolean)] s := hK
  have hP : va_P D classes [(h0, .inr (0, [.ref q1, .ref q2, .ref q3, .ref q4, .ref q5, .null, .null, .null, .null, .null, .null, .int 0, .int 0, .int 0])), (q1, .inl (c1, 80, .inl (fun _ => 0))), (q2, .inl (c1, 80, .inl (fun _ => 0))), (q3, .inl (c1, 2, .inl (fun _ => 0))), (q4, .inl (c1, 34, .inl (fun _ => 0))), (q5, .inl (c1, 32, .inl (fun _ => 0))), (q6, .inl (c6, 32, .inl (fun _ => 0)))] H := hP
  have hD : va_D A [(h0, .inr (0, [.ref q1, .ref q2, .ref q3, .ref q4, .ref q5, .null, .null, .null, .null, .null, .null, .int 0, .int 0, .int 0])), (q1, .inl (c1, 80, .inl (fun _ => 0))), (q2, .inl (c1, 80, .inl (fun _ => 0))), (q3, .inl (c1, 2, .inl (fun _ => 0))), (q4, .inl (c1, 34, .inl (fun _ => 0))), (q5, .inl (c1, 32, .inl (fun _ => 0))), (q6, .inl (c6, 32, .inl (fun _ => 0)))] := hD
  refine W.widen (k := 6) (n := 260) (Nat.le_of_ble_eq_true rfl) (Nat.le_of_ble_eq_true rfl) ?_
  refine va_putF (D := D) (ci := 0) (v := .ref q6) (ty := .array .boolean) (C := R_X) (T := F_X) (N := 14) hx hb hts i_X t_X t_X_ok n_X hown hK hP hD hS 0 rfl rfl 5 (by decide) (hts _ k_fl_X_25) (fun _ h9 => h9) rfl hin rfl (by decide +kernel) rfl rfl (Nat.le_of_ble_eq_true rfl) dX_init_48 (fun H locs hP hD hS => ?_)
  have hP : va_P D classes [(h0, .inr (0, [.ref q1, .ref q2, .ref q3, .ref q4, .ref q5, .ref q6, .null, .null, .null, .null, .null, .int 0, .int 0, .int 0])), (q1, .inl (c1, 80, .inl (fun _ => 0))), (q2, .inl (c1, 80, .inl (fun _ => 0))), (q3, .inl (c1, 2, .inl (fun _ => 0))), (q4, .inl (c1, 34, .inl (fun _ => 0))), (q5, .inl (c1, 32, .inl (fun _ => 0))), (q6, .inl (c6, 32, .inl (fun _ => 0)))] H := hP
  have hD : va_D A [(h0, .inr (0, [.ref q1, .ref q2, .ref q3, .ref q4, .ref q5, .ref q6, .null, .null, .null, .null, .null, .int 0, .int 0, .int 0])), (q1, .inl (c1, 80, .inl (fun _ => 0))), (q2, .inl (c1, 80, .inl (fun _ => 0))), (q3, .inl (c1, 2, .inl (fun _ => 0))), (q4, .inl (c1, 34, .inl (fun _ => 0))), (q5, .inl (c1, 32, .inl (fun _ => 0))), (q6, .inl (c6, 32, .inl (fun _ => 0)))] := hD
  refine lv_aload_n hx hb dX_init_51 rfl (lv_at hl 0 rfl) ?_
  refine lv_bipush (v := 16) hx hb dX_init_52 (by decide) ?_
  refine va_newa (atype := .int) (ty := .int) (N' := 16) (a0 := (16, .inl (fun _ => 0))) hx hb (hts _ k_ar_int) rfl hK hP hD hS hA (fun _ => rfl) (by decide) (by decide) (by decide) (Nat.le_of_ble_eq_true rfl) (Nat.le_of_ble_eq_true rfl) dX_init_54 (fun q7 c7 H hK hP hD hS => ?_)
  have hc7 : c1 = c7 := ra_int hK (i := 0) (j := 2) (by decide) rfl rfl
  subst hc7
  have hK : va_K D classes [(c1, .int), (c6, .boolean)] s := hK.sub [0, 1] rfl
  have hP : va_P D classes [(h0, .inr (0, [.ref q1, .ref q2, .ref q3, .ref q4, .ref q5, .ref q6, .null, .null, .null, .null, .null, .int 0, .int 0, .int 0])), (q1, .inl (c1, 80, .inl (fun _ => 0))), (q2, .inl (c1, 80, .inl (fun _ => 0))), (q3, .inl (c1, 2, .inl (fun _ => 0))), (q4, .inl (c1, 34, .inl (fun _ => 0))), (q5, .inl (c1, 32, .inl (fun _ => 0))), (q6, .inl (c6, 32, .inl (fun _ => 0))), (q7, .inl (c1, 16, .inl (fun _ => 0)))] H := hP
  have hD : va_D A [(h0, .inr (0, [.ref q1, .ref q2, .ref q3, .ref q4, .ref q5, .ref q6, .null, .null, .null, .null, .null, .int 0, .int 0, .int 0])), (q1, .inl (c1, 80, .inl (fun _ => 0))), (q2, .inl (c1, 80, .inl (fun _ => 0))), (q3, .inl (c1, 2, .inl (fun _ => 0))), (q4, .inl (c1, 34, .inl (fun _ => 0))), (q5, .inl (c1, 32, .inl (fun _ => 0))), (q6, .inl (c6, 32, .inl (fun _ => 0))), (q7, .inl (c1, 16, .inl (fun _ => 0)))] := hD
  refine W.widen (k := 7) (n := 276) (Nat.le_of_ble_eq_true rfl) (Nat.le_of_ble_eq_true rfl) ?_
  refine va_putF (D := D) (ci := 0) (v := .ref q7) (ty := .array .int) (C := R_X) (T := F_X) (N := 14) hx hb hts i_X t_X t_X_ok n_X hown hK hP hD hS 0 rfl rfl 6 (by decide) (hts _ k_fl_X_29) (fun _ h9 => h9) rfl hin rfl (by decide +kernel) rfl rfl (Nat.le_of_ble_eq_true rfl) dX_init_56 (fun H locs hP hD hS => ?_)
  have hP : va_P D classes [(h0, .inr (0, [.ref q1, .ref q2, .ref q3, .ref q4, .ref q5, .ref q6, .ref q7, .null, .null, .null, .null, .int 0, .int 0, .int 0])), (q1, .inl (c1, 80, .inl (fun _ => 0))), (q2, .inl (c1, 80, .inl (fun _ => 0))), (q3, .inl (c1, 2, .inl (fun _ => 0))), (q4, .inl (c1, 34, .inl (fun _ => 0))), (q5, .inl (c1, 32, .inl (fun _ => 0))), (q6, .inl (c6, 32, .inl (fun _ => 0))), (q7, .inl (c1, 16, .inl (fun _ => 0)))] H := hP
  have hD : va_D A [(h0, .inr (0, [.ref q1, .ref q2, .ref q3, .ref q4, .ref q5, .ref q6, .ref q7, .null, .null, .null, .null, .int 0, .int 0, .int 0])), (q1, .inl (c1, 80, .inl (fun _ => 0))), (q2, .inl (c1, 80, .inl (fun _ => 0))), (q3, .inl (c1, 2, .inl (fun _ => 0))), (q4, .inl (c1, 34, .inl (fun _ => 0))), (q5, .inl (c1, 32, .inl (fun _ => 0))), (q6, .inl (c6, 32, .inl (fun _ => 0))), (q7, .inl (c1, 16, .inl (fun _ => 0)))] := hD
  refine lv_aload_n hx hb dX_init_59 rfl (lv_at hl 0 rfl) ?_
  refine lv_bipush (v := 16) hx hb dX_init_60 (by decide) ?_
  refine va_newa (atype := .int) (ty := .int) (N' := 16) (a0 := (16, .inl (fun _ => 0))) hx hb (hts _ k_ar_int) rfl hK hP hD hS hA (fun _ => rfl) (by decide) (by decide) (by decide) (Nat.le_of_ble_eq_true rfl) (Nat.le_of_ble_eq_true rfl) dX_init_62 (fun q8 c8 H hK hP hD hS => ?_)
  have hc8 : c1 = c8 := ra_int hK (i := 0) (j := 2) (by decide) rfl rfl
  subst hc8
  have hK : va_K D classes [(c1, .int), (c6, .boolean)] s := hK.sub [0, 1] rfl
  have hP : va_P D classes [(h0, .inr (0, [.ref q1, .ref q2, .ref q3, .ref q4, .ref q5, .ref q6, .ref q7, .null, .null, .null, .null, .int 0, .int 0, .int 0])), (q1, .inl (c1, 80, .inl (fun _ => 0))), (q2, .inl (c1, 80, .inl (fun _ => 0))), (q3, .inl (c1, 2, .inl (fun _ => 0))), (q4, .inl (c1, 34, .inl (fun _ => 0))), (q5, .inl (c1, 32, .inl (fun _ => 0))), (q6, .inl (c6, 32, .inl (fun _ => 0))), (q7, .inl (c1, 16, .inl (fun _ => 0))), (q8, .inl (c1, 16, .inl (fun _ => 0)))] H := hP
  have hD : va_D A [(h0, .inr (0, [.ref q1, .ref q2, .ref q3, .ref q4, .ref q5, .ref q6, .ref q7, .null, .null, .null, .null, .int 0, .int 0, .int 0])), (q1, .inl (c1, 80, .inl (fun _ => 0))), (q2, .inl (c1, 80, .inl (fun _ => 0))), (q3, .inl (c1, 2, .inl (fun _ => 0))), (q4, .inl (c1, 34, .inl (fun _ => 0))), (q5, .inl (c1, 32, .inl (fun _ => 0))), (q6, .inl (c6, 32, .inl (fun _ => 0))), (q7, .inl (c1, 16, .inl (fun _ => 0))), (q8, .inl (c1, 16, .inl (fun _ => 0)))] := hD
  refine W.widen (k := 8) (n := 292) (Nat.le_of_ble_eq_true rfl) (Nat.le_of_ble_eq_true rfl) ?_
  refine va_putF (D := D) (ci := 0) (v := .ref q8) (ty := .array .int) (C := R_X) (T := F_X) (N := 14) hx hb hts i_X t_X t_X_ok n_X hown hK hP hD hS 0 rfl rfl 7 (by decide) (hts _ k_fl_X_32) (fun _ h9 => h9) rfl hin rfl (by decide +kernel) rfl rfl (Nat.le_of_ble_eq_true rfl) dX_init_64 (fun H locs hP hD hS => ?_)
  have hP : va_P D classes [(h0, .inr (0, [.ref q1, .ref q2, .ref q3, .ref q4, .ref q5, .ref q6, .ref q7, .ref q8, .null, .null, .null, .int 0, .int 0, .int 0])), (q1, .inl (c1, 80, .inl (fun _ => 0))), (q2, .inl (c1, 80, .inl (fun _ => 0))), (q3, .inl (c1, 2, .inl (fun _ => 0))), (q4, .inl (c1, 34, .inl (fun _ => 0))), (q5, .inl (c1, 32, .inl (fun _ => 0))), (q6, .inl (c6, 32, .inl (fun _ => 0))), (q7, .inl (c1, 16, .inl (fun _ => 0))), (q8, .inl (c1, 16, .inl (fun _ => 0)))] H := hP
  have hD : va_D A [(h0, .inr (0, [.ref q1, .ref q2, .ref q3, .ref q4, .ref q5, .ref q6, .ref q7, .ref q8, .null, .null, .null, .int 0, .int 0, .int 0])), (q1, .inl (c1, 80, .inl (fun _ => 0))), (q2, .inl (c1, 80, .inl (fun _ => 0))), (q3, .inl (c1, 2, .inl (fun _ => 0))), (q4, .inl (c1, 34, .inl (fun _ => 0))), (q5, .inl (c1, 32, .inl (fun _ => 0))), (q6, .inl (c6, 32, .inl (fun _ => 0))), (q7, .inl (c1, 16, .inl (fun _ => 0))), (q8, .inl (c1, 16, .inl (fun _ => 0)))] := hD
  refine lv_aload_n hx hb dX_init_67 rfl (lv_at hl 0 rfl) ?_
  refine lv_bipush (v := 16) hx hb dX_init_68 (by decide) ?_
  refine va_newa (atype := .int) (ty := .int) (N' := 16) (a0 := (16, .inl (fun _ => 0))) hx hb (hts _ k_ar_int) rfl hK hP hD hS hA (fun _ => rfl) (by decide) (by decide) (by decide) (Nat.le_of_ble_eq_true rfl) (Nat.le_of_ble_eq_true rfl) dX_init_70 (fun q9 c9 H hK hP hD hS => ?_)
  have hc9 : c1 = c9 := ra_int hK (i := 0) (j := 2) (by decide) rfl rfl
  subst hc9
  have hK : va_K D classes [(c1, .int), (c6, .boolean)] s := hK.sub [0, 1] rfl
  have hP : va_P D classes [(h0, .inr (0, [.ref q1, .ref q2, .ref q3, .ref q4, .ref q5, .ref q6, .ref q7, .ref q8, .null, .null, .null, .int 0, .int 0, .int 0])), (q1, .inl (c1, 80, .inl (fun _ => 0))), (q2, .inl (c1, 80, .inl (fun _ => 0))), (q3, .inl (c1, 2, .inl (fun _ => 0))), (q4, .inl (c1, 34, .inl (fun _ => 0))), (q5, .inl (c1, 32, .inl (fun _ => 0))), (q6, .inl (c6, 32, .inl (fun _ => 0))), (q7, .inl (c1, 16, .inl (fun _ => 0))), (q8, .inl (c1, 16, .inl (fun _ => 0))), (q9, .inl (c1, 16, .inl (fun _ => 0)))] H := hP
  have hD : va_D A [(h0, .inr (0, [.ref q1, .ref q2, .ref q3, .ref q4, .ref q5, .ref q6, .ref q7, .ref q8, .null, .null, .null, .int 0, .int 0, .int 0])), (q1, .inl (c1, 80, .inl (fun _ => 0))), (q2, .inl (c1, 80, .inl (fun _ => 0))), (q3, .inl (c1, 2, .inl (fun _ => 0))), (q4, .inl (c1, 34, .inl (fun _ => 0))), (q5, .inl (c1, 32, .inl (fun _ => 0))), (q6, .inl (c6, 32, .inl (fun _ => 0))), (q7, .inl (c1, 16, .inl (fun _ => 0))), (q8, .inl (c1, 16, .inl (fun _ => 0))), (q9, .inl (c1, 16, .inl (fun _ => 0)))] := hD
  refine W.widen (k := 9) (n := 308) (Nat.le_of_ble_eq_true rfl) (Nat.le_of_ble_eq_true rfl) ?_
  refine va_putF (D := D) (ci := 0) (v := .ref q9) (ty := .array .int) (C := R_X) (T := F_X) (N := 14) hx hb hts i_X t_X t_X_ok n_X hown hK hP hD hS 0 rfl rfl 8 (by decide) (hts _ k_fl_X_35) (fun _ h9 => h9) rfl hin rfl (by decide +kernel) rfl rfl (Nat.le_of_ble_eq_true rfl) dX_init_72 (fun H locs hP hD hS => ?_)
  have hP : va_P D classes [(h0, .inr (0, [.ref q1, .ref q2, .ref q3, .ref q4, .ref q5, .ref q6, .ref q7, .ref q8, .ref q9, .null, .null, .int 0, .int 0, .int 0])), (q1, .inl (c1, 80, .inl (fun _ => 0))), (q2, .inl (c1, 80, .inl (fun _ => 0))), (q3, .inl (c1, 2, .inl (fun _ => 0))), (q4, .inl (c1, 34, .inl (fun _ => 0))), (q5, .inl (c1, 32, .inl (fun _ => 0))), (q6, .inl (c6, 32, .inl (fun _ => 0))), (q7, .inl (c1, 16, .inl (fun _ => 0))), (q8, .inl (c1, 16, .inl (fun _ => 0))), (q9, .inl (c1, 16, .inl (fun _ => 0)))] H := hP
  have hD : va_D A [(h0, .inr (0, [.ref q1, .ref q2, .ref q3, .ref q4, .ref q5, .ref q6, .ref q7, .ref q8, .ref q9, .null, .null, .int 0, .int 0, .int 0])), (q1, .inl (c1, 80, .inl (fun _ => 0))), (q2, .inl (c1, 80, .inl (fun _ => 0))), (q3, .inl (c1, 2, .inl (fun _ => 0))), (q4, .inl (c1, 34, .inl (fun _ => 0))), (q5, .inl (c1, 32, .inl (fun _ => 0))), (q6, .inl (c6, 32, .inl (fun _ => 0))), (q7, .inl (c1, 16, .inl (fun _ => 0))), (q8, .inl (c1, 16, .inl (fun _ => 0))), (q9, .inl (c1, 16, .inl (fun _ => 0)))] := hD
  refine lv_aload_n hx hb dX_init_75 rfl (lv_at hl 0 rfl) ?_
  refine lv_bipush (v := 16) hx hb dX_init_76 (by decide) ?_
  refine va_newa (atype := .int) (ty := .int) (N' := 16) (a0 := (16, .inl (fun _ => 0))) hx hb (hts _ k_ar_int) rfl hK hP hD hS hA (fun _ => rfl) (by decide) (by decide) (by decide) (Nat.le_of_ble_eq_true rfl) (Nat.le_of_ble_eq_true rfl) dX_init_78 (fun q10 c10 H hK hP hD hS => ?_)
  have hc10 : c1 = c10 := ra_int hK (i := 0) (j := 2) (by decide) rfl rfl
  subst hc10
  have hK : va_K D classes [(c1, .int), (c6, .boolean)] s := hK.sub [0, 1] rfl
  have hP : va_P D classes [(h0, .inr (0, [.ref q1, .ref q2, .ref q3, .ref q4, .ref q5, .ref q6, .ref q7, .ref q8, .ref q9, .null, .null, .int 0, .int 0, .int 0])), (q1, .inl (c1, 80, .inl (fun _ => 0))), (q2, .inl (c1, 80, .inl (fun _ => 0))), (q3, .inl (c1, 2, .inl (fun _ => 0))), (q4, .inl (c1, 34, .inl (fun _ => 0))), (q5, .inl (c1, 32, .inl (fun _ => 0))), (q6, .inl (c6, 32, .inl (fun _ => 0))), (q7, .inl (c1, 16, .inl (fun _ => 0))), (q8, .inl (c1, 16, .inl (fun _ => 0))), (q9, .inl (c1, 16, .inl (fun _ => 0))), (q10, .inl (c1, 16, .inl (fun _ => 0)))] H := hP
  have hD : va_D A [(h0, .inr (0, [.ref q1, .ref q2, .ref q3, .ref q4, .ref q5, .ref q6, .ref q7, .ref q8, .ref q9, .null, .null, .int 0, .int 0, .int 0])), (q1, .inl (c1, 80, .inl (fun _ => 0))), (q2, .inl (c1, 80, .inl (fun _ => 0))), (q3, .inl (c1, 2, .inl (fun _ => 0))), (q4, .inl (c1, 34, .inl (fun _ => 0))), (q5, .inl (c1, 32, .inl (fun _ => 0))), (q6, .inl (c6, 32, .inl (fun _ => 0))), (q7, .inl (c1, 16, .inl (fun _ => 0))), (q8, .inl (c1, 16, .inl (fun _ => 0))), (q9, .inl (c1, 16, .inl (fun _ => 0))), (q10, .inl (c1, 16, .inl (fun _ => 0)))] := hD
  refine W.widen (k := 10) (n := 324) (Nat.le_of_ble_eq_true rfl) (Nat.le_of_ble_eq_true rfl) ?_
  refine va_putF (D := D) (ci := 0) (v := .ref q10) (ty := .array .int) (C := R_X) (T := F_X) (N := 14) hx hb hts i_X t_X t_X_ok n_X hown hK hP hD hS 0 rfl rfl 9 (by decide) (hts _ k_fl_X_38) (fun _ h9 => h9) rfl hin rfl (by decide +kernel) rfl rfl (Nat.le_of_ble_eq_true rfl) dX_init_80 (fun H locs hP hD hS => ?_)
  have hP : va_P D classes [(h0, .inr (0, [.ref q1, .ref q2, .ref q3, .ref q4, .ref q5, .ref q6, .ref q7, .ref q8, .ref q9, .ref q10, .null, .int 0, .int 0, .int 0])), (q1, .inl (c1, 80, .inl (fun _ => 0))), (q2, .inl (c1, 80, .inl (fun _ => 0))), (q3, .inl (c1, 2, .inl (fun _ => 0))), (q4, .inl (c1, 34, .inl (fun _ => 0))), (q5, .inl (c1, 32, .inl (fun _ => 0))), (q6, .inl (c6, 32, .inl (fun _ => 0))), (q7, .inl (c1, 16, .inl (fun _ => 0))), (q8, .inl (c1, 16, .inl (fun _ => 0))), (q9, .inl (c1, 16, .inl (fun _ => 0))), (q10, .inl (c1, 16, .inl (fun _ => 0)))] H := hP
  have hD : va_D A [(h0, .inr (0, [.ref q1, .ref q2, .ref q3, .ref q4, .ref q5, .ref q6, .ref q7, .ref q8, .ref q9, .ref q10, .null, .int 0, .int 0, .int 0])), (q1, .inl (c1, 80, .inl (fun _ => 0))), (q2, .inl (c1, 80, .inl (fun _ => 0))), (q3, .inl (c1, 2, .inl (fun _ => 0))), (q4, .inl (c1, 34, .inl (fun _ => 0))), (q5, .inl (c1, 32, .inl (fun _ => 0))), (q6, .inl (c6, 32, .inl (fun _ => 0))), (q7, .inl (c1, 16, .inl (fun _ => 0))), (q8, .inl (c1, 16, .inl (fun _ => 0))), (q9, .inl (c1, 16, .inl (fun _ => 0))), (q10, .inl (c1, 16, .inl (fun _ => 0)))] := hD
  refine lv_aload_n hx hb dX_init_83 rfl (lv_at hl 0 rfl) ?_
  refine lv_bipush (v := 16) hx hb dX_init_84 (by decide) ?_
  refine va_newa (atype := .int) (ty := .int) (N' := 16) (a0 := (16, .inl (fun _ => 0))) hx hb (hts _ k_ar_int) rfl hK hP hD hS hA (fun _ => rfl) (by decide) (by decide) (by decide) (Nat.le_of_ble_eq_true rfl) (Nat.le_of_ble_eq_true rfl) dX_init_86 (fun q11 c11 H hK hP hD hS => ?_)
  have hc11 : c1 = c11 := ra_int hK (i := 0) (j := 2) (by decide) rfl rfl
  subst hc11
  have hK : va_K D classes [(c1, .int), (c6, .boolean)] s := hK.sub [0, 1] rfl
  have hP : va_P D classes [(h0, .inr (0, [.ref q1, .ref q2, .ref q3, .ref q4, .ref q5, .ref q6, .ref q7, .ref q8, .ref q9, .ref q10, .null, .int 0, .int 0, .int 0])), (q1, .inl (c1, 80, .inl (fun _ => 0))), (q2, .inl (c1, 80, .inl (fun _ => 0))), (q3, .inl (c1, 2, .inl (fun _ => 0))), (q4, .inl (c1, 34, .inl (fun _ => 0))), (q5, .inl (c1, 32, .inl (fun _ => 0))), (q6, .inl (c6, 32, .inl (fun _ => 0))), (q7, .inl (c1, 16, .inl (fun _ => 0))), (q8, .inl (c1, 16, .inl (fun _ => 0))), (q9, .inl (c1, 16, .inl (fun _ => 0))), (q10, .inl (c1, 16, .inl (fun _ => 0))), (q11, .inl (c1, 16, .inl (fun _ => 0)))] H := hP
  have hD : va_D A [(h0, .inr (0, [.ref q1, .ref q2, .ref q3, .ref q4, .ref q5, .ref q6, .ref q7, .ref q8, .ref q9, .ref q10, .null, .int 0, .int 0, .int 0])), (q1, .inl (c1, 80, .inl (fun _ => 0))), (q2, .inl (c1, 80, .inl (fun _ => 0))), (q3, .inl (c1, 2, .inl (fun _ => 0))), (q4, .inl (c1, 34, .inl (fun _ => 0))), (q5, .inl (c1, 32, .inl (fun _ => 0))), (q6, .inl (c6, 32, .inl (fun _ => 0))), (q7, .inl (c1, 16, .inl (fun _ => 0))), (q8, .inl (c1, 16, .inl (fun _ => 0))), (q9, .inl (c1, 16, .inl (fun _ => 0))), (q10, .inl (c1, 16, .inl (fun _ => 0))), (q11, .inl (c1, 16, .inl (fun _ => 0)))] := hD
  refine W.widen (k := 11) (n := 340) (Nat.le_of_ble_eq_true rfl) (Nat.le_of_ble_eq_true rfl) ?_
  refine va_putF (D := D) (ci := 0) (v := .ref q11) (ty := .array .int) (C := R_X) (T := F_X) (N := 14) hx hb hts i_X t_X t_X_ok n_X hown hK hP hD hS 0 rfl rfl 10 (by decide) (hts _ k_fl_X_41) (fun _ h9 => h9) rfl hin rfl (by decide +kernel) rfl rfl (Nat.le_of_ble_eq_true rfl) dX_init_88 (fun H locs hP hD hS => ?_)
  have hP : va_P D classes [(h0, .inr (0, [.ref q1, .ref q2, .ref q3, .ref q4, .ref q5, .ref q6, .ref q7, .ref q8, .ref q9, .ref q10, .ref q11, .int 0, .int 0, .int 0])), (q1, .inl (c1, 80, .inl (fun _ => 0))), (q2, .inl (c1, 80, .inl (fun _ => 0))), (q3, .inl (c1, 2, .inl (fun _ => 0))), (q4, .inl (c1, 34, .inl (fun _ => 0))), (q5, .inl (c1, 32, .inl (fun _ => 0))), (q6, .inl (c6, 32, .inl (fun _ => 0))), (q7, .inl (c1, 16, .inl (fun _ => 0))), (q8, .inl (c1, 16, .inl (fun _ => 0))), (q9, .inl (c1, 16, .inl (fun _ => 0))), (q10, .inl (c1, 16, .inl (fun _ => 0))), (q11, .inl (c1, 16, .inl (fun _ => 0)))] H := hP
  have hD : va_D A [(h0, .inr (0, [.ref q1, .ref q2, .ref q3, .ref q4, .ref q5, .ref q6, .ref q7, .ref q8, .ref q9, .ref q10, .ref q11, .int 0, .int 0, .int 0])), (q1, .inl (c1, 80, .inl (fun _ => 0))), (q2, .inl (c1, 80, .inl (fun _ => 0))), (q3, .inl (c1, 2, .inl (fun _ => 0))), (q4, .inl (c1, 34, .inl (fun _ => 0))), (q5, .inl (c1, 32, .inl (fun _ => 0))), (q6, .inl (c6, 32, .inl (fun _ => 0))), (q7, .inl (c1, 16, .inl (fun _ => 0))), (q8, .inl (c1, 16, .inl (fun _ => 0))), (q9, .inl (c1, 16, .inl (fun _ => 0))), (q10, .inl (c1, 16, .inl (fun _ => 0))), (q11, .inl (c1, 16, .inl (fun _ => 0)))] := hD
  refine lv_aload_n hx hb dX_init_91 rfl (lv_at hl 0 rfl) ?_
  refine lv_iconst (v := 0) hx hb dX_init_92 (by decide) ?_
  refine va_put (D := D) (ci := 0) (v := .int 0) (ty := .int) (C := R_X) (T := F_X) (N := 14) hx hb hts i_X t_X t_X_ok n_X hown hK hP hD hS 0 rfl rfl 11 (by decide) (hts _ k_fl_X_44) (fun _ h9 => h9) rfl (by decide +kernel) rfl rfl (Nat.le_of_ble_eq_true rfl) dX_init_93 (fun H locs hP hD hS => ?_)
  have hP : va_P D classes [(h0, .inr (0, [.ref q1, .ref q2, .ref q3, .ref q4, .ref q5, .ref q6, .ref q7, .ref q8, .ref q9, .ref q10, .ref q11, .int 0, .int 0, .int 0])), (q1, .inl (c1, 80, .inl (fun _ => 0))), (q2, .inl (c1, 80, .inl (fun _ => 0))), (q3, .inl (c1, 2, .inl (fun _ => 0))), (q4, .inl (c1, 34, .inl (fun _ => 0))), (q5, .inl (c1, 32, .inl (fun _ => 0))), (q6, .inl (c6, 32, .inl (fun _ => 0))), (q7, .inl (c1, 16, .inl (fun _ => 0))), (q8, .inl (c1, 16, .inl (fun _ => 0))), (q9, .inl (c1, 16, .inl (fun _ => 0))), (q10, .inl (c1, 16, .inl (fun _ => 0))), (q11, .inl (c1, 16, .inl (fun _ => 0)))] H := hP
  have hD : va_D A [(h0, .inr (0, [.ref q1, .ref q2, .ref q3, .ref q4, .ref q5, .ref q6, .ref q7, .ref q8, .ref q9, .ref q10, .ref q11, .int 0, .int 0, .int 0])), (q1, .inl (c1, 80, .inl (fun _ => 0))), (q2, .inl (c1, 80, .inl (fun _ => 0))), (q3, .inl (c1, 2, .inl (fun _ => 0))), (q4, .inl (c1, 34, .inl (fun _ => 0))), (q5, .inl (c1, 32, .inl (fun _ => 0))), (q6, .inl (c6, 32, .inl (fun _ => 0))), (q7, .inl (c1, 16, .inl (fun _ => 0))), (q8, .inl (c1, 16, .inl (fun _ => 0))), (q9, .inl (c1, 16, .inl (fun _ => 0))), (q10, .inl (c1, 16, .inl (fun _ => 0))), (q11, .inl (c1, 16, .inl (fun _ => 0)))] := hD
  exact W.vret hx hb hr (fun t ht hW => ⟨⟨(), rfl, trivial, fun i => [h0, q1, q2, q3, q4, q5, q6, q7, q8, q9, q10, q11].getD i 0, c1, c6, rfl, by rw [ht]; exact hP, va_K.moved hW.alike hK, hD⟩, hS.F ht⟩) hS.2.2 dX_init_96
set_option maxHeartbeats 4000000 in
set_option maxRecDepth 100000 in
theorem qm_init (l : Launch) (D : va_G) (h0 sz : Nat) : Met l yM_init wM_init rM_init (va_Pc [.ref h0] (fun U => U.heap.size = sz ∧ va_P D classes [(h0, .inr (1, [.null, .null, .null, .null, .int 0, .null, .null, .null, .null, .null, .int 0, .int 0, .int 0, .int 0]))] U.heap ∧ va_K D classes [] U ∧ va_D (fun _ => True) [(h0, .inr (1, [.null, .null, .null, .null, .int 0, .null, .null, .null, .null, .null, .int 0, .int 0, .int 0, .int 0]))])) (va_Qv (fun _ : Unit => True) (fun _ t => ∃ (a : Nat → Nat) (cI cZ : ClassId), a 0 = h0 ∧ va_P D classes (mw a cI cZ (fun _ _ => 0)) t.heap ∧ va_K D classes (qty cI cZ) t ∧ va_D (va_A [(h0, .inr (1, [.null, .null, .null, .null, .int 0, .null, .null, .null, .null, .null, .int 0, .int 0, .int 0, .int 0]))] sz) (mw a cI cZ (fun _ _ => 0))) (va_A [(h0, .inr (1, [.null, .null, .null, .null, .int 0, .null, .null, .null, .null, .null, .int 0, .int 0, .int 0, .int 0]))] sz)) 9 274 (va_A [(h0, .inr (1, [.null, .null, .null, .null, .int 0, .null, .null, .null, .null, .null, .int 0, .int 0, .int 0, .int 0]))] sz) := by
  refine Met.ofW (cc := bM_init) (maxL := 1) (ret := none) (by decide) rfl ?_
  intro p e s m args below meth c s₁ B hml hv
  obtain ⟨rfl, hsz, hP, hK, hD0⟩ := hv
  have hx := B.exec
  have hb := B.bytes
  have hr := B.returns
  have hts0 := atoms_spec (ws := wM_init) B.pre
  have hts : ∀ w ∈ lw_ok, w.before ([.ref h0] : List Value).toArray s = true := fun w h => hts0 w (List.mem_cons_of_mem _ h)
  have hown : s.vm.findClass R_M = some m.cls := findClass_of_methodNamed B.named
  have hlocks := B.notSynchronized
  have hin : meth.name = "<init>" := (name_of_methodNamed B.named B.method).1
  subst hsz
  have hD := hD0.self (sz := s.heap.size)
  generalize hAe : va_A [(h0, .inr (1, [.null, .null, .null, .null, .int 0, .null, .null, .null, .null, .null, .int 0, .int 0, .int 0, .int 0]))] s.heap.size = A at hD ⊢
  have hA : ∀ q : Nat, s.heap.size ≤ q → A q := fun q h => by rw [← hAe]; exact Or.inr h
  have hS : va_S A s.heap s.heap [] := va_S.rf
  have hl := lv_entry ([.ref h0]) (n := 1) (Nat.le_of_ble_eq_true rfl)
  rw [lg_entry_eq]
  generalize (lg_sl ([.ref h0]) ++ List.replicate (1 - (lg_sl ([.ref h0])).length) Slot.unset).toArray = ls at hl ⊢
  have hl : lv_has ls 1 [(0, .ref h0)] := hl
  refine lv_aload_n hx hb dM_init_0 rfl (lv_at hl 0 rfl) ?_
  refine W.objInit hx hb hown (hts _ k_ml_M_1) (hts _ k_im_objectInit) (hts _ k_co_objectInit) rfl (by rw [hml]; exact hl.1) rfl dM_init_1 (Nat.le_of_ble_eq_true rfl) (Nat.le_of_ble_eq_true rfl) ?_
  refine W.eq (g2 := F0 m 4 ls []) rfl ?_
  refine lv_aload_n hx hb dM_init_4 rfl (lv_at hl 0 rfl) ?_
  refine lv_iconst (v := 2) hx hb dM_init_5 (by decide) ?_
  refine va_newa (atype := .int) (ty := .int) (N' := 2) (a0 := (2, .inl (fun _ => 0))) hx hb (hts _ k_ar_int) rfl hK hP hD hS hA (fun _ => rfl) (by decide) (by decide) (by decide) (Nat.le_of_ble_eq_true rfl) (Nat.le_of_ble_eq_true rfl) dM_init_6 (fun q1 c1 H hK hP hD hS => ?_)
  have hK : va_K D classes [(c1, .int)] s := hK
  have hP : va_P D classes [(h0, .inr (1, [.null, .null, .null, .null, .int 0, .null, .null, .null, .null, .null, .int 0, .int 0, .int 0, .int 0])), (q1, .inl (c1, 2, .inl (fun _ => 0)))] H := hP
  have hD : va_D A [(h0, .inr (1, [.null, .null, .null, .null, .int 0, .null, .null, .null, .null, .null, .int 0, .int 0, .int 0, .int 0])), (q1, .inl (c1, 2, .inl (fun _ => 0)))] := hD
  refine W.widen (k := 1) (n := 2) (Nat.le_of_ble_eq_true rfl) (Nat.le_of_ble_eq_true rfl) ?_
  refine va_put (D := D) (ci := 1) (v := .ref q1) (ty := .array .int) (C := R_M) (T := F_M) (N := 14) hx hb hts i_M t_M t_M_ok n_M hown hK hP hD hS 0 rfl rfl 0 (by decide) (hts _ k_fl_M_7) (fun _ h9 => h9) rfl (by decide +kernel) rfl rfl (Nat.le_of_ble_eq_true rfl) dM_init_8 (fun H locs hP hD hS => ?_)
  have hP : va_P D classes [(h0, .inr (1, [.ref q1, .null, .null, .null, .int 0, .null, .null, .null, .null, .null, .int 0, .int 0, .int 0, .int 0])), (q1, .inl (c1, 2, .inl (fun _ => 0)))] H := hP
  have hD : va_D A [(h0, .inr (1, [.ref q1, .null, .null, .null, .int 0, .null, .null, .null, .null, .null, .int 0, .int 0, .int 0, .int 0])), (q1, .inl (c1, 2, .inl (fun _ => 0)))] := hD
  refine lv_aload_n hx hb dM_init_11 rfl (lv_at hl 0 rfl) ?_
  refine lv_bipush (v := 80) hx hb dM_init_12 (by decide) ?_
  refine va_newa (atype := .int) (ty := .int) (N' := 80) (a0 := (80, .inl (fun _ => 0))) hx hb (hts _ k_ar_int) rfl hK hP hD hS hA (fun _ => rfl) (by decide) (by decide) (by decide) (Nat.le_of_ble_eq_true rfl) (Nat.le_of_ble_eq_true rfl) dM_init_14 (fun q2 c2 H hK hP hD hS => ?_)
  have hc2 : c1 = c2 := ra_int hK (i := 0) (j := 1) (by decide) rfl rfl
  subst hc2
  have hK : va_K D classes [(c1, .int)] s := hK.sub [0] rfl
  have hP : va_P D classes [(h0, .inr (1, [.ref q1, .null, .null, .null, .int 0, .null, .null, .null, .null, .null, .int 0, .int 0, .int 0, .int 0])), (q1, .inl (c1, 2, .inl (fun _ => 0))), (q2, .inl (c1, 80, .inl (fun _ => 0)))] H := hP
  have hD : va_D A [(h0, .inr (1, [.ref q1, .null, .null, .null, .int 0, .null, .null, .null, .null, .null, .int 0, .int 0, .int 0, .int 0])), (q1, .inl (c1, 2, .inl (fun _ => 0))), (q2, .inl (c1, 80, .inl (fun _ => 0)))] := hD
  refine W.widen (k := 2) (n := 82) (Nat.le_of_ble_eq_true rfl) (Nat.le_of_ble_eq_true rfl) ?_
  refine va_put (D := D) (ci := 1) (v := .ref q2) (ty := .array .int) (C := R_M) (T := F_M) (N := 14) hx hb hts i_M t_M t_M_ok n_M hown hK hP hD hS 0 rfl rfl 1 (by decide) (hts _ k_fl_M_13) (fun _ h9 => h9) rfl (by decide +kernel) rfl rfl (Nat.le_of_ble_eq_true rfl) dM_init_16 (fun H locs hP hD hS => ?_)
  have hP : va_P D classes [(h0, .inr (1, [.ref q1, .ref q2, .null, .null, .int 0, .null, .null, .null, .null, .null, .int 0, .int 0, .int 0, .int 0])), (q1, .inl (c1, 2, .inl (fun _ => 0))), (q2, .inl (c1, 80, .inl (fun _ => 0)))] H := hP
  have hD : va_D A [(h0, .inr (1, [.ref q1, .ref q2, .null, .null, .int 0, .null, .null, .null, .null, .null, .int 0, .int 0, .int 0, .int 0])), (q1, .inl (c1, 2, .inl (fun _ => 0))), (q2, .inl (c1, 80, .inl (fun _ => 0)))] := hD
  refine lv_aload_n hx hb dM_init_19 rfl (lv_at hl 0 rfl) ?_
  refine lv_bipush (v := 80) hx hb dM_init_20 (by decide) ?_
  refine va_newa (atype := .int) (ty := .int) (N' := 80) (a0 := (80, .inl (fun _ => 0))) hx hb (hts _ k_ar_int) rfl hK hP hD hS hA (fun _ => rfl) (by decide) (by decide) (by decide) (Nat.le_of_ble_eq_true rfl) (Nat.le_of_ble_eq_true rfl) dM_init_22 (fun q3 c3 H hK hP hD hS => ?_)
  have hc3 : c1 = c3 := ra_int hK (i := 0) (j := 1) (by decide) rfl rfl
  subst hc3
  have hK : va_K D classes [(c1, .int)] s := hK.sub [0] rfl
  have hP : va_P D classes [(h0, .inr (1, [.ref q1, .ref q2, .null, .null, .int 0, .null, .null, .null, .null, .null, .int 0, .int 0, .int 0, .int 0])), (q1, .inl (c1, 2, .inl (fun _ => 0))), (q2, .inl (c1, 80, .inl (fun _ => 0))), (q3, .inl (c1, 80, .inl (fun _ => 0)))] H := hP
  have hD : va_D A [(h0, .inr (1, [.ref q1, .ref q2, .null, .null, .int 0, .null, .null, .null, .null, .null, .int 0, .int 0, .int 0, .int 0])), (q1, .inl (c1, 2, .inl (fun _ => 0))), (q2, .inl (c1, 80, .inl (fun _ => 0))), (q3, .inl (c1, 80, .inl (fun _ => 0)))] := hD
  refine W.widen (k := 3) (n := 162) (Nat.le_of_ble_eq_true rfl) (Nat.le_of_ble_eq_true rfl) ?_
  refine va_put (D := D) (ci := 1) (v := .ref q3) (ty := .array .int) (C := R_M) (T := F_M) (N := 14) hx hb hts i_M t_M t_M_ok n_M hown hK hP hD hS 0 rfl rfl 2 (by decide) (hts _ k_fl_M_16) (fun _ h9 => h9) rfl (by decide +kernel) rfl rfl (Nat.le_of_ble_eq_true rfl) dM_init_24 (fun H locs hP hD hS => ?_)
  have hP : va_P D classes [(h0, .inr (1, [.ref q1, .ref q2, .ref q3, .null, .int 0, .null, .null, .null, .null, .null, .int 0, .int 0, .int 0, .int 0])), (q1, .inl (c1, 2, .inl (fun _ => 0))), (q2, .inl (c1, 80, .inl (fun _ => 0))), (q3, .inl (c1, 80, .inl (fun _ => 0)))] H := hP
  have hD : va_D A [(h0, .inr (1, [.ref q1, .ref q2, .ref q3, .null, .int 0, .null, .null, .null, .null, .null, .int 0, .int 0, .int 0, .int 0])), (q1, .inl (c1, 2, .inl (fun _ => 0))), (q2, .inl (c1, 80, .inl (fun _ => 0))), (q3, .inl (c1, 80, .inl (fun _ => 0)))] := hD
  refine lv_aload_n hx hb dM_init_27 rfl (lv_at hl 0 rfl) ?_
  refine lv_bipush (v := 32) hx hb dM_init_28 (by decide) ?_
  refine va_newa (atype := .boolean) (ty := .boolean) (N' := 32) (a0 := (32, .inl (fun _ => 0))) hx hb (hts _ k_ar_boolean) rfl hK hP hD hS hA (fun _ => rfl) (by decide) (by decide) (by decide) (Nat.le_of_ble_eq_true rfl) (Nat.le_of_ble_eq_true rfl) dM_init_30 (fun q4 c4 H hK hP hD hS => ?_)
  have hK : va_K D classes [(c1, .int), (c4, .boolean)] s := hK
  have hP : va_P D classes [(h0, .inr (1, [.ref q1, .ref q2, .ref q3, .null, .int 0, .null, .null, .null, .null, .null, .int 0, .int 0, .int 0, .int 0])), (q1, .inl (c1, 2, .inl (fun _ => 0))), (q2, .inl (c1, 80, .inl (fun _ => 0))), (q3, .inl (c1, 80, .inl (fun _ => 0))), (q4, .inl (c4, 32, .inl (fun _ => 0)))] H := hP
  have hD : va_D A [(h0, .inr (1, [.ref q1, .ref q2, .ref q3, .null, .int 0, .null, .null, .null, .null, .null, .int 0, .int 0, .int 0, .int 0])), (q1, .inl (c1, 2, .inl (fun _ => 0))), (q2, .inl (c1, 80, .inl (fun _ => 0))), (q3, .inl (c1, 80, .inl (fun _ => 0))), (q4, .inl (c4, 32, .inl (fun _ => 0)))] := hD
  refine W.widen (k := 4) (n := 194) (Nat.le_of_ble_eq_true rfl) (Nat.le_of_ble_eq_true rfl) ?_
  refine va_put (D := D) (ci := 1) (v := .ref q4) (ty := .array .boolean) (C := R_M) (T := F_M) (N := 14) hx hb hts i_M t_M t_M_ok n_M hown hK hP hD hS 0 rfl rfl 3 (by decide) (hts _ k_fl_M_19) (fun _ h9 => h9) rfl (by decide +kernel) rfl rfl (Nat.le_of_ble_eq_true rfl) dM_init_32 (fun H locs hP hD hS => ?_)
  have hP : va_P D classes [(h0, .inr (1, [.ref q1, .ref q2, .ref q3, .ref q4, .int 0, .null, .null, .null, .null, .null, .int 0, .int 0, .int 0, .int 0])), (q1, .inl (c1, 2, .inl (fun _ => 0))), (q2, .inl (c1, 80, .inl (fun _ => 0))), (q3, .inl (c1, 80, .inl (fun _ => 0))), (q4, .inl (c4, 32, .inl (fun _ => 0)))] H := hP
  have hD : va_D A [(h0, .inr (1, [.ref q1, .ref q2, .ref q3, .ref q4, .int 0, .null, .null, .null, .null, .null, .int 0, .int 0, .int 0, .int 0])), (q1, .inl (c1, 2, .inl (fun _ => 0))), (q2, .inl (c1, 80, .inl (fun _ => 0))), (q3, .inl (c1, 80, .inl (fun _ => 0))), (q4, .inl (c4, 32, .inl (fun _ => 0)))] := hD
  refine lv_aload_n hx hb dM_init_35 rfl (lv_at hl 0 rfl) ?_
  refine lv_bipush (v := 16) hx hb dM_init_36 (by decide) ?_
  refine va_newa (atype := .int) (ty := .int) (N' := 16) (a0 := (16, .inl (fun _ => 0))) hx hb (hts _ k_ar_int) rfl hK hP hD hS hA (fun _ => rfl) (by decide) (by decide) (by decide) (Nat.le_of_ble_eq_true rfl) (Nat.le_of_ble_eq_true rfl) dM_init_38 (fun q5 c5 H hK hP hD hS => ?_)
  have hc5 : c1 = c5 := ra_int hK (i := 0) (j := 2) (by decide) rfl rfl
  subst hc5
  have hK : va_K D classes [(c1, .int), (c4, .boolean)] s := hK.sub [0, 1] rfl
  have hP : va_P D classes [(h0, .inr (1, [.ref q1, .ref q2, .ref q3, .ref q4, .int 0, .null, .null, .null, .null, .null, .int 0, .int 0, .int 0, .int 0])), (q1, .inl (c1, 2, .inl (fun _ => 0))), (q2, .inl (c1, 80, .inl (fun _ => 0))), (q3, .inl (c1, 80, .inl (fun _ => 0))), (q4, .inl (c4, 32, .inl (fun _ => 0))), (q5, .inl (c1, 16, .inl (fun _ => 0)))] H := hP
  have hD : va_D A [(h0, .inr (1, [.ref q1, .ref q2, .ref q3, .ref q4, .int 0, .null, .null, .null, .null, .null, .int 0, .int 0, .int 0, .int 0])), (q1, .inl (c1, 2, .inl (fun _ => 0))), (q2, .inl (c1, 80, .inl (fun _ => 0))), (q3, .inl (c1, 80, .inl (fun _ => 0))), (q4, .inl (c4, 32, .inl (fun _ => 0))), (q5, .inl (c1, 16, .inl (fun _ => 0)))] := hD
  refine W.widen (k := 5) (n := 210) (Nat.le_of_ble_eq_true rfl) (Nat.le_of_ble_eq_true rfl) ?_
  refine va_put (D := D) (ci := 1) (v := .ref q5) (ty := .array .int) (C := R_M) (T := F_M) (N := 14) hx hb hts i_M t_M t_M_ok n_M hown hK hP hD hS 0 rfl rfl 5 (by decide) (hts _ k_fl_M_23) (fun _ h9 => h9) rfl (by decide +kernel) rfl rfl (Nat.le_of_ble_eq_true rfl) dM_init_40 (fun H locs hP hD hS => ?_)
  have hP : va_P D classes [(h0, .inr (1, [.ref q1, .ref q2, .ref q3, .ref q4, .int 0, .ref q5, .null, .null, .null, .null, .int 0, .int 0, .int 0, .int 0])), (q1, .inl (c1, 2, .inl (fun _ => 0))), (q2, .inl (c1, 80, .inl (fun _ => 0))), (q3, .inl (c1, 80, .inl (fun _ => 0))), (q4, .inl (c4, 32, .inl (fun _ => 0))), (q5, .inl (c1, 16, .inl (fun _ => 0)))] H := hP
  have hD : va_D A [(h0, .inr (1, [.ref q1, .ref q2, .ref q3, .ref q4, .int 0, .ref q5, .null, .null, .null, .null, .int 0, .int 0, .int 0, .int 0])), (q1, .inl (c1, 2, .inl (fun _ => 0))), (q2, .inl (c1, 80, .inl (fun _ => 0))), (q3, .inl (c1, 80, .inl (fun _ => 0))), (q4, .inl (c4, 32, .inl (fun _ => 0))), (q5, .inl (c1, 16, .inl (fun _ => 0)))] := hD
  refine lv_aload_n hx hb dM_init_43 rfl (lv_at hl 0 rfl) ?_
  refine lv_bipush (v := 16) hx hb dM_init_44 (by decide) ?_
  refine va_newa (atype := .int) (ty := .int) (N' := 16) (a0 := (16, .inl (fun _ => 0))) hx hb (hts _ k_ar_int) rfl hK hP hD hS hA (fun _ => rfl) (by decide) (by decide) (by decide) (Nat.le_of_ble_eq_true rfl) (Nat.le_of_ble_eq_true rfl) dM_init_46 (fun q6 c6 H hK hP hD hS => ?_)
  have hc6 : c1 = c6 := ra_int hK (i := 0) (j := 2) (by decide) rfl rfl
  subst hc6
  have hK : va_K D classes [(c1, .int), (c4, .boolean)] s := hK.sub [0, 1] rfl
  have hP : va_P D classes [(h0, .inr (1, [.ref q1, .ref q2, .ref q3, .ref q4, .int 0, .ref q5, .null, .null, .null, .null, .int 0, .int 0, .int 0, .int 0])), (q1, .inl (c1, 2, .inl (fun _ => 0))), (q2, .inl (c1, 80, .inl (fun _ => 0))), (q3, .inl (c1, 80, .inl (fun _ => 0))), (q4, .inl (c4, 32, .inl (fun _ => 0))), (q5, .inl (c1, 16, .inl (fun _ => 0))), (q6, .inl (c1, 16, .inl (fun _ => 0)))] H := hP
  have hD : va_D A [(h0, .inr (1, [.ref q1, .ref q2, .ref q3, .ref q4, .int 0, .ref q5, .null, .null, .null, .null, .int 0, .int 0, .int 0, .int 0])), (q1, .inl (c1, 2, .inl (fun _ => 0))), (q2, .inl (c1, 80, .inl (fun _ => 0))), (q3, .inl (c1, 80, .inl (fun _ => 0))), (q4, .inl (c4, 32, .inl (fun _ => 0))), (q5, .inl (c1, 16, .inl (fun _ => 0))), (q6, .inl (c1, 16, .inl (fun _ => 0)))] := hD
  refine W.widen (k := 6) (n := 226) (Nat.le_of_ble_eq_true rfl) (Nat.le_of_ble_eq_true rfl) ?_
  refine va_put (D := D) (ci := 1) (v := .ref q6) (ty := .array .int) (C := R_M) (T := F_M) (N := 14) hx hb hts i_M t_M t_M_ok n_M hown hK hP hD hS 0 rfl rfl 6 (by decide) (hts _ k_fl_M_26) (fun _ h9 => h9) rfl (by decide +kernel) rfl rfl (Nat.le_of_ble_eq_true rfl) dM_init_48 (fun H locs hP hD hS => ?_)
  have hP : va_P D classes [(h0, .inr (1, [.ref q1, .ref q2, .ref q3, .ref q4, .int 0, .ref q5, .ref q6, .null, .null, .null, .int 0, .int 0, .int 0, .int 0])), (q1, .inl (c1, 2, .inl (fun _ => 0))), (q2, .inl (c1, 80, .inl (fun _ => 0))), (q3, .inl (c1, 80, .inl (fun _ => 0))), (q4, .inl (c4, 32, .inl (fun _ => 0))), (q5, .inl (c1, 16, .inl (fun _ => 0))), (q6, .inl (c1, 16, .inl (fun _ => 0)))] H := hP
  have hD : va_D A [(h0, .inr (1, [.ref q1, .ref q2, .ref q3, .ref q4, .int 0, .ref q5, .ref q6, .null, .null, .null, .int 0, .int 0, .int 0, .int 0])), (q1, .inl (c1, 2, .inl (fun _ => 0))), (q2, .inl (c1, 80, .inl (fun _ => 0))), (q3, .inl (c1, 80, .inl (fun _ => 0))), (q4, .inl (c4, 32, .inl (fun _ => 0))), (q5, .inl (c1, 16, .inl (fun _ => 0))), (q6, .inl (c1, 16, .inl (fun _ => 0)))] := hD
  refine lv_aload_n hx hb dM_init_51 rfl (lv_at hl 0 rfl) ?_
  refine lv_bipush (v := 16) hx hb dM_init_52 (by decide) ?_
  refine va_newa (atype := .int) (ty := .int) (N' := 16) (a0 := (16, .inl (fun _ => 0))) hx hb (hts _ k_ar_int) rfl hK hP hD hS hA (fun _ => rfl) (by decide) (by decide) (by decide) (Nat.le_of_ble_eq_true rfl) (Nat.le_of_ble_eq_true rfl) dM_init_54 (fun q7 c7 H hK hP hD hS => ?_)
  have hc7 : c1 = c7 := ra_int hK (i := 0) (j := 2) (by decide) rfl rfl
  subst hc7
  have hK : va_K D classes [(c1, .int), (c4, .boolean)] s := hK.sub [0, 1] rfl
  have hP : va_P D classes [(h0, .inr (1, [.ref q1, .ref q2, .ref q3, .ref q4, .int 0, .ref q5, .ref q6, .null, .null, .null, .int 0, .int 0, .int 0, .int 0])), (q1, .inl (c1, 2, .inl (fun _ => 0))), (q2, .inl (c1, 80, .inl (fun _ => 0))), (q3, .inl (c1, 80, .inl (fun _ => 0))), (q4, .inl (c4, 32, .inl (fun _ => 0))), (q5, .inl (c1, 16, .inl (fun _ => 0))), (q6, .inl (c1, 16, .inl (fun _ => 0))), (q7, .inl (c1, 16, .inl (fun _ => 0)))] H := hP
  have hD : va_D A [(h0, .inr (1, [.ref q1, .ref q2, .ref q3, .ref q4, .int 0, .ref q5, .ref q6, .null, .null, .null, .int 0, .int 0, .int 0, .int 0])), (q1, .inl (c1, 2, .inl (fun _ => 0))), (q2, .inl (c1, 80, .inl (fun _ => 0))), (q3, .inl (c1, 80, .inl (fun _ => 0))), (q4, .inl (c4, 32, .inl (fun _ => 0))), (q5, .inl (c1, 16, .inl (fun _ => 0))), (q6, .inl (c1, 16, .inl (fun _ => 0))), (q7, .inl (c1, 16, .inl (fun _ => 0)))] := hD
  refine W.widen (k := 7) (n := 242) (Nat.le_of_ble_eq_true rfl) (Nat.le_of_ble_eq_true rfl) ?_
  refine va_put (D := D) (ci := 1) (v := .ref q7) (ty := .array .int) (C := R_M) (T := F_M) (N := 14) hx hb hts i_M t_M t_M_ok n_M hown hK hP hD hS 0 rfl rfl 7 (by decide) (hts _ k_fl_M_29) (fun _ h9 => h9) rfl (by decide +kernel) rfl rfl (Nat.le_of_ble_eq_true rfl) dM_init_56 (fun H locs hP hD hS => ?_)
  have hP : va_P D classes [(h0, .inr (1, [.ref q1, .ref q2, .ref q3, .ref q4, .int 0, .ref q5, .ref q6, .ref q7, .null, .null, .int 0, .int 0, .int 0, .int 0])), (q1, .inl (c1, 2, .inl (fun _ => 0))), (q2, .inl (c1, 80, .inl (fun _ => 0))), (q3, .inl (c1, 80, .inl (fun _ => 0))), (q4, .inl (c4, 32, .inl (fun _ => 0))), (q5, .inl (c1, 16, .inl (fun _ => 0))), (q6, .inl (c1, 16, .inl (fun _ => 0))), (q7, .inl (c1, 16, .inl (fun _ => 0)))] H := hP
  have hD : va_D A [(h0, .inr (1, [.ref q1, .ref q2, .ref q3, .ref q4, .int 0, .ref q5, .ref q6, .ref q7, .null, .null, .int 0, .int 0, .int 0, .int 0])), (q1, .inl (c1, 2, .inl (fun _ => 0))), (q2, .inl (c1, 80, .inl (fun _ => 0))), (q3, .inl (c1, 80, .inl (fun _ => 0))), (q4, .inl (c4, 32, .inl (fun _ => 0))), (q5, .inl (c1, 16, .inl (fun _ => 0))), (q6, .inl (c1, 16, .inl (fun _ => 0))), (q7, .inl (c1, 16, .inl (fun _ => 0)))] := hD
  refine lv_aload_n hx hb dM_init_59 rfl (lv_at hl 0 rfl) ?_
  refine lv_bipush (v := 16) hx hb dM_init_60 (by decide) ?_
  refine va_newa (atype := .int) (ty := .int) (N' := 16) (a0 := (16, .inl (fun _ => 0))) hx hb (hts _ k_ar_int) rfl hK hP hD hS hA (fun _ => rfl) (by decide) (by decide) (by decide) (Nat.le_of_ble_eq_true rfl) (Nat.le_of_ble_eq_true rfl) dM_init_62 (fun q8 c8 H hK hP hD hS => ?_)
  have hc8 : c1 = c8 := ra_int hK (i := 0) (j := 2) (by decide) rfl rfl
  subst hc8
  have hK : va_K D classes [(c1, .int), (c4, .boolean)] s := hK.sub [0, 1] rfl
  have hP : va_P D classes [(h0, .inr (1, [.ref q1, .ref q2, .ref q3, .ref q4, .int 0, .ref q5, .ref q6, .ref q7, .null, .null, .int 0, .int 0, .int 0, .int 0])), (q1, .inl (c1, 2, .inl (fun _ => 0))), (q2, .inl (c1, 80, .inl (fun _ => 0))), (q3, .inl (c1, 80, .inl (fun _ => 0))), (q4, .inl (c4, 32, .inl (fun _ => 0))), (q5, .inl (c1, 16, .inl (fun _ => 0))), (q6, .inl (c1, 16, .inl (fun _ => 0))), (q7, .inl (c1, 16, .inl (fun _ => 0))), (q8, .inl (c1, 16, .inl (fun _ => 0)))] H := hP
  have hD : va_D A [(h0, .inr (1, [.ref q1, .ref q2, .ref q3, .ref q4, .int 0, .ref q5, .ref q6, .ref q7, .null, .null, .int 0, .int 0, .int 0, .int 0])), (q1, .inl (c1, 2, .inl (fun _ => 0))), (q2, .inl (c1, 80, .inl (fun _ => 0))), (q3, .inl (c1, 80, .inl (fun _ => 0))), (q4, .inl (c4, 32, .inl (fun _ => 0))), (q5, .inl (c1, 16, .inl (fun _ => 0))), (q6, .inl (c1, 16, .inl (fun _ => 0))), (q7, .inl (c1, 16, .inl (fun _ => 0))), (q8, .inl (c1, 16, .inl (fun _ => 0)))] := hD
  refine W.widen (k := 8) (n := 258) (Nat.le_of_ble_eq_true rfl) (Nat.le_of_ble_eq_true rfl) ?_
  refine va_put (D := D) (ci := 1) (v := .ref q8) (ty := .array .int) (C := R_M) (T := F_M) (N := 14) hx hb hts i_M t_M t_M_ok n_M hown hK hP hD hS 0 rfl rfl 8 (by decide) (hts _ k_fl_M_32) (fun _ h9 => h9) rfl (by decide +kernel) rfl rfl (Nat.le_of_ble_eq_true rfl) dM_init_64 (fun H locs hP hD hS => ?_)
  have hP : va_P D classes [(h0, .inr (1, [.ref q1, .ref q2, .ref q3, .ref q4, .int 0, .ref q5, .ref q6, .ref q7, .ref q8, .null, .int 0, .int 0, .int 0, .int 0])), (q1, .inl (c1, 2, .inl (fun _ => 0))), (q2, .inl (c1, 80, .inl (fun _ => 0))), (q3, .inl (c1, 80, .inl (fun _ => 0))), (q4, .inl (c4, 32, .inl (fun _ => 0))), (q5, .inl (c1, 16, .inl (fun _ => 0))), (q6, .inl (c1, 16, .inl (fun _ => 0))), (q7, .inl (c1, 16, .inl (fun _ => 0))), (q8, .inl (c1, 16, .inl (fun _ => 0)))] H := hP
  have hD : va_D A [(h0, .inr (1, [.ref q1, .ref q2, .ref q3, .ref q4, .int 0, .ref q5, .ref q6, .ref q7, .ref q8, .null, .int 0, .int 0, .int 0, .int 0])), (q1, .inl (c1, 2, .inl (fun _ => 0))), (q2, .inl (c1, 80, .inl (fun _ => 0))), (q3, .inl (c1, 80, .inl (fun _ => 0))), (q4, .inl (c4, 32, .inl (fun _ => 0))), (q5, .inl (c1, 16, .inl (fun _ => 0))), (q6, .inl (c1, 16, .inl (fun _ => 0))), (q7, .inl (c1, 16, .inl (fun _ => 0))), (q8, .inl (c1, 16, .inl (fun _ => 0)))] := hD
  refine lv_aload_n hx hb dM_init_67 rfl (lv_at hl 0 rfl) ?_
  refine lv_bipush (v := 16) hx hb dM_init_68 (by decide) ?_
  refine va_newa (atype := .int) (ty := .int) (N' := 16) (a0 := (16, .inl (fun _ => 0))) hx hb (hts _ k_ar_int) rfl hK hP hD hS hA (fun _ => rfl) (by decide) (by decide) (by decide) (Nat.le_of_ble_eq_true rfl) (Nat.le_of_ble_eq_true rfl) dM_init_70 (fun q9 c9 H hK hP hD hS => ?_)
  have hc9 : c1 = c9 := ra_int hK (i := 0) (j := 2) (by decide) rfl rfl
  subst hc9
  have hK : va_K D classes [(c1, .int), (c4, .boolean)] s := hK.sub [0, 1] rfl
  have hP : va_P D classes [(h0, .inr (1, [.ref q1, .ref q2, .ref q3, .ref q4, .int 0, .ref q5, .ref q6, .ref q7, .ref q8, .null, .int 0, .int 0, .int 0, .int 0])), (q1, .inl (c1, 2, .inl (fun _ => 0))), (q2, .inl (c1, 80, .inl (fun _ => 0))), (q3, .inl (c1, 80, .inl (fun _ => 0))), (q4, .inl (c4, 32, .inl (fun _ => 0))), (q5, .inl (c1, 16, .inl (fun _ => 0))), (q6, .inl (c1, 16, .inl (fun _ => 0))), (q7, .inl (c1, 16, .inl (fun _ => 0))), (q8, .inl (c1, 16, .inl (fun _ => 0))), (q9, .inl (c1, 16, .inl (fun _ => 0)))] H := hP
  have hD : va_D A [(h0, .inr (1, [.ref q1, .ref q2, .ref q3, .ref q4, .int 0, .ref q5, .ref q6, .ref q7, .ref q8, .null, .int 0, .int 0, .int 0, .int 0])), (q1, .inl (c1, 2, .inl (fun _ => 0))), (q2, .inl (c1, 80, .inl (fun _ => 0))), (q3, .inl (c1, 80, .inl (fun _ => 0))), (q4, .inl (c4, 32, .inl (fun _ => 0))), (q5, .inl (c1, 16, .inl (fun _ => 0))), (q6, .inl (c1, 16, .inl (fun _ => 0))), (q7, .inl (c1, 16, .inl (fun _ => 0))), (q8, .inl (c1, 16, .inl (fun _ => 0))), (q9, .inl (c1, 16, .inl (fun _ => 0)))] := hD
  refine W.widen (k := 9) (n := 274) (Nat.le_of_ble_eq_true rfl) (Nat.le_of_ble_eq_true rfl) ?_
  refine va_put (D := D) (ci := 1) (v := .ref q9) (ty := .array .int) (C := R_M) (T := F_M) (N := 14) hx hb hts i_M t_M t_M_ok n_M hown hK hP hD hS 0 rfl rfl 9 (by decide) (hts _ k_fl_M_35) (fun _ h9 => h9) rfl (by decide +kernel) rfl rfl (Nat.le_of_ble_eq_true rfl) dM_init_72 (fun H locs hP hD hS => ?_)
  have hP : va_P D classes [(h0, .inr (1, [.ref q1, .ref q2, .ref q3, .ref q4, .int 0, .ref q5, .ref q6, .ref q7, .ref q8, .ref q9, .int 0, .int 0, .int 0, .int 0])), (q1, .inl (c1, 2, .inl (fun _ => 0))), (q2, .inl (c1, 80, .inl (fun _ => 0))), (q3, .inl (c1, 80, .inl (fun _ => 0))), (q4, .inl (c4, 32, .inl (fun _ => 0))), (q5, .inl (c1, 16, .inl (fun _ => 0))), (q6, .inl (c1, 16, .inl (fun _ => 0))), (q7, .inl (c1, 16, .inl (fun _ => 0))), (q8, .inl (c1, 16, .inl (fun _ => 0))), (q9, .inl (c1, 16, .inl (fun _ => 0)))] H := hP
  have hD : va_D A [(h0, .inr (1, [.ref q1, .ref q2, .ref q3, .ref q4, .int 0, .ref q5, .ref q6, .ref q7, .ref q8, .ref q9, .int 0, .int 0, .int 0, .int 0])), (q1, .inl (c1, 2, .inl (fun _ => 0))), (q2, .inl (c1, 80, .inl (fun _ => 0))), (q3, .inl (c1, 80, .inl (fun _ => 0))), (q4, .inl (c4, 32, .inl (fun _ => 0))), (q5, .inl (c1, 16, .inl (fun _ => 0))), (q6, .inl (c1, 16, .inl (fun _ => 0))), (q7, .inl (c1, 16, .inl (fun _ => 0))), (q8, .inl (c1, 16, .inl (fun _ => 0))), (q9, .inl (c1, 16, .inl (fun _ => 0)))] := hD
  exact W.vret hx hb hr (fun t ht hW => ⟨⟨(), rfl, trivial, fun i => [h0, q1, q2, q3, q4, q5, q6, q7, q8, q9].getD i 0, c1, c4, rfl, by rw [ht]; exact hP, va_K.moved hW.alike hK, hD⟩, hS.F ht⟩) hS.2.2 dM_init_75
end
section
/-! the law: rows of its own -/
abbrev wl (a b : Nat → Nat) (cI cZ : ClassId) (u : QS × QS) : va_W := xw a cI cZ u.1 ++ mw b cI cZ u.2
def QScr (k : QC) (b L : Nat) (xs : Nat → Int32) : Prop := match k with
  | (_, _, _, _, s, _, _, _, _, _, _, _, _, A, _, _, _) => va_X b L xs s s.heap ∧ b < s.heap.size ∧ ¬ A b
section QLaw
variable {σ : Type} {k : QC} {w : σ → va_W} {S : σ} {lv : List (Nat × Value)} {pc b L : Nat} {xs : Nat → Int32} {rest : List Value} {cc : ByteArray} {own : String} {nL : Nat} {R : Room} {l : Launch} {D : va_G} {tys : List (ClassId × FieldType)}
theorem qv_sld (hk : QK k cc own nL R l D tys) (hX : QScr k b L xs) {j : Nat} (hj : j < L) (hL : L < 2 ^ 31) (hd : decode cc pc = .ok (.iaload, 1)) (kk : QV k w S lv (pc + 1) (.int (xs j) :: rest)) : QV k w S lv pc (.int (nI j) :: .ref b :: rest) := by
  obtain ⟨p, l', e, R', s, m, args, below, meth, c, D', tys', Q, A, nL', mc, ms⟩ := k
  obtain ⟨hx, hb, hml, hown, hts, hK, hA, rfl, rfl, rfl, rfl, rfl, hmc, hms⟩ := hk
  intro H locs ls hP hD hS hl
  refine va_sld hx hb hX.1 hX.2.1 hX.2.2 hS (vp_in_nI hj hL) hd ?_
  rw [nI_clamp (by omega)]
  exact kk H locs ls hP hD hS hl
theorem qv_slen (hk : QK k cc own nL R l D tys) (hX : QScr k b L xs) (hd : decode cc pc = .ok (.arraylength, 1)) (kk : QV k w S lv (pc + 1) (.int (nI L) :: rest)) : QV k w S lv pc (.ref b :: rest) := by
  obtain ⟨p, l', e, R', s, m, args, below, meth, c, D', tys', Q, A, nL', mc, ms⟩ := k
  obtain ⟨hx, hb, hml, hown, hts, hK, hA, rfl, rfl, rfl, rfl, rfl, hmc, hms⟩ := hk
  intro H locs ls hP hD hS hl
  exact va_slen hx hb hX.1 hX.2.1 hX.2.2 hS hd (kk H locs ls hP hD hS hl)
theorem qv_tableOut (hk : QK k cc own nL R l D tys) {dflt lo hi : Int} {offs : Array Int} {len : Nat} {x : Int32} {tgt : Nat} (hd : decode cc pc = .ok (.tableswitch dflt lo hi offs, len)) (h : x.toInt < lo ∨ hi < x.toInt) (ht : (pc : Int) + dflt = (tgt : Int)) (kk : QV k w S lv tgt rest) : QV k w S lv pc (.int x :: rest) := by
  obtain ⟨p, l', e, R', s, m, args, below, meth, c, D', tys', Q, A, nL', mc, ms⟩ := k
  intro H locs ls hP hD hS hl
  exact lv_tableOut hk.1 hk.2.1 hd h ht (kk H locs ls hP hD hS hl)
theorem qv_tableIn (hk : QK k cc own nL R l D tys) {dflt lo hi : Int} {offs : Array Int} {len : Nat} {x : Int32} {off : Int} {tgt : Nat} (hd : decode cc pc = .ok (.tableswitch dflt lo hi offs, len)) (h1 : ¬ x.toInt < lo) (h2 : ¬ hi < x.toInt) (ho : offs[(x.toInt - lo).toNat]? = some off) (ht : (pc : Int) + off = (tgt : Int)) (kk : QV k w S lv tgt rest) : QV k w S lv pc (.int x :: rest) := by
  obtain ⟨p, l', e, R', s, m, args, below, meth, c, D', tys', Q, A, nL', mc, ms⟩ := k
  intro H locs ls hP hD hS hl
  exact lv_tableIn hk.1 hk.2.1 hd h1 h2 ho ht (kk H locs ls hP hD hS hl)
end QLaw
section QLawCalls
variable {k : QC} {a bm : Nat → Nat} {cI cZ : ClassId} {S T : QS} {lv : List (Nat × Value)} {pc n index maxL : Nat} {rest As st : List Value} {cc bytes : ByteArray} {nL : Nat} {R rm : Room} {l : Launch} {D : va_G} {y : MethodName} {ws : List Cond} {ret : Option FieldType} {tys : List (ClassId × FieldType)} {post : Int32 → QS → Prop}
theorem callLX (hk : QK k cc R_law nL R l D tys) (hM : MetI l y ws rm D tys (xw a cI cZ) S (.ref (a 0) :: As) post) (hG : GoodIn lw_ok (wsV R_law index R_X y ws) ∧ (ws = Cond.code y bytes maxL ret :: lw_ok) ∧ rm.cells = 0 ∧ rm.slots = 0 ∧ (y.cls = R_X ∧ y.cls ≠ "java/lang/invoke/MethodHandle" ∧ y.cls ≠ "java/lang/invoke/VarHandle" ∧ (parseMethodDescriptor y.desc).map (fun d => d.parameters.length) = some n)) (hR : rm.frames + 1 ≤ R.frames ∧ 8 + (maxL + 11) + rm.locals ≤ R.locals) (hn : As.length = n) (hs : st = As.reverse ++ .ref (a 0) :: rest) (hst : (rest.map fun v => v.category).sum ≤ 8) (hdg : decode cc pc = .ok (.invokevirtual index, 3)) (kk : ∀ (r : Int32) (S2 : QS), post r S2 → QV k (wl a bm cI cZ) (S2, T) lv (pc + 3) (.int r :: rest)) : QV k (wl a bm cI cZ) (S, T) lv pc st := by
  rw [hs]
  exact qv_callI hk hM hG.1 hG.2.1 hG.2.2.1 hG.2.2.2.1 hG.2.2.2.2 hR hn (w := wl a bm cI cZ) rfl rfl rfl [0, 1, 2, 3, 4, 5, 6, 7, 8, 9, 10, 11] [12, 13, 14, 15, 16, 17, 18, 19, 20, 21] (wr := mw bm cI cZ T) rfl rfl (by decide) (by decide) (by decide) (fun S2 => (S2, T)) [10, 11, 12, 13, 14, 15, 16, 17, 18, 19, 20, 21, 0, 1, 2, 3, 4, 5, 6, 7, 8, 9] (fun _ => rfl) (by decide) hst hdg kk
theorem callLM (hk : QK k cc R_law nL R l D tys) (hM : MetI l y ws rm D tys (mw bm cI cZ) T (.ref (bm 0) :: As) post) (hG : GoodIn lw_ok (wsV R_law index R_M y ws) ∧ (ws = Cond.code y bytes maxL ret :: lw_ok) ∧ rm.cells = 0 ∧ rm.slots = 0 ∧ (y.cls = R_M ∧ y.cls ≠ "java/lang/invoke/MethodHandle" ∧ y.cls ≠ "java/lang/invoke/VarHandle" ∧ (parseMethodDescriptor y.desc).map (fun d => d.parameters.length) = some n)) (hR : rm.frames + 1 ≤ R.frames ∧ 8 + (maxL + 11) + rm.locals ≤ R.locals) (hn : As.length = n) (hs : st = As.reverse ++ .ref (bm 0) :: rest) (hst : (rest.map fun v => v.category).sum ≤ 8) (hdg : decode cc pc = .ok (.invokevirtual index, 3)) (kk : ∀ (r : Int32) (S2 : QS), post r S2 → QV k (wl a bm cI cZ) (S, S2) lv (pc + 3) (.int r :: rest)) : QV k (wl a bm cI cZ) (S, T) lv pc st := by
  rw [hs]
  exact qv_callI hk hM hG.1 hG.2.1 hG.2.2.1 hG.2.2.2.1 hG.2.2.2.2 hR hn (w := wl a bm cI cZ) rfl rfl rfl [12, 13, 14, 15, 16, 17, 18, 19, 20, 21] [0, 1, 2, 3, 4, 5, 6, 7, 8, 9, 10, 11] (wr := xw a cI cZ S) rfl rfl (by decide) (by decide) (by decide) (fun S2 => (S, S2)) (List.range 22) (fun _ => rfl) (by decide) hst hdg kk
end QLawCalls
set_option maxHeartbeats 4000000 in
set_option maxRecDepth 100000 in
theorem law_case_0 {k : QC} {l : Launch} {D : va_G} {a bm : Nat → Nat} {cI cZ : ClassId} {b L i : Nat} {xs : Nat → Int32} (hk : QK k code R_law 4 room_1 l D (qty cI cZ)) (hX : QScr k b L xs) (hL : L ≤ 2048) (hi : i + 4 ≤ L) {S T : QS} (hinv : Inv S T) (kk : ∀ S2 T2 : QS, Inv S2 T2 → QV k (wl a bm cI cZ) (S2, T2) [(0, .ref b), (1, .ref (a 0)), (2, .ref (bm 0)), (3, .int (nI i))] 621 []) : QV k (wl a bm cI cZ) (S, T) [(0, .ref b), (1, .ref (a 0)), (2, .ref (bm 0)), (3, .int (nI i))] 124 [] := by
  obtain ⟨qx, qm, hA, hB, hrel⟩ := hinv
  refine qv_aload_n hk 1 rfl dL_law_124 rfl ?_
  refine qv_aload_n hk 0 rfl dL_law_125 rfl ?_
  refine qv_iload_n hk 3 rfl dL_law_126 rfl ?_
  refine qv_iconst (v := nI 1) hk dL_law_127 (by decide) ?_
  refine qn_iadd hk dL_law_128 ?_
  refine qv_sld hk hX (by omega) (by omega) dL_law_129 ?_
  refine qv_aload_n hk 0 rfl dL_law_130 rfl ?_
  refine qv_iload_n hk 3 rfl dL_law_131 rfl ?_
  refine qv_iconst (v := nI 2) hk dL_law_132 (by decide) ?_
  refine qn_iadd hk dL_law_133 ?_
  refine qv_sld hk hX (by omega) (by omega) dL_law_134 ?_
  refine qv_aload_n hk 0 rfl dL_law_135 rfl ?_
  refine qv_iload_n hk 3 rfl dL_law_136 rfl ?_
  refine qv_iconst (v := nI 3) hk dL_law_137 (by decide) ?_
  refine qn_iadd hk dL_law_138 ?_
  refine qv_sld hk hX (by omega) (by omega) dL_law_139 ?_
  refine callLX (As := [.int (xs (i + 1)), .int (xs (i + 2)), .int (xs (i + 3))]) (rest := []) hk (qx_feed l D a cI cZ S qx.1 hA.1 (xs (i + 1)) (xs (i + 2)) (xs (i + 3))) gLX_feed (by decide) rfl rfl (Nat.le_of_ble_eq_true rfl) dL_law_140 (fun r1 S2 h1 => ?_)
  refine qv_aload_n hk 2 rfl dL_law_143 rfl ?_
  refine qv_aload_n hk 0 rfl dL_law_144 rfl ?_
  refine qv_iload_n hk 3 rfl dL_law_145 rfl ?_
  refine qv_iconst (v := nI 1) hk dL_law_146 (by decide) ?_
  refine qn_iadd hk dL_law_147 ?_
  refine qv_sld hk hX (by omega) (by omega) dL_law_148 ?_
  refine qv_aload_n hk 0 rfl dL_law_149 rfl ?_
  refine qv_iload_n hk 3 rfl dL_law_150 rfl ?_
  refine qv_iconst (v := nI 2) hk dL_law_151 (by decide) ?_
  refine qn_iadd hk dL_law_152 ?_
  refine qv_sld hk hX (by omega) (by omega) dL_law_153 ?_
  refine qv_aload_n hk 0 rfl dL_law_154 rfl ?_
  refine qv_iload_n hk 3 rfl dL_law_155 rfl ?_
  refine qv_iconst (v := nI 3) hk dL_law_156 (by decide) ?_
  refine qn_iadd hk dL_law_157 ?_
  refine qv_sld hk hX (by omega) (by omega) dL_law_158 ?_
  refine callLM (As := [.int (xs (i + 1)), .int (xs (i + 2)), .int (xs (i + 3))]) (rest := [.int r1]) hk (qm_feed l D bm cI cZ T qm.1 hB.1 (xs (i + 1)) (xs (i + 2)) (xs (i + 3))) gLM_feed (by decide) rfl rfl (Nat.le_of_ble_eq_true rfl) dL_law_159 (fun r2 T2 h2 => ?_)
  have hf := lw_feed hA hB hrel h1 h2
  refine qv_icmp_eq (tgt := 621) hk dL_law_162 (by decide) (fun _ => ?_) (fun h => absurd hf.1 h)
  exact kk S2 T2 hf.2
set_option maxHeartbeats 4000000 in
set_option maxRecDepth 100000 in
theorem law_case_1 {k : QC} {l : Launch} {D : va_G} {a bm : Nat → Nat} {cI cZ : ClassId} {b L i : Nat} {xs : Nat → Int32} (hk : QK k code R_law 4 room_1 l D (qty cI cZ)) (hX : QScr k b L xs) (hL : L ≤ 2048) (hi : i + 4 ≤ L) {S T : QS} (hinv : Inv S T) (kk : ∀ S2 T2 : QS, Inv S2 T2 → QV k (wl a bm cI cZ) (S2, T2) [(0, .ref b), (1, .ref (a 0)), (2, .ref (bm 0)), (3, .int (nI i))] 621 []) : QV k (wl a bm cI cZ) (S, T) [(0, .ref b), (1, .ref (a 0)), (2, .ref (bm 0)), (3, .int (nI i))] 167 [] := by
  obtain ⟨qx, qm, hA, hB, hrel⟩ := hinv
  refine qv_aload_n hk 1 rfl dL_law_167 rfl ?_
  refine qv_aload_n hk 0 rfl dL_law_168 rfl ?_
  refine qv_iload_n hk 3 rfl dL_law_169 rfl ?_
  refine qv_iconst (v := nI 1) hk dL_law_170 (by decide) ?_
  refine qn_iadd hk dL_law_171 ?_
  refine qv_sld hk hX (by omega) (by omega) dL_law_172 ?_
  refine qv_aload_n hk 0 rfl dL_law_173 rfl ?_
  refine qv_iload_n hk 3 rfl dL_law_174 rfl ?_
  refine qv_iconst (v := nI 2) hk dL_law_175 (by decide) ?_
  refine qn_iadd hk dL_law_176 ?_
  refine qv_sld hk hX (by omega) (by omega) dL_law_177 ?_
  refine qv_aload_n hk 0 rfl dL_law_178 rfl ?_
  refine qv_iload_n hk 3 rfl dL_law_179 rfl ?_
  refine qv_iconst (v := nI 3) hk dL_law_180 (by decide) ?_
  refine qn_iadd hk dL_law_181 ?_
  refine qv_sld hk hX (by omega) (by omega) dL_law_182 ?_
  refine callLX (As := [.int (xs (i + 1)), .int (xs (i + 2)), .int (xs (i + 3))]) (rest := []) hk (qx_retract l D a cI cZ S qx.1 hA.1 (xs (i + 1)) (xs (i + 2)) (xs (i + 3))) gLX_retract (by decide) rfl rfl (Nat.le_of_ble_eq_true rfl) dL_law_183 (fun r1 S2 h1 => ?_)
  refine qv_aload_n hk 2 rfl dL_law_186 rfl ?_
  refine qv_aload_n hk 0 rfl dL_law_187 rfl ?_
  refine qv_iload_n hk 3 rfl dL_law_188 rfl ?_
  refine qv_iconst (v := nI 1) hk dL_law_189 (by decide) ?_
  refine qn_iadd hk dL_law_190 ?_
  refine qv_sld hk hX (by omega) (by omega) dL_law_191 ?_
  refine qv_aload_n hk 0 rfl dL_law_192 rfl ?_
  refine qv_iload_n hk 3 rfl dL_law_193 rfl ?_
  refine qv_iconst (v := nI 2) hk dL_law_194 (by decide) ?_
  refine qn_iadd hk dL_law_195 ?_
  refine qv_sld hk hX (by omega) (by omega) dL_law_196 ?_
  refine qv_aload_n hk 0 rfl dL_law_197 rfl ?_
  refine qv_iload_n hk 3 rfl dL_law_198 rfl ?_
  refine qv_iconst (v := nI 3) hk dL_law_199 (by decide) ?_
  refine qn_iadd hk dL_law_200 ?_
  refine qv_sld hk hX (by omega) (by omega) dL_law_201 ?_
  refine callLM (As := [.int (xs (i + 1)), .int (xs (i + 2)), .int (xs (i + 3))]) (rest := [.int r1]) hk (qm_retract l D bm cI cZ T qm.1 hB.1 (xs (i + 1)) (xs (i + 2)) (xs (i + 3))) gLM_retract (by decide) rfl rfl (Nat.le_of_ble_eq_true rfl) dL_law_202 (fun r2 T2 h2 => ?_)
  have hf := lw_retract hA hB hrel h1 h2
  refine qv_icmp_eq (tgt := 621) hk dL_law_205 (by decide) (fun _ => ?_) (fun h => absurd hf.1 h)
  exact kk S2 T2 hf.2
set_option maxHeartbeats 4000000 in
set_option maxRecDepth 100000 in
theorem law_case_2 {k : QC} {l : Launch} {D : va_G} {a bm : Nat → Nat} {cI cZ : ClassId} {b L i : Nat} {xs : Nat → Int32} (hk : QK k code R_law 4 room_1 l D (qty cI cZ)) (hX : QScr k b L xs) (hL : L ≤ 2048) (hi : i + 4 ≤ L) {S T : QS} (hinv : Inv S T) (kk : ∀ S2 T2 : QS, Inv S2 T2 → QV k (wl a bm cI cZ) (S2, T2) [(0, .ref b), (1, .ref (a 0)), (2, .ref (bm 0)), (3, .int (nI i))] 621 []) : QV k (wl a bm cI cZ) (S, T) [(0, .ref b), (1, .ref (a 0)), (2, .ref (bm 0)), (3, .int (nI i))] 210 [] := by
  obtain ⟨qx, qm, hA, hB, hrel⟩ := hinv
  refine qv_aload_n hk 1 rfl dL_law_210 rfl ?_
  refine qv_aload_n hk 0 rfl dL_law_211 rfl ?_
  refine qv_iload_n hk 3 rfl dL_law_212 rfl ?_
  refine qv_iconst (v := nI 1) hk dL_law_213 (by decide) ?_
  refine qn_iadd hk dL_law_214 ?_
  refine qv_sld hk hX (by omega) (by omega) dL_law_215 ?_
  refine qv_aload_n hk 0 rfl dL_law_216 rfl ?_
  refine qv_iload_n hk 3 rfl dL_law_217 rfl ?_
  refine qv_iconst (v := nI 2) hk dL_law_218 (by decide) ?_
  refine qn_iadd hk dL_law_219 ?_
  refine qv_sld hk hX (by omega) (by omega) dL_law_220 ?_
  refine qv_aload_n hk 0 rfl dL_law_221 rfl ?_
  refine qv_iload_n hk 3 rfl dL_law_222 rfl ?_
  refine qv_iconst (v := nI 3) hk dL_law_223 (by decide) ?_
  refine qn_iadd hk dL_law_224 ?_
  refine qv_sld hk hX (by omega) (by omega) dL_law_225 ?_
  refine callLX (As := [.int (xs (i + 1)), .int (xs (i + 2)), .int (xs (i + 3))]) (rest := []) hk (qx_close l D a cI cZ S qx hA (xs (i + 1)) (xs (i + 2)) (xs (i + 3))) gLX_close (by decide) rfl rfl (Nat.le_of_ble_eq_true rfl) dL_law_226 (fun r1 S2 h1 => ?_)
  refine qv_aload_n hk 2 rfl dL_law_229 rfl ?_
  refine qv_aload_n hk 0 rfl dL_law_230 rfl ?_
  refine qv_iload_n hk 3 rfl dL_law_231 rfl ?_
  refine qv_iconst (v := nI 1) hk dL_law_232 (by decide) ?_
  refine qn_iadd hk dL_law_233 ?_
  refine qv_sld hk hX (by omega) (by omega) dL_law_234 ?_
  refine qv_aload_n hk 0 rfl dL_law_235 rfl ?_
  refine qv_iload_n hk 3 rfl dL_law_236 rfl ?_
  refine qv_iconst (v := nI 2) hk dL_law_237 (by decide) ?_
  refine qn_iadd hk dL_law_238 ?_
  refine qv_sld hk hX (by omega) (by omega) dL_law_239 ?_
  refine qv_aload_n hk 0 rfl dL_law_240 rfl ?_
  refine qv_iload_n hk 3 rfl dL_law_241 rfl ?_
  refine qv_iconst (v := nI 3) hk dL_law_242 (by decide) ?_
  refine qn_iadd hk dL_law_243 ?_
  refine qv_sld hk hX (by omega) (by omega) dL_law_244 ?_
  refine callLM (As := [.int (xs (i + 1)), .int (xs (i + 2)), .int (xs (i + 3))]) (rest := [.int r1]) hk (qm_close l D bm cI cZ T qm hB (xs (i + 1)) (xs (i + 2)) (xs (i + 3))) gLM_close (by decide) rfl rfl (Nat.le_of_ble_eq_true rfl) dL_law_245 (fun r2 T2 h2 => ?_)
  have hf := lw_close hrel hA hB h1 h2
  refine qv_icmp_eq (tgt := 621) hk dL_law_248 (by decide) (fun _ => ?_) (fun h => absurd hf.1 h)
  exact kk S2 T2 hf.2
set_option maxHeartbeats 4000000 in
set_option maxRecDepth 100000 in
theorem law_case_3 {k : QC} {l : Launch} {D : va_G} {a bm : Nat → Nat} {cI cZ : ClassId} {b L i : Nat} {xs : Nat → Int32} (hk : QK k code R_law 4 room_1 l D (qty cI cZ)) (hX : QScr k b L xs) (hL : L ≤ 2048) (hi : i + 4 ≤ L) {S T : QS} (hinv : Inv S T) (kk : ∀ S2 T2 : QS, Inv S2 T2 → QV k (wl a bm cI cZ) (S2, T2) [(0, .ref b), (1, .ref (a 0)), (2, .ref (bm 0)), (3, .int (nI i))] 621 []) : QV k (wl a bm cI cZ) (S, T) [(0, .ref b), (1, .ref (a 0)), (2, .ref (bm 0)), (3, .int (nI i))] 253 [] := by
  obtain ⟨qx, qm, hA, hB, hrel⟩ := hinv
  refine qv_aload_n hk 1 rfl dL_law_253 rfl ?_
  refine qv_aload_n hk 0 rfl dL_law_254 rfl ?_
  refine qv_iload_n hk 3 rfl dL_law_255 rfl ?_
  refine qv_iconst (v := nI 1) hk dL_law_256 (by decide) ?_
  refine qn_iadd hk dL_law_257 ?_
  refine qv_sld hk hX (by omega) (by omega) dL_law_258 ?_
  refine callLX (As := [.int (xs (i + 1))]) (rest := []) hk (qx_held l D a cI cZ S qx.1 hA.1 (xs (i + 1))) gLX_held (by decide) rfl rfl (Nat.le_of_ble_eq_true rfl) dL_law_259 (fun r1 S2 h1 => ?_)
  refine qv_aload_n hk 2 rfl dL_law_262 rfl ?_
  refine qv_aload_n hk 0 rfl dL_law_263 rfl ?_
  refine qv_iload_n hk 3 rfl dL_law_264 rfl ?_
  refine qv_iconst (v := nI 1) hk dL_law_265 (by decide) ?_
  refine qn_iadd hk dL_law_266 ?_
  refine qv_sld hk hX (by omega) (by omega) dL_law_267 ?_
  refine callLM (As := [.int (xs (i + 1))]) (rest := [.int r1]) hk (qm_held l D bm cI cZ T qm.1 hB.1 (xs (i + 1))) gLM_held (by decide) rfl rfl (Nat.le_of_ble_eq_true rfl) dL_law_268 (fun r2 T2 h2 => ?_)
  have hf := lw_held hA hB hrel h1 h2
  refine qv_icmp_eq (tgt := 621) hk dL_law_271 (by decide) (fun _ => ?_) (fun h => absurd hf.1 h)
  exact kk S2 T2 hf.2
set_option maxHeartbeats 4000000 in
set_option maxRecDepth 100000 in
theorem law_case_4 {k : QC} {l : Launch} {D : va_G} {a bm : Nat → Nat} {cI cZ : ClassId} {b L i : Nat} {xs : Nat → Int32} (hk : QK k code R_law 4 room_1 l D (qty cI cZ)) (hX : QScr k b L xs) (hL : L ≤ 2048) (hi : i + 4 ≤ L) {S T : QS} (hinv : Inv S T) (kk : ∀ S2 T2 : QS, Inv S2 T2 → QV k (wl a bm cI cZ) (S2, T2) [(0, .ref b), (1, .ref (a 0)), (2, .ref (bm 0)), (3, .int (nI i))] 621 []) : QV k (wl a bm cI cZ) (S, T) [(0, .ref b), (1, .ref (a 0)), (2, .ref (bm 0)), (3, .int (nI i))] 276 [] := by
  obtain ⟨qx, qm, hA, hB, hrel⟩ := hinv
  refine qv_aload_n hk 1 rfl dL_law_276 rfl ?_
  refine qv_aload_n hk 0 rfl dL_law_277 rfl ?_
  refine qv_iload_n hk 3 rfl dL_law_278 rfl ?_
  refine qv_iconst (v := nI 1) hk dL_law_279 (by decide) ?_
  refine qn_iadd hk dL_law_280 ?_
  refine qv_sld hk hX (by omega) (by omega) dL_law_281 ?_
  refine qv_aload_n hk 0 rfl dL_law_282 rfl ?_
  refine qv_iload_n hk 3 rfl dL_law_283 rfl ?_
  refine qv_iconst (v := nI 2) hk dL_law_284 (by decide) ?_
  refine qn_iadd hk dL_law_285 ?_
  refine qv_sld hk hX (by omega) (by omega) dL_law_286 ?_
  refine callLX (As := [.int (xs (i + 1)), .int (xs (i + 2))]) (rest := []) hk (qx_heldWith l D a cI cZ S qx.1 hA.1 (xs (i + 1)) (xs (i + 2))) gLX_heldWith (by decide) rfl rfl (Nat.le_of_ble_eq_true rfl) dL_law_287 (fun r1 S2 h1 => ?_)
  refine qv_aload_n hk 2 rfl dL_law_290 rfl ?_
  refine qv_aload_n hk 0 rfl dL_law_291 rfl ?_
  refine qv_iload_n hk 3 rfl dL_law_292 rfl ?_
  refine qv_iconst (v := nI 1) hk dL_law_293 (by decide) ?_
  refine qn_iadd hk dL_law_294 ?_
  refine qv_sld hk hX (by omega) (by omega) dL_law_295 ?_
  refine qv_aload_n hk 0 rfl dL_law_296 rfl ?_
  refine qv_iload_n hk 3 rfl dL_law_297 rfl ?_
  refine qv_iconst (v := nI 2) hk dL_law_298 (by decide) ?_
  refine qn_iadd hk dL_law_299 ?_
  refine qv_sld hk hX (by omega) (by omega) dL_law_300 ?_
  refine callLM (As := [.int (xs (i + 1)), .int (xs (i + 2))]) (rest := [.int r1]) hk (qm_heldWith l D bm cI cZ T qm.1 hB.1 (xs (i + 1)) (xs (i + 2))) gLM_heldWith (by decide) rfl rfl (Nat.le_of_ble_eq_true rfl) dL_law_301 (fun r2 T2 h2 => ?_)
  have hf := lw_heldWith hA hB hrel h1 h2
  refine qv_icmp_eq (tgt := 621) hk dL_law_304 (by decide) (fun _ => ?_) (fun h => absurd hf.1 h)
  exact kk S2 T2 hf.2
set_option maxHeartbeats 4000000 in
set_option maxRecDepth 100000 in
theorem law_case_5 {k : QC} {l : Launch} {D : va_G} {a bm : Nat → Nat} {cI cZ : ClassId} {b L i : Nat} {xs : Nat → Int32} (hk : QK k code R_law 4 room_1 l D (qty cI cZ)) (hX : QScr k b L xs) (hL : L ≤ 2048) (hi : i + 4 ≤ L) {S T : QS} (hinv : Inv S T) (kk : ∀ S2 T2 : QS, Inv S2 T2 → QV k (wl a bm cI cZ) (S2, T2) [(0, .ref b), (1, .ref (a 0)), (2, .ref (bm 0)), (3, .int (nI i))] 621 []) : QV k (wl a bm cI cZ) (S, T) [(0, .ref b), (1, .ref (a 0)), (2, .ref (bm 0)), (3, .int (nI i))] 309 [] := by
  obtain ⟨qx, qm, hA, hB, hrel⟩ := hinv
  refine qv_aload_n hk 1 rfl dL_law_309 rfl ?_
  refine qv_aload_n hk 0 rfl dL_law_310 rfl ?_
  refine qv_iload_n hk 3 rfl dL_law_311 rfl ?_
  refine qv_iconst (v := nI 1) hk dL_law_312 (by decide) ?_
  refine qn_iadd hk dL_law_313 ?_
  refine qv_sld hk hX (by omega) (by omega) dL_law_314 ?_
  refine qv_aload_n hk 0 rfl dL_law_315 rfl ?_
  refine qv_iload_n hk 3 rfl dL_law_316 rfl ?_
  refine qv_iconst (v := nI 2) hk dL_law_317 (by decide) ?_
  refine qn_iadd hk dL_law_318 ?_
  refine qv_sld hk hX (by omega) (by omega) dL_law_319 ?_
  refine callLX (As := [.int (xs (i + 1)), .int (xs (i + 2))]) (rest := []) hk (qx_closed l D a cI cZ S (xs (i + 1)) (xs (i + 2))) gLX_closed (by decide) rfl rfl (Nat.le_of_ble_eq_true rfl) dL_law_320 (fun r1 S2 h1 => ?_)
  refine qv_aload_n hk 2 rfl dL_law_323 rfl ?_
  refine qv_aload_n hk 0 rfl dL_law_324 rfl ?_
  refine qv_iload_n hk 3 rfl dL_law_325 rfl ?_
  refine qv_iconst (v := nI 1) hk dL_law_326 (by decide) ?_
  refine qn_iadd hk dL_law_327 ?_
  refine qv_sld hk hX (by omega) (by omega) dL_law_328 ?_
  refine qv_aload_n hk 0 rfl dL_law_329 rfl ?_
  refine qv_iload_n hk 3 rfl dL_law_330 rfl ?_
  refine qv_iconst (v := nI 2) hk dL_law_331 (by decide) ?_
  refine qn_iadd hk dL_law_332 ?_
  refine qv_sld hk hX (by omega) (by omega) dL_law_333 ?_
  refine callLM (As := [.int (xs (i + 1)), .int (xs (i + 2))]) (rest := [.int r1]) hk (qm_closed l D bm cI cZ T (xs (i + 1)) (xs (i + 2))) gLM_closed (by decide) rfl rfl (Nat.le_of_ble_eq_true rfl) dL_law_334 (fun r2 T2 h2 => ?_)
  have hf := lw_closed hA hB hrel h1 h2
  refine qv_icmp_eq (tgt := 621) hk dL_law_337 (by decide) (fun _ => ?_) (fun h => absurd hf.1 h)
  exact kk S2 T2 hf.2
set_option maxHeartbeats 4000000 in
set_option maxRecDepth 100000 in
theorem law_case_6 {k : QC} {l : Launch} {D : va_G} {a bm : Nat → Nat} {cI cZ : ClassId} {b L i : Nat} {xs : Nat → Int32} (hk : QK k code R_law 4 room_1 l D (qty cI cZ)) (hX : QScr k b L xs) (hL : L ≤ 2048) (hi : i + 4 ≤ L) {S T : QS} (hinv : Inv S T) (kk : ∀ S2 T2 : QS, Inv S2 T2 → QV k (wl a bm cI cZ) (S2, T2) [(0, .ref b), (1, .ref (a 0)), (2, .ref (bm 0)), (3, .int (nI i))] 621 []) : QV k (wl a bm cI cZ) (S, T) [(0, .ref b), (1, .ref (a 0)), (2, .ref (bm 0)), (3, .int (nI i))] 342 [] := by
  obtain ⟨qx, qm, hA, hB, hrel⟩ := hinv
  refine qv_aload_n hk 1 rfl dL_law_342 rfl ?_
  refine callLX (As := []) (rest := []) hk (qx_results l D a cI cZ S) gLX_results (by decide) rfl rfl (Nat.le_of_ble_eq_true rfl) dL_law_343 (fun r1 S2 h1 => ?_)
  refine qv_aload_n hk 2 rfl dL_law_346 rfl ?_
  refine callLM (As := []) (rest := [.int r1]) hk (qm_results l D bm cI cZ T) gLM_results (by decide) rfl rfl (Nat.le_of_ble_eq_true rfl) dL_law_347 (fun r2 T2 h2 => ?_)
  have hf := lw_results hA hB hrel h1 h2
  refine qv_icmp_eq (tgt := 621) hk dL_law_350 (by decide) (fun _ => ?_) (fun h => absurd hf.1 h)
  exact kk S2 T2 hf.2
set_option maxHeartbeats 4000000 in
set_option maxRecDepth 100000 in
theorem law_case_7 {k : QC} {l : Launch} {D : va_G} {a bm : Nat → Nat} {cI cZ : ClassId} {b L i : Nat} {xs : Nat → Int32} (hk : QK k code R_law 4 room_1 l D (qty cI cZ)) (hX : QScr k b L xs) (hL : L ≤ 2048) (hi : i + 4 ≤ L) {S T : QS} (hinv : Inv S T) (kk : ∀ S2 T2 : QS, Inv S2 T2 → QV k (wl a bm cI cZ) (S2, T2) [(0, .ref b), (1, .ref (a 0)), (2, .ref (bm 0)), (3, .int (nI i))] 621 []) : QV k (wl a bm cI cZ) (S, T) [(0, .ref b), (1, .ref (a 0)), (2, .ref (bm 0)), (3, .int (nI i))] 355 [] := by
  obtain ⟨qx, qm, hA, hB, hrel⟩ := hinv
  refine qv_aload_n hk 1 rfl dL_law_355 rfl ?_
  refine qv_aload_n hk 0 rfl dL_law_356 rfl ?_
  refine qv_iload_n hk 3 rfl dL_law_357 rfl ?_
  refine qv_iconst (v := nI 1) hk dL_law_358 (by decide) ?_
  refine qn_iadd hk dL_law_359 ?_
  refine qv_sld hk hX (by omega) (by omega) dL_law_360 ?_
  refine callLX (As := [.int (xs (i + 1))]) (rest := []) hk (qx_resultKey l D a cI cZ S qx.2.2.length hA.2.2.1 hA.2.2.2.1 (xs (i + 1))) gLX_resultKey (by decide) rfl rfl (Nat.le_of_ble_eq_true rfl) dL_law_361 (fun r1 S2 h1 => ?_)
  refine qv_aload_n hk 2 rfl dL_law_364 rfl ?_
  refine qv_aload_n hk 0 rfl dL_law_365 rfl ?_
  refine qv_iload_n hk 3 rfl dL_law_366 rfl ?_
  refine qv_iconst (v := nI 1) hk dL_law_367 (by decide) ?_
  refine qn_iadd hk dL_law_368 ?_
  refine qv_sld hk hX (by omega) (by omega) dL_law_369 ?_
  refine callLM (As := [.int (xs (i + 1))]) (rest := [.int r1]) hk (qm_resultKey l D bm cI cZ T qm.2.2.length hB.2.2.1.1 hB.2.2.1.2.1 (xs (i + 1))) gLM_resultKey (by decide) rfl rfl (Nat.le_of_ble_eq_true rfl) dL_law_370 (fun r2 T2 h2 => ?_)
  have hf := lw_out hA hB hrel (by decide) h1 h2
  refine qv_icmp_eq (tgt := 621) hk dL_law_373 (by decide) (fun _ => ?_) (fun h => absurd hf.1 h)
  exact kk S2 T2 hf.2
set_option maxHeartbeats 4000000 in
set_option maxRecDepth 100000 in
theorem law_case_8 {k : QC} {l : Launch} {D : va_G} {a bm : Nat → Nat} {cI cZ : ClassId} {b L i : Nat} {xs : Nat → Int32} (hk : QK k code R_law 4 room_1 l D (qty cI cZ)) (hX : QScr k b L xs) (hL : L ≤ 2048) (hi : i + 4 ≤ L) {S T : QS} (hinv : Inv S T) (kk : ∀ S2 T2 : QS, Inv S2 T2 → QV k (wl a bm cI cZ) (S2, T2) [(0, .ref b), (1, .ref (a 0)), (2, .ref (bm 0)), (3, .int (nI i))] 621 []) : QV k (wl a bm cI cZ) (S, T) [(0, .ref b), (1, .ref (a 0)), (2, .ref (bm 0)), (3, .int (nI i))] 378 [] := by
  obtain ⟨qx, qm, hA, hB, hrel⟩ := hinv
  refine qv_aload_n hk 1 rfl dL_law_378 rfl ?_
  refine qv_aload_n hk 0 rfl dL_law_379 rfl ?_
  refine qv_iload_n hk 3 rfl dL_law_380 rfl ?_
  refine qv_iconst (v := nI 1) hk dL_law_381 (by decide) ?_
  refine qn_iadd hk dL_law_382 ?_
  refine qv_sld hk hX (by omega) (by omega) dL_law_383 ?_
  refine callLX (As := [.int (xs (i + 1))]) (rest := []) hk (qx_resultPairs l D a cI cZ S qx.2.2.length hA.2.2.1 hA.2.2.2.1 (xs (i + 1))) gLX_resultPairs (by decide) rfl rfl (Nat.le_of_ble_eq_true rfl) dL_law_384 (fun r1 S2 h1 => ?_)
  refine qv_aload_n hk 2 rfl dL_law_387 rfl ?_
  refine qv_aload_n hk 0 rfl dL_law_388 rfl ?_
  refine qv_iload_n hk 3 rfl dL_law_389 rfl ?_
  refine qv_iconst (v := nI 1) hk dL_law_390 (by decide) ?_
  refine qn_iadd hk dL_law_391 ?_
  refine qv_sld hk hX (by omega) (by omega) dL_law_392 ?_
  refine callLM (As := [.int (xs (i + 1))]) (rest := [.int r1]) hk (qm_resultPairs l D bm cI cZ T qm.2.2.length hB.2.2.1.1 hB.2.2.1.2.1 (xs (i + 1))) gLM_resultPairs (by decide) rfl rfl (Nat.le_of_ble_eq_true rfl) dL_law_393 (fun r2 T2 h2 => ?_)
  have hf := lw_out hA hB hrel (by decide) h1 h2
  refine qv_icmp_eq (tgt := 621) hk dL_law_396 (by decide) (fun _ => ?_) (fun h => absurd hf.1 h)
  exact kk S2 T2 hf.2
set_option maxHeartbeats 4000000 in
set_option maxRecDepth 100000 in
theorem law_case_9 {k : QC} {l : Launch} {D : va_G} {a bm : Nat → Nat} {cI cZ : ClassId} {b L i : Nat} {xs : Nat → Int32} (hk : QK k code R_law 4 room_1 l D (qty cI cZ)) (hX : QScr k b L xs) (hL : L ≤ 2048) (hi : i + 4 ≤ L) {S T : QS} (hinv : Inv S T) (kk : ∀ S2 T2 : QS, Inv S2 T2 → QV k (wl a bm cI cZ) (S2, T2) [(0, .ref b), (1, .ref (a 0)), (2, .ref (bm 0)), (3, .int (nI i))] 621 []) : QV k (wl a bm cI cZ) (S, T) [(0, .ref b), (1, .ref (a 0)), (2, .ref (bm 0)), (3, .int (nI i))] 401 [] := by
  obtain ⟨qx, qm, hA, hB, hrel⟩ := hinv
  refine qv_aload_n hk 1 rfl dL_law_401 rfl ?_
  refine qv_aload_n hk 0 rfl dL_law_402 rfl ?_
  refine qv_iload_n hk 3 rfl dL_law_403 rfl ?_
  refine qv_iconst (v := nI 1) hk dL_law_404 (by decide) ?_
  refine qn_iadd hk dL_law_405 ?_
  refine qv_sld hk hX (by omega) (by omega) dL_law_406 ?_
  refine callLX (As := [.int (xs (i + 1))]) (rest := []) hk (qx_resultSum l D a cI cZ S qx.2.2.length hA.2.2.1 hA.2.2.2.1 (xs (i + 1))) gLX_resultSum (by decide) rfl rfl (Nat.le_of_ble_eq_true rfl) dL_law_407 (fun r1 S2 h1 => ?_)
  refine qv_aload_n hk 2 rfl dL_law_410 rfl ?_
  refine qv_aload_n hk 0 rfl dL_law_411 rfl ?_
  refine qv_iload_n hk 3 rfl dL_law_412 rfl ?_
  refine qv_iconst (v := nI 1) hk dL_law_413 (by decide) ?_
  refine qn_iadd hk dL_law_414 ?_
  refine qv_sld hk hX (by omega) (by omega) dL_law_415 ?_
  refine callLM (As := [.int (xs (i + 1))]) (rest := [.int r1]) hk (qm_resultSum l D bm cI cZ T qm.2.2.length hB.2.2.1.1 hB.2.2.1.2.1 (xs (i + 1))) gLM_resultSum (by decide) rfl rfl (Nat.le_of_ble_eq_true rfl) dL_law_416 (fun r2 T2 h2 => ?_)
  have hf := lw_out hA hB hrel (by decide) h1 h2
  refine qv_icmp_eq (tgt := 621) hk dL_law_419 (by decide) (fun _ => ?_) (fun h => absurd hf.1 h)
  exact kk S2 T2 hf.2
set_option maxHeartbeats 4000000 in
set_option maxRecDepth 100000 in
theorem law_case_10 {k : QC} {l : Launch} {D : va_G} {a bm : Nat → Nat} {cI cZ : ClassId} {b L i : Nat} {xs : Nat → Int32} (hk : QK k code R_law 4 room_1 l D (qty cI cZ)) (hX : QScr k b L xs) (hL : L ≤ 2048) (hi : i + 4 ≤ L) {S T : QS} (hinv : Inv S T) (kk : ∀ S2 T2 : QS, Inv S2 T2 → QV k (wl a bm cI cZ) (S2, T2) [(0, .ref b), (1, .ref (a 0)), (2, .ref (bm 0)), (3, .int (nI i))] 621 []) : QV k (wl a bm cI cZ) (S, T) [(0, .ref b), (1, .ref (a 0)), (2, .ref (bm 0)), (3, .int (nI i))] 424 [] := by
  obtain ⟨qx, qm, hA, hB, hrel⟩ := hinv
  refine qv_aload_n hk 1 rfl dL_law_424 rfl ?_
  refine qv_aload_n hk 0 rfl dL_law_425 rfl ?_
  refine qv_iload_n hk 3 rfl dL_law_426 rfl ?_
  refine qv_iconst (v := nI 1) hk dL_law_427 (by decide) ?_
  refine qn_iadd hk dL_law_428 ?_
  refine qv_sld hk hX (by omega) (by omega) dL_law_429 ?_
  refine callLX (As := [.int (xs (i + 1))]) (rest := []) hk (qx_resultLeast l D a cI cZ S qx.2.2.length hA.2.2.1 hA.2.2.2.1 (xs (i + 1))) gLX_resultLeast (by decide) rfl rfl (Nat.le_of_ble_eq_true rfl) dL_law_430 (fun r1 S2 h1 => ?_)
  refine qv_aload_n hk 2 rfl dL_law_433 rfl ?_
  refine qv_aload_n hk 0 rfl dL_law_434 rfl ?_
  refine qv_iload_n hk 3 rfl dL_law_435 rfl ?_
  refine qv_iconst (v := nI 1) hk dL_law_436 (by decide) ?_
  refine qn_iadd hk dL_law_437 ?_
  refine qv_sld hk hX (by omega) (by omega) dL_law_438 ?_
  refine callLM (As := [.int (xs (i + 1))]) (rest := [.int r1]) hk (qm_resultLeast l D bm cI cZ T qm.2.2.length hB.2.2.1.1 hB.2.2.1.2.1 (xs (i + 1))) gLM_resultLeast (by decide) rfl rfl (Nat.le_of_ble_eq_true rfl) dL_law_439 (fun r2 T2 h2 => ?_)
  have hf := lw_out hA hB hrel (by decide) h1 h2
  refine qv_icmp_eq (tgt := 621) hk dL_law_442 (by decide) (fun _ => ?_) (fun h => absurd hf.1 h)
  exact kk S2 T2 hf.2
set_option maxHeartbeats 4000000 in
set_option maxRecDepth 100000 in
theorem law_case_11 {k : QC} {l : Launch} {D : va_G} {a bm : Nat → Nat} {cI cZ : ClassId} {b L i : Nat} {xs : Nat → Int32} (hk : QK k code R_law 4 room_1 l D (qty cI cZ)) (hX : QScr k b L xs) (hL : L ≤ 2048) (hi : i + 4 ≤ L) {S T : QS} (hinv : Inv S T) (kk : ∀ S2 T2 : QS, Inv S2 T2 → QV k (wl a bm cI cZ) (S2, T2) [(0, .ref b), (1, .ref (a 0)), (2, .ref (bm 0)), (3, .int (nI i))] 621 []) : QV k (wl a bm cI cZ) (S, T) [(0, .ref b), (1, .ref (a 0)), (2, .ref (bm 0)), (3, .int (nI i))] 447 [] := by
  obtain ⟨qx, qm, hA, hB, hrel⟩ := hinv
  refine qv_aload_n hk 1 rfl dL_law_447 rfl ?_
  refine qv_aload_n hk 0 rfl dL_law_448 rfl ?_
  refine qv_iload_n hk 3 rfl dL_law_449 rfl ?_
  refine qv_iconst (v := nI 1) hk dL_law_450 (by decide) ?_
  refine qn_iadd hk dL_law_451 ?_
  refine qv_sld hk hX (by omega) (by omega) dL_law_452 ?_
  refine callLX (As := [.int (xs (i + 1))]) (rest := []) hk (qx_resultGreatest l D a cI cZ S qx.2.2.length hA.2.2.1 hA.2.2.2.1 (xs (i + 1))) gLX_resultGreatest (by decide) rfl rfl (Nat.le_of_ble_eq_true rfl) dL_law_453 (fun r1 S2 h1 => ?_)
  refine qv_aload_n hk 2 rfl dL_law_456 rfl ?_
  refine qv_aload_n hk 0 rfl dL_law_457 rfl ?_
  refine qv_iload_n hk 3 rfl dL_law_458 rfl ?_
  refine qv_iconst (v := nI 1) hk dL_law_459 (by decide) ?_
  refine qn_iadd hk dL_law_460 ?_
  refine qv_sld hk hX (by omega) (by omega) dL_law_461 ?_
  refine callLM (As := [.int (xs (i + 1))]) (rest := [.int r1]) hk (qm_resultGreatest l D bm cI cZ T qm.2.2.length hB.2.2.1.1 hB.2.2.1.2.1 (xs (i + 1))) gLM_resultGreatest (by decide) rfl rfl (Nat.le_of_ble_eq_true rfl) dL_law_462 (fun r2 T2 h2 => ?_)
  have hf := lw_out hA hB hrel (by decide) h1 h2
  refine qv_icmp_eq (tgt := 621) hk dL_law_465 (by decide) (fun _ => ?_) (fun h => absurd hf.1 h)
  exact kk S2 T2 hf.2
set_option maxHeartbeats 4000000 in
set_option maxRecDepth 100000 in
theorem law_case_12 {k : QC} {l : Launch} {D : va_G} {a bm : Nat → Nat} {cI cZ : ClassId} {b L i : Nat} {xs : Nat → Int32} (hk : QK k code R_law 4 room_1 l D (qty cI cZ)) (hX : QScr k b L xs) (hL : L ≤ 2048) (hi : i + 4 ≤ L) {S T : QS} (hinv : Inv S T) (kk : ∀ S2 T2 : QS, Inv S2 T2 → QV k (wl a bm cI cZ) (S2, T2) [(0, .ref b), (1, .ref (a 0)), (2, .ref (bm 0)), (3, .int (nI i))] 621 []) : QV k (wl a bm cI cZ) (S, T) [(0, .ref b), (1, .ref (a 0)), (2, .ref (bm 0)), (3, .int (nI i))] 470 [] := by
  obtain ⟨qx, qm, hA, hB, hrel⟩ := hinv
  refine qv_aload_n hk 1 rfl dL_law_470 rfl ?_
  refine qv_aload_n hk 0 rfl dL_law_471 rfl ?_
  refine qv_iload_n hk 3 rfl dL_law_472 rfl ?_
  refine qv_iconst (v := nI 1) hk dL_law_473 (by decide) ?_
  refine qn_iadd hk dL_law_474 ?_
  refine qv_sld hk hX (by omega) (by omega) dL_law_475 ?_
  refine callLX (As := [.int (xs (i + 1))]) (rest := []) hk (qx_pairs l D a cI cZ S qx.1 hA.1 (xs (i + 1))) gLX_pairs (by decide) rfl rfl (Nat.le_of_ble_eq_true rfl) dL_law_476 (fun r1 S2 h1 => ?_)
  refine qv_aload_n hk 2 rfl dL_law_479 rfl ?_
  refine qv_aload_n hk 0 rfl dL_law_480 rfl ?_
  refine qv_iload_n hk 3 rfl dL_law_481 rfl ?_
  refine qv_iconst (v := nI 1) hk dL_law_482 (by decide) ?_
  refine qn_iadd hk dL_law_483 ?_
  refine qv_sld hk hX (by omega) (by omega) dL_law_484 ?_
  refine callLM (As := [.int (xs (i + 1))]) (rest := [.int r1]) hk (qm_pairs l D bm cI cZ T qm.1 hB.1 (xs (i + 1))) gLM_pairs (by decide) rfl rfl (Nat.le_of_ble_eq_true rfl) dL_law_485 (fun r2 T2 h2 => ?_)
  have hf := lw_pairs hA hB hrel h1 h2
  refine qv_icmp_eq (tgt := 621) hk dL_law_488 (by decide) (fun _ => ?_) (fun h => absurd hf.1 h)
  exact kk S2 T2 hf.2
set_option maxHeartbeats 4000000 in
set_option maxRecDepth 100000 in
theorem law_case_13 {k : QC} {l : Launch} {D : va_G} {a bm : Nat → Nat} {cI cZ : ClassId} {b L i : Nat} {xs : Nat → Int32} (hk : QK k code R_law 4 room_1 l D (qty cI cZ)) (hX : QScr k b L xs) (hL : L ≤ 2048) (hi : i + 4 ≤ L) {S T : QS} (hinv : Inv S T) (kk : ∀ S2 T2 : QS, Inv S2 T2 → QV k (wl a bm cI cZ) (S2, T2) [(0, .ref b), (1, .ref (a 0)), (2, .ref (bm 0)), (3, .int (nI i))] 621 []) : QV k (wl a bm cI cZ) (S, T) [(0, .ref b), (1, .ref (a 0)), (2, .ref (bm 0)), (3, .int (nI i))] 493 [] := by
  obtain ⟨qx, qm, hA, hB, hrel⟩ := hinv
  refine qv_aload_n hk 1 rfl dL_law_493 rfl ?_
  refine qv_aload_n hk 0 rfl dL_law_494 rfl ?_
  refine qv_iload_n hk 3 rfl dL_law_495 rfl ?_
  refine qv_iconst (v := nI 1) hk dL_law_496 (by decide) ?_
  refine qn_iadd hk dL_law_497 ?_
  refine qv_sld hk hX (by omega) (by omega) dL_law_498 ?_
  refine callLX (As := [.int (xs (i + 1))]) (rest := []) hk (qx_sum l D a cI cZ S qx.1 hA.1 (xs (i + 1))) gLX_sum (by decide) rfl rfl (Nat.le_of_ble_eq_true rfl) dL_law_499 (fun r1 S2 h1 => ?_)
  refine qv_aload_n hk 2 rfl dL_law_502 rfl ?_
  refine qv_aload_n hk 0 rfl dL_law_503 rfl ?_
  refine qv_iload_n hk 3 rfl dL_law_504 rfl ?_
  refine qv_iconst (v := nI 1) hk dL_law_505 (by decide) ?_
  refine qn_iadd hk dL_law_506 ?_
  refine qv_sld hk hX (by omega) (by omega) dL_law_507 ?_
  refine callLM (As := [.int (xs (i + 1))]) (rest := [.int r1]) hk (qm_sum l D bm cI cZ T qm.1 hB.1 (xs (i + 1))) gLM_sum (by decide) rfl rfl (Nat.le_of_ble_eq_true rfl) dL_law_508 (fun r2 T2 h2 => ?_)
  have hf := lw_sum hA hB hrel h1 h2
  refine qv_icmp_eq (tgt := 621) hk dL_law_511 (by decide) (fun _ => ?_) (fun h => absurd hf.1 h)
  exact kk S2 T2 hf.2
set_option maxHeartbeats 4000000 in
set_option maxRecDepth 100000 in
theorem law_case_14 {k : QC} {l : Launch} {D : va_G} {a bm : Nat → Nat} {cI cZ : ClassId} {b L i : Nat} {xs : Nat → Int32} (hk : QK k code R_law 4 room_1 l D (qty cI cZ)) (hX : QScr k b L xs) (hL : L ≤ 2048) (hi : i + 4 ≤ L) {S T : QS} (hinv : Inv S T) (kk : ∀ S2 T2 : QS, Inv S2 T2 → QV k (wl a bm cI cZ) (S2, T2) [(0, .ref b), (1, .ref (a 0)), (2, .ref (bm 0)), (3, .int (nI i))] 621 []) : QV k (wl a bm cI cZ) (S, T) [(0, .ref b), (1, .ref (a 0)), (2, .ref (bm 0)), (3, .int (nI i))] 516 [] := by
  obtain ⟨qx, qm, hA, hB, hrel⟩ := hinv
  refine qv_aload_n hk 1 rfl dL_law_516 rfl ?_
  refine qv_aload_n hk 0 rfl dL_law_517 rfl ?_
  refine qv_iload_n hk 3 rfl dL_law_518 rfl ?_
  refine qv_iconst (v := nI 1) hk dL_law_519 (by decide) ?_
  refine qn_iadd hk dL_law_520 ?_
  refine qv_sld hk hX (by omega) (by omega) dL_law_521 ?_
  refine callLX (As := [.int (xs (i + 1))]) (rest := []) hk (qx_least l D a cI cZ S qx.1 hA.1 (xs (i + 1))) gLX_least (by decide) rfl rfl (Nat.le_of_ble_eq_true rfl) dL_law_522 (fun r1 S2 h1 => ?_)
  refine qv_aload_n hk 2 rfl dL_law_525 rfl ?_
  refine qv_aload_n hk 0 rfl dL_law_526 rfl ?_
  refine qv_iload_n hk 3 rfl dL_law_527 rfl ?_
  refine qv_iconst (v := nI 1) hk dL_law_528 (by decide) ?_
  refine qn_iadd hk dL_law_529 ?_
  refine qv_sld hk hX (by omega) (by omega) dL_law_530 ?_
  refine callLM (As := [.int (xs (i + 1))]) (rest := [.int r1]) hk (qm_least l D bm cI cZ T qm.1 hB.1 (xs (i + 1))) gLM_least (by decide) rfl rfl (Nat.le_of_ble_eq_true rfl) dL_law_531 (fun r2 T2 h2 => ?_)
  have hf := lw_least hA hB hrel h1 h2
  refine qv_icmp_eq (tgt := 621) hk dL_law_534 (by decide) (fun _ => ?_) (fun h => absurd hf.1 h)
  exact kk S2 T2 hf.2
set_option maxHeartbeats 4000000 in
set_option maxRecDepth 100000 in
theorem law_case_15 {k : QC} {l : Launch} {D : va_G} {a bm : Nat → Nat} {cI cZ : ClassId} {b L i : Nat} {xs : Nat → Int32} (hk : QK k code R_law 4 room_1 l D (qty cI cZ)) (hX : QScr k b L xs) (hL : L ≤ 2048) (hi : i + 4 ≤ L) {S T : QS} (hinv : Inv S T) (kk : ∀ S2 T2 : QS, Inv S2 T2 → QV k (wl a bm cI cZ) (S2, T2) [(0, .ref b), (1, .ref (a 0)), (2, .ref (bm 0)), (3, .int (nI i))] 621 []) : QV k (wl a bm cI cZ) (S, T) [(0, .ref b), (1, .ref (a 0)), (2, .ref (bm 0)), (3, .int (nI i))] 539 [] := by
  obtain ⟨qx, qm, hA, hB, hrel⟩ := hinv
  refine qv_aload_n hk 1 rfl dL_law_539 rfl ?_
  refine qv_aload_n hk 0 rfl dL_law_540 rfl ?_
  refine qv_iload_n hk 3 rfl dL_law_541 rfl ?_
  refine qv_iconst (v := nI 1) hk dL_law_542 (by decide) ?_
  refine qn_iadd hk dL_law_543 ?_
  refine qv_sld hk hX (by omega) (by omega) dL_law_544 ?_
  refine callLX (As := [.int (xs (i + 1))]) (rest := []) hk (qx_greatest l D a cI cZ S qx.1 hA.1 (xs (i + 1))) gLX_greatest (by decide) rfl rfl (Nat.le_of_ble_eq_true rfl) dL_law_545 (fun r1 S2 h1 => ?_)
  refine qv_aload_n hk 2 rfl dL_law_548 rfl ?_
  refine qv_aload_n hk 0 rfl dL_law_549 rfl ?_
  refine qv_iload_n hk 3 rfl dL_law_550 rfl ?_
  refine qv_iconst (v := nI 1) hk dL_law_551 (by decide) ?_
  refine qn_iadd hk dL_law_552 ?_
  refine qv_sld hk hX (by omega) (by omega) dL_law_553 ?_
  refine callLM (As := [.int (xs (i + 1))]) (rest := [.int r1]) hk (qm_greatest l D bm cI cZ T qm.1 hB.1 (xs (i + 1))) gLM_greatest (by decide) rfl rfl (Nat.le_of_ble_eq_true rfl) dL_law_554 (fun r2 T2 h2 => ?_)
  have hf := lw_greatest hA hB hrel h1 h2
  refine qv_icmp_eq (tgt := 621) hk dL_law_557 (by decide) (fun _ => ?_) (fun h => absurd hf.1 h)
  exact kk S2 T2 hf.2
set_option maxHeartbeats 4000000 in
set_option maxRecDepth 100000 in
theorem law_case_16 {k : QC} {l : Launch} {D : va_G} {a bm : Nat → Nat} {cI cZ : ClassId} {b L i : Nat} {xs : Nat → Int32} (hk : QK k code R_law 4 room_1 l D (qty cI cZ)) (hX : QScr k b L xs) (hL : L ≤ 2048) (hi : i + 4 ≤ L) {S T : QS} (hinv : Inv S T) (kk : ∀ S2 T2 : QS, Inv S2 T2 → QV k (wl a bm cI cZ) (S2, T2) [(0, .ref b), (1, .ref (a 0)), (2, .ref (bm 0)), (3, .int (nI i))] 621 []) : QV k (wl a bm cI cZ) (S, T) [(0, .ref b), (1, .ref (a 0)), (2, .ref (bm 0)), (3, .int (nI i))] 562 [] := by
  obtain ⟨qx, qm, hA, hB, hrel⟩ := hinv
  refine qv_aload_n hk 1 rfl dL_law_562 rfl ?_
  refine qv_aload_n hk 0 rfl dL_law_563 rfl ?_
  refine qv_iload_n hk 3 rfl dL_law_564 rfl ?_
  refine qv_iconst (v := nI 1) hk dL_law_565 (by decide) ?_
  refine qn_iadd hk dL_law_566 ?_
  refine qv_sld hk hX (by omega) (by omega) dL_law_567 ?_
  refine callLX (As := [.int (xs (i + 1))]) (rest := []) hk (qx_pairsFrom l D a cI cZ S qx.1 hA.1 (xs (i + 1))) gLX_pairsFrom (by decide) rfl rfl (Nat.le_of_ble_eq_true rfl) dL_law_568 (fun r1 S2 h1 => ?_)
  refine qv_aload_n hk 2 rfl dL_law_571 rfl ?_
  refine qv_aload_n hk 0 rfl dL_law_572 rfl ?_
  refine qv_iload_n hk 3 rfl dL_law_573 rfl ?_
  refine qv_iconst (v := nI 1) hk dL_law_574 (by decide) ?_
  refine qn_iadd hk dL_law_575 ?_
  refine qv_sld hk hX (by omega) (by omega) dL_law_576 ?_
  refine callLM (As := [.int (xs (i + 1))]) (rest := [.int r1]) hk (qm_pairsFrom l D bm cI cZ T qm.1 hB.1 (xs (i + 1))) gLM_pairsFrom (by decide) rfl rfl (Nat.le_of_ble_eq_true rfl) dL_law_577 (fun r2 T2 h2 => ?_)
  have hf := lw_pairsFrom hA hB hrel h1 h2
  refine qv_icmp_eq (tgt := 621) hk dL_law_580 (by decide) (fun _ => ?_) (fun h => absurd hf.1 h)
  exact kk S2 T2 hf.2
set_option maxHeartbeats 4000000 in
set_option maxRecDepth 100000 in
theorem law_case_17 {k : QC} {l : Launch} {D : va_G} {a bm : Nat → Nat} {cI cZ : ClassId} {b L i : Nat} {xs : Nat → Int32} (hk : QK k code R_law 4 room_1 l D (qty cI cZ)) (hX : QScr k b L xs) (hL : L ≤ 2048) (hi : i + 4 ≤ L) {S T : QS} (hinv : Inv S T) (kk : ∀ S2 T2 : QS, Inv S2 T2 → QV k (wl a bm cI cZ) (S2, T2) [(0, .ref b), (1, .ref (a 0)), (2, .ref (bm 0)), (3, .int (nI i))] 621 []) : QV k (wl a bm cI cZ) (S, T) [(0, .ref b), (1, .ref (a 0)), (2, .ref (bm 0)), (3, .int (nI i))] 585 [] := by
  obtain ⟨qx, qm, hA, hB, hrel⟩ := hinv
  refine qv_aload_n hk 1 rfl dL_law_585 rfl ?_
  refine callLX (As := []) (rest := []) hk (qx_bandsFinished l D a cI cZ S) gLX_bandsFinished (by decide) rfl rfl (Nat.le_of_ble_eq_true rfl) dL_law_586 (fun r1 S2 h1 => ?_)
  refine qv_aload_n hk 2 rfl dL_law_589 rfl ?_
  refine callLM (As := []) (rest := [.int r1]) hk (qm_bandsFinished l D bm cI cZ T) gLM_bandsFinished (by decide) rfl rfl (Nat.le_of_ble_eq_true rfl) dL_law_590 (fun r2 T2 h2 => ?_)
  have hf := lw_bands hA hB hrel h1 h2
  refine qv_icmp_eq (tgt := 621) hk dL_law_593 (by decide) (fun _ => ?_) (fun h => absurd hf.1 h)
  exact kk S2 T2 hf.2
set_option maxHeartbeats 4000000 in
set_option maxRecDepth 100000 in
theorem law_case_18 {k : QC} {l : Launch} {D : va_G} {a bm : Nat → Nat} {cI cZ : ClassId} {b L i : Nat} {xs : Nat → Int32} (hk : QK k code R_law 4 room_1 l D (qty cI cZ)) (hX : QScr k b L xs) (hL : L ≤ 2048) (hi : i + 4 ≤ L) {S T : QS} (hinv : Inv S T) (kk : ∀ S2 T2 : QS, Inv S2 T2 → QV k (wl a bm cI cZ) (S2, T2) [(0, .ref b), (1, .ref (a 0)), (2, .ref (bm 0)), (3, .int (nI i))] 621 []) : QV k (wl a bm cI cZ) (S, T) [(0, .ref b), (1, .ref (a 0)), (2, .ref (bm 0)), (3, .int (nI i))] 598 [] := by
  obtain ⟨qx, qm, hA, hB, hrel⟩ := hinv
  refine qv_aload_n hk 1 rfl dL_law_598 rfl ?_
  refine qv_aload_n hk 0 rfl dL_law_599 rfl ?_
  refine qv_iload_n hk 3 rfl dL_law_600 rfl ?_
  refine qv_iconst (v := nI 1) hk dL_law_601 (by decide) ?_
  refine qn_iadd hk dL_law_602 ?_
  refine qv_sld hk hX (by omega) (by omega) dL_law_603 ?_
  refine callLX (As := [.int (xs (i + 1))]) (rest := []) hk (qx_bandSum l D a cI cZ S qx.2.2 hA.2.2 (xs (i + 1))) gLX_bandSum (by decide) rfl rfl (Nat.le_of_ble_eq_true rfl) dL_law_604 (fun r1 S2 h1 => ?_)
  refine qv_aload_n hk 2 rfl dL_law_607 rfl ?_
  refine qv_aload_n hk 0 rfl dL_law_608 rfl ?_
  refine qv_iload_n hk 3 rfl dL_law_609 rfl ?_
  refine qv_iconst (v := nI 1) hk dL_law_610 (by decide) ?_
  refine qn_iadd hk dL_law_611 ?_
  refine qv_sld hk hX (by omega) (by omega) dL_law_612 ?_
  refine callLM (As := [.int (xs (i + 1))]) (rest := [.int r1]) hk (qm_bandSum l D bm cI cZ T qm.2.2 hB.2.2.1 (xs (i + 1))) gLM_bandSum (by decide) rfl rfl (Nat.le_of_ble_eq_true rfl) dL_law_613 (fun r2 T2 h2 => ?_)
  have hf := lw_bandSum hA hB hrel h1 h2
  refine qv_icmp_eq (tgt := 621) hk dL_law_616 (by decide) (fun _ => ?_) (fun h => absurd hf.1 h)
  exact kk S2 T2 hf.2
theorem qn_inc4 (x : Nat) : nI x + Int32.ofInt 4 = nI (x + 4) := nI_add x 4
theorem law_end {L i : Nat} (hL : L ≤ 2048) (hi : i ≤ L) (h : ¬ nI L - nI 4 < nI i) : i + 4 ≤ L := by
  rw [iv_lt, pk_sub_toInt (by omega) (by omega), nI_toInt (by omega)] at h
  omega
set_option maxHeartbeats 4000000 in
set_option maxRecDepth 100000 in
/-- THE LAW's LOOP -/
theorem law_loop {k : QC} {l : Launch} {D : va_G} {a bm : Nat → Nat} {cI cZ : ClassId} {b L : Nat} {xs : Nat → Int32} (hk : QK k code R_law 4 room_1 l D (qty cI cZ)) (hX : QScr k b L xs) (hL : L ≤ 2048) (hret : ∀ (u : QS × QS) (lv : List (Nat × Value)) (pc : Nat), decode code pc = .ok (.ireturn, 1) → QV k (wl a bm cI cZ) u lv pc [.int 1]) : ∀ (n i : Nat) (S T : QS), L - i < n → i ≤ L → Inv S T → QV k (wl a bm cI cZ) (S, T) [(0, .ref b), (1, .ref (a 0)), (2, .ref (bm 0)), (3, .int (nI i))] 18 [] := by
  intro n
  induction n with
  | zero => intro i S T h; exact absurd h (Nat.not_lt_zero _)
  | succ n ih =>
    intro i S T hm hi hinv
    refine qv_iload_n hk 3 rfl dL_law_18 rfl ?_
    refine qv_aload_n hk 0 rfl dL_law_19 rfl ?_
    refine qv_slen hk hX dL_law_20 ?_
    refine qv_iconst (v := nI 4) hk dL_law_21 (by decide) ?_
    refine qv_isub hk dL_law_22 ?_
    refine qv_icmp_gt (tgt := 627) hk dL_law_23 (by decide) (fun _ => ?_) (fun h23 => ?_)
    · refine qv_iconst (v := 1) hk dL_law_627 (by decide) ?_
      exact hret _ _ _ dL_law_628
    · have hi4 : i + 4 ≤ L := law_end hL hi h23
      have kk : ∀ S2 T2 : QS, Inv S2 T2 → QV k (wl a bm cI cZ) (S2, T2) [(0, .ref b), (1, .ref (a 0)), (2, .ref (bm 0)), (3, .int (nI i))] 621 [] := by
        intro S2 T2 h2
        refine qv_iinc (v := nI (i + 4)) (lv' := [(3, .int (nI (i + 4))), (0, .ref b), (1, .ref (a 0)), (2, .ref (bm 0))]) hk 3 rfl dL_law_621 (qn_inc4 i) (by decide) rfl ?_
        refine qv_goto (tgt := 18) hk dL_law_624 (by decide) ?_
        refine qv_sub [1, 2, 3, 0] rfl ?_
        exact ih (i + 4) S2 T2 (by omega) hi4 h2
      refine qv_aload_n hk 0 rfl dL_law_26 rfl ?_
      refine qv_iload_n hk 3 rfl dL_law_27 rfl ?_
      refine qv_sld hk hX (by omega) (by omega) dL_law_28 ?_
      refine qv_bipush (v := nI 31) hk dL_law_29 (by decide) ?_
      refine qv_iand hk dL_law_31 ?_
      obtain ⟨j, hj, ej⟩ := pk_andE (xs i) (m := nI 31) 5 (by decide)
      refine qv_top ej ?_
      rcases (show j = 0 ∨ j = 1 ∨ j = 2 ∨ j = 3 ∨ j = 4 ∨ j = 5 ∨ j = 6 ∨ j = 7 ∨ j = 8 ∨ j = 9 ∨ j = 10 ∨ j = 11 ∨ j = 12 ∨ j = 13 ∨ j = 14 ∨ j = 15 ∨ j = 16 ∨ j = 17 ∨ j = 18 ∨ 19 ≤ j by omega) with rfl | rfl | rfl | rfl | rfl | rfl | rfl | rfl | rfl | rfl | rfl | rfl | rfl | rfl | rfl | rfl | rfl | rfl | rfl | hj2
      · refine qv_tableIn (off := 92) (tgt := 124) hk dL_law_32 (by decide) (by decide) (by decide) (by decide) ?_
        exact law_case_0 hk hX hL hi4 hinv kk
      · refine qv_tableIn (off := 135) (tgt := 167) hk dL_law_32 (by decide) (by decide) (by decide) (by decide) ?_
        exact law_case_1 hk hX hL hi4 hinv kk
      · refine qv_tableIn (off := 178) (tgt := 210) hk dL_law_32 (by decide) (by decide) (by decide) (by decide) ?_
        exact law_case_2 hk hX hL hi4 hinv kk
      · refine qv_tableIn (off := 221) (tgt := 253) hk dL_law_32 (by decide) (by decide) (by decide) (by decide) ?_
        exact law_case_3 hk hX hL hi4 hinv kk
      · refine qv_tableIn (off := 244) (tgt := 276) hk dL_law_32 (by decide) (by decide) (by decide) (by decide) ?_
        exact law_case_4 hk hX hL hi4 hinv kk
      · refine qv_tableIn (off := 277) (tgt := 309) hk dL_law_32 (by decide) (by decide) (by decide) (by decide) ?_
        exact law_case_5 hk hX hL hi4 hinv kk
      · refine qv_tableIn (off := 310) (tgt := 342) hk dL_law_32 (by decide) (by decide) (by decide) (by decide) ?_
        exact law_case_6 hk hX hL hi4 hinv kk
      · refine qv_tableIn (off := 323) (tgt := 355) hk dL_law_32 (by decide) (by decide) (by decide) (by decide) ?_
        exact law_case_7 hk hX hL hi4 hinv kk
      · refine qv_tableIn (off := 346) (tgt := 378) hk dL_law_32 (by decide) (by decide) (by decide) (by decide) ?_
        exact law_case_8 hk hX hL hi4 hinv kk
      · refine qv_tableIn (off := 369) (tgt := 401) hk dL_law_32 (by decide) (by decide) (by decide) (by decide) ?_
        exact law_case_9 hk hX hL hi4 hinv kk
      · refine qv_tableIn (off := 392) (tgt := 424) hk dL_law_32 (by decide) (by decide) (by decide) (by decide) ?_
        exact law_case_10 hk hX hL hi4 hinv kk
      · refine qv_tableIn (off := 415) (tgt := 447) hk dL_law_32 (by decide) (by decide) (by decide) (by decide) ?_
        exact law_case_11 hk hX hL hi4 hinv kk
      · refine qv_tableIn (off := 438) (tgt := 470) hk dL_law_32 (by decide) (by decide) (by decide) (by decide) ?_
        exact law_case_12 hk hX hL hi4 hinv kk
      · refine qv_tableIn (off := 461) (tgt := 493) hk dL_law_32 (by decide) (by decide) (by decide) (by decide) ?_
        exact law_case_13 hk hX hL hi4 hinv kk
      · refine qv_tableIn (off := 484) (tgt := 516) hk dL_law_32 (by decide) (by decide) (by decide) (by decide) ?_
        exact law_case_14 hk hX hL hi4 hinv kk
      · refine qv_tableIn (off := 507) (tgt := 539) hk dL_law_32 (by decide) (by decide) (by decide) (by decide) ?_
        exact law_case_15 hk hX hL hi4 hinv kk
      · refine qv_tableIn (off := 530) (tgt := 562) hk dL_law_32 (by decide) (by decide) (by decide) (by decide) ?_
        exact law_case_16 hk hX hL hi4 hinv kk
      · refine qv_tableIn (off := 553) (tgt := 585) hk dL_law_32 (by decide) (by decide) (by decide) (by decide) ?_
        exact law_case_17 hk hX hL hi4 hinv kk
      · refine qv_tableIn (off := 566) (tgt := 598) hk dL_law_32 (by decide) (by decide) (by decide) (by decide) ?_
        exact law_case_18 hk hX hL hi4 hinv kk
      · refine qv_tableOut (tgt := 621) hk dL_law_32 (Or.inr (by rw [nI_toInt (by omega)]; omega)) (by decide) ?_
        exact kk S T hinv
end
section
theorem good_X : GoodIn lw_ok wX_init := q_goodIn (fun w hw => by
  rcases List.mem_cons.mp hw with rfl | hw
  · exact k_co_yX_init
  · exact hw)
theorem good_M : GoodIn lw_ok wM_init := q_goodIn (fun w hw => by
  rcases List.mem_cons.mp hw with rfl | hw
  · exact k_co_yM_init
  · exact hw)
set_option maxHeartbeats 4000000 in
set_option maxRecDepth 100000 in
/-- THE LAW, from its entry -/
theorem whole_start {p : Program} {e : Env} {s : State} {m : MethodId} {below : List Frame} {meth : Method} {c : Code} (l : Launch) {b L : Nat} {xs : Nat → Int32} (hL : L ≤ 2048) (C0 : lw_At p s m meth c b L xs) : W p l e room_1 s m #[Value.ref b] below meth c s.heap [] 0 0 (lw_Z below #[Value.ref b] s) (entryFrame m ([Value.ref b] : List Value).toArray 4) := by
  obtain ⟨hx, hb, hr, hml, hown, hts0, hX, hbl, hlocks, hgv⟩ := id C0
  have hts : ∀ w ∈ lw_ok, w.before #[Value.ref b] s = true := fun w h => hts0 w (List.mem_filter.mp h).1
  have hA : ∀ q : Nat, s.heap.size ≤ q → (fun q : Nat => s.heap.size ≤ q) q := fun _ h => h
  have hbA : ¬ (fun q : Nat => s.heap.size ≤ q) b := Nat.not_le.mpr hbl
  obtain ⟨c0, iS0, hKn0⟩ := u_known (C := R_X) (T := F_X) (N := 14) (n := 14) hts i_X (hts _ k_ib_X)
  obtain ⟨c1, iS1, hKn1⟩ := u_known (C := R_M) (T := F_M) (N := 14) (n := 14) hts i_M (hts _ k_ib_M)
  obtain ⟨D, hKc⟩ : ∃ (D : va_G), ∀ (k : Nat) (q : vw_C), classes[k]? = some q → u_Kn s q.1 q.2.1 q.2.2 (D.1 k) (D.2 k) := by
    refine ⟨(fun k => if k = 0 then c0 else c1, fun k => if k = 0 then iS0 else iS1), ?_⟩
    intro k q hq
    match k, hq with
    | 0, hq => cases hq; exact hKn0
    | 1, hq => cases hq; exact hKn1
    | k + 2, hq => simp [classes] at hq
  have hS : va_S (fun q : Nat => s.heap.size ≤ q) s.heap s.heap [] := va_S.rf
  have hK : va_K D classes [] s := ⟨hKc, fun k q h => by simp at h⟩
  have hP : va_P D classes [] s.heap := fun k q h => by simp at h
  have hD : va_D (fun q : Nat => s.heap.size ≤ q) [] := ⟨fun i j p q h => by simp at h, fun k q h => by simp at h⟩
  have hl := lv_entry ([.ref b]) (n := 4) (Nat.le_of_ble_eq_true rfl)
  rw [lg_entry_eq]
  generalize (lg_sl ([.ref b]) ++ List.replicate (4 - (lg_sl ([.ref b])).length) Slot.unset).toArray = ls at hl ⊢
  have hl : lv_has ls 4 [(0, .ref b)] := hl
  refine va_new (ci := 0) (fs := [.null, .null, .null, .null, .null, .null, .null, .null, .null, .null, .null, .int 0, .int 0, .int 0]) (C := R_X) (T := F_X) (N := 14) hx hb hts i_X t_X t_X_ok hown (hts _ k_cl_L_7) (hts _ k_ib_X) (hts _ k_in_X) hK hP hD hS hA rfl (fun j hj => by rcases (show j = 0 ∨ j = 1 ∨ j = 2 ∨ j = 3 ∨ j = 4 ∨ j = 5 ∨ j = 6 ∨ j = 7 ∨ j = 8 ∨ j = 9 ∨ j = 10 ∨ j = 11 ∨ j = 12 ∨ j = 13 by omega) with rfl | rfl | rfl | rfl | rfl | rfl | rfl | rfl | rfl | rfl | rfl | rfl | rfl | rfl <;> rfl) (Nat.le_of_ble_eq_true rfl) (Nat.le_of_ble_eq_true rfl) dL_law_0 (fun q0 H hP hD hS => ?_)
  have hP : va_P D classes [(q0, .inr (0, [.null, .null, .null, .null, .null, .null, .null, .null, .null, .null, .null, .int 0, .int 0, .int 0]))] H := hP
  have hD : va_D (fun q : Nat => s.heap.size ≤ q) [(q0, .inr (0, [.null, .null, .null, .null, .null, .null, .null, .null, .null, .null, .null, .int 0, .int 0, .int 0]))] := hD
  refine W.widen (k := 1) (n := 14) (Nat.le_of_ble_eq_true rfl) (Nat.le_of_ble_eq_true rfl) ?_
  refine lv_dup hx hb dL_law_3 rfl ?_
  have hFc := va_free (wc := [(q0, .inr (0, [.null, .null, .null, .null, .null, .null, .null, .null, .null, .null, .null, .int 0, .int 0, .int 0]))]) hD hS hA [0] rfl
  refine va_callv (va_runI (As := []) (rest := [.ref q0]) ⟨hx, hb, hml, hown, hts⟩ (qx_init l D q0 H.size) (cwI 0 hts good_X rfl rfl rfl (hts _ k_in_X) (hts _ k_ml_L_9) (hts _ k_im_yX_init) rfl (by decide +kernel) ⟨Nat.le_of_ble_eq_true rfl, Nat.le_of_ble_eq_true rfl⟩) ⟨fun a U g mk q => by obtain ⟨q0, q1, qP, qK, qD⟩ := q; exact ⟨q0, q1, qP, va_K.moved (u := U) (U := U.calling g mk a) (Vm.Alike.refl U.vm) qK, qD⟩, fun U hU hW => ⟨rfl, by rw [hU], by rw [hU]; exact hP, va_K.moved hW.alike hK, hD.weaken (fun _ _ _ _ => trivial)⟩⟩ rfl rfl hl.1 rfl (lv_room (Nat.le_of_ble_eq_true rfl)) dL_law_4 ⟨Nat.le_of_ble_eq_true rfl, Nat.le_of_ble_eq_true rfl⟩) hS (fun q _ h => hFc q h) hFc (fun u t H1 locs ht hvm hw hB hz1 hk1 hS => ?_)
  obtain ⟨a, cI, cZ, rfl, hP1, hK1, hD1⟩ := hB
  rw [ht] at hP1
  have hK : va_K D classes (qty cI cZ) s := va_K.moved hvm.symm hK1
  obtain ⟨hP, hD⟩ := va_join (wr := []) (w1 := xw a cI cZ (fun _ _ => 0)) hP hD [0] [] rfl rfl (by decide) (by decide) hk1 hFc hP1 hD1
  generalize H1 = H at hP hS ⊢
  have hP : va_P D classes (xw a cI cZ (fun _ _ => 0)) H := hP
  have hD : va_D (fun q : Nat => s.heap.size ≤ q) (xw a cI cZ (fun _ _ => 0)) := hD
  refine W.widen (k := 12) (n := 354) (Nat.le_of_ble_eq_true rfl) (Nat.le_of_ble_eq_true rfl) ?_
  refine lv_astore_n (lv' := [(1, .ref (a 0)), (0, .ref b)]) hx hb dL_law_7 rfl hl (by decide) rfl (fun ls hl => ?_)
  refine va_new (ci := 1) (fs := [.null, .null, .null, .null, .int 0, .null, .null, .null, .null, .null, .int 0, .int 0, .int 0, .int 0]) (C := R_M) (T := F_M) (N := 14) hx hb hts i_M t_M t_M_ok hown (hts _ k_cl_L_10) (hts _ k_ib_M) (hts _ k_in_M) hK hP hD hS hA rfl (fun j hj => by rcases (show j = 0 ∨ j = 1 ∨ j = 2 ∨ j = 3 ∨ j = 4 ∨ j = 5 ∨ j = 6 ∨ j = 7 ∨ j = 8 ∨ j = 9 ∨ j = 10 ∨ j = 11 ∨ j = 12 ∨ j = 13 by omega) with rfl | rfl | rfl | rfl | rfl | rfl | rfl | rfl | rfl | rfl | rfl | rfl | rfl | rfl <;> rfl) (Nat.le_of_ble_eq_true rfl) (Nat.le_of_ble_eq_true rfl) dL_law_8 (fun q1 H hP hD hS => ?_)
  have hP : va_P D classes (xw a cI cZ (fun _ _ => 0) ++ [(q1, .inr (1, [.null, .null, .null, .null, .int 0, .null, .null, .null, .null, .null, .int 0, .int 0, .int 0, .int 0]))]) H := hP
  have hD : va_D (fun q : Nat => s.heap.size ≤ q) (xw a cI cZ (fun _ _ => 0) ++ [(q1, .inr (1, [.null, .null, .null, .null, .int 0, .null, .null, .null, .null, .null, .int 0, .int 0, .int 0, .int 0]))]) := hD
  refine W.widen (k := 13) (n := 368) (Nat.le_of_ble_eq_true rfl) (Nat.le_of_ble_eq_true rfl) ?_
  refine lv_dup hx hb dL_law_11 rfl ?_
  have hPc := hP.sub (ws' := [(q1, .inr (1, [.null, .null, .null, .null, .int 0, .null, .null, .null, .null, .null, .int 0, .int 0, .int 0, .int 0]))]) [12] rfl
  have hDc := hD.sub (ws' := [(q1, .inr (1, [.null, .null, .null, .null, .int 0, .null, .null, .null, .null, .null, .int 0, .int 0, .int 0, .int 0]))]) [12] (by decide) rfl
  have hKe := hK.sub (tys' := []) [] rfl
  have hFc := va_free (wc := [(q1, .inr (1, [.null, .null, .null, .null, .int 0, .null, .null, .null, .null, .null, .int 0, .int 0, .int 0, .int 0]))]) hD hS hA [12] rfl
  refine va_callv (va_runI (As := []) (rest := [.ref q1]) ⟨hx, hb, hml, hown, hts⟩ (qm_init l D q1 H.size) (cwI 0 hts good_M rfl rfl rfl (hts _ k_in_M) (hts _ k_ml_L_12) (hts _ k_im_yM_init) rfl (by decide +kernel) ⟨Nat.le_of_ble_eq_true rfl, Nat.le_of_ble_eq_true rfl⟩) ⟨fun a U g mk q => by obtain ⟨q0, q1, qP, qK, qD⟩ := q; exact ⟨q0, q1, qP, va_K.moved (u := U) (U := U.calling g mk a) (Vm.Alike.refl U.vm) qK, qD⟩, fun U hU hW => ⟨rfl, by rw [hU], by rw [hU]; exact hPc, va_K.moved hW.alike hKe, hDc.weaken (fun _ _ _ _ => trivial)⟩⟩ rfl rfl hl.1 rfl (lv_room (Nat.le_of_ble_eq_true rfl)) dL_law_12 ⟨Nat.le_of_ble_eq_true rfl, Nat.le_of_ble_eq_true rfl⟩) hS (fun q _ h => hFc q h) hFc (fun u t H1 locs ht hvm hw hB hz1 hk1 hS => ?_)
  obtain ⟨bm, cI2, cZ2, rfl, hP1, hK1, hD1⟩ := hB
  rw [ht] at hP1
  have hK2 := hK.app (va_K.moved hvm.symm hK1)
  have eI : cI = cI2 := ra_int hK2 (i := 0) (j := 2) (Or.inl rfl) rfl rfl
  have eZ : cZ = cZ2 := ra_int hK2 (i := 1) (j := 3) (Or.inr rfl) rfl rfl
  subst eI
  subst eZ
  obtain ⟨hP, hD⟩ := va_join (wr := xw a cI cZ (fun _ _ => 0)) (w1 := mw bm cI cZ (fun _ _ => 0)) hP hD [12] [0, 1, 2, 3, 4, 5, 6, 7, 8, 9, 10, 11] rfl rfl (by decide) (by decide) hk1 hFc hP1 hD1
  generalize H1 = H at hP hS ⊢
  refine W.widen (k := 22) (n := 642) (Nat.le_of_ble_eq_true rfl) (Nat.le_of_ble_eq_true rfl) ?_
  refine lv_astore_n (lv' := [(2, .ref (bm 0)), (1, .ref (a 0)), (0, .ref b)]) hx hb dL_law_15 rfl hl (by decide) rfl (fun ls hl => ?_)
  refine lv_iconst (v := nI 0) hx hb dL_law_16 (by decide) ?_
  refine lv_istore_n (lv' := [(3, .int (nI 0)), (2, .ref (bm 0)), (1, .ref (a 0)), (0, .ref b)]) hx hb dL_law_17 rfl hl (by decide) rfl (fun ls hl => ?_)
  have hkk : QK (p, l, e, room_1, s, m, #[Value.ref b], below, meth, c, D, qty cI cZ, lw_Z below #[Value.ref b] s, (fun q : Nat => s.heap.size ≤ q), 4, 22, 642) code R_law 4 room_1 l D (qty cI cZ) := ⟨hx, hb, hml, hown, hts, hK, hA, rfl, rfl, rfl, rfl, rfl, Nat.le_of_ble_eq_true rfl, Nat.le_of_ble_eq_true rfl⟩
  exact law_loop (a := a) (bm := bm) hkk ⟨hX, hbl, hbA⟩ hL (fun u lv pc hd H locs ls hP hD hS hl => va_forget (fun q hq => hS.2.2 q hq) (lw_ret hx hb hr hlocks hd)) (L + 1) 0 (fun _ _ => 0) (fun _ _ => 0) (by omega) (Nat.zero_le _) Inv_0 H _ ls hP hD hS (lv_sub hl [3, 2, 1, 0] rfl)
end
section
set_option maxHeartbeats 4000000 in
theorem lw_walk (l : Launch) (b : Addr) (xs : List Int32) : MetFree l x (headSpec (Jvm.Cond.code x code maxLocals ret :: tables_1) room_1) (lw_P b xs) (fun _ _ _ _ _ => True) lw_Q := by
  refine MetFree.of_bodyS (code := code) (maxLocals := maxLocals) (ret := ret) (by decide) ?_ ?_
  · intro args s m h hn
    obtain ⟨meth, c, h1, h2, h3, h4, h5, h6, -, -⟩ := Cond.code_spec hn (atoms_spec (ws := Jvm.Cond.code x code maxLocals ret :: tables_1) h _ List.mem_cons_self)
    exact ⟨meth, c, h1, h2, h3, h4, h5, h6⟩
  · intro p e s m args below meth c s₁ B hml0 hP _
    obtain ⟨rfl, hx, hbd, hgv⟩ := hP
    obtain ⟨scr, harrAt, hlist, hof, hsmall⟩ := hx
    obtain ⟨hcb, hkn, -, -⟩ := State.arrayAt?_spec harrAt
    have hown : s.vm.findClass R_law = some m.cls := findClass_of_methodNamed B.named
    have hts0 : ∀ c ∈ (Jvm.Cond.code x code maxLocals ret :: tables_1), c.before #[Value.ref b] s = true := atoms_spec (ws := Jvm.Cond.code x code maxLocals ret :: tables_1) B.pre
    have hts : ∀ w ∈ lw_tbl, w.before #[Value.ref b] s = true := k2_hts_sels lw_privs (fun w hw => hts0 w (List.mem_cons_of_mem _ hw)) lw_privs_ok
    have hml : c.maxLocals = 4 := B.maxLocals_eq (hts0 _ List.mem_cons_self)
    have X₀ : Stand p l e room_1 s m #[Value.ref b] below meth c s₁ [] 0 0 := Stand.of_body B
    have hh0 : s₁.heap = s.heap := by rw [B.state]; rfl
    have hsz : scr.slots.size = xs.length := by rw [← Array.length_toList, hlist, List.length_map]
    have hval : ∀ j : Nat, j < xs.length → scr.slots[j]? = some (.int (xs.getD j 0)) := fun j hj => by
      rw [← Array.getElem?_toList, hlist]
      simp [hj]
    have hbl : b < s.heap.size := (Array.getElem?_eq_some_iff.mp hcb).1
    have hX : va_X b xs.length (fun j => xs.getD j 0) s s.heap := ⟨scr, hcb, hof, hkn, hsz, hval⟩
    have K : W p l e room_1 s m #[Value.ref b] below meth c s₁.heap [] 0 0 (lw_Z below #[Value.ref b] s) (entryFrame m ([Value.ref b] : List Value).toArray 4) := by
      rw [hh0]
      exact whole_start l hbd ⟨B.exec, B.bytes, B.returns, hml, hown, hts, hX, hbl, B.notSynchronized, hgv⟩
    obtain ⟨t, a1, o, b1, b2, b3⟩ := K s₁ rfl X₀
    exact ⟨t, o, a1, b1, b2, b3⟩
theorem lw_pre_spec {args : Array Value} {s : State} (h : (Jvm.Cond.and given_1 narrow_1).before args s = true) (hr : rest_1_c.before args s = true) : ∃ (b : Addr) (xs : List Int32), lw_P b xs args s := by
  have hs := flat_of_before _ h
  have hq := flat_of_before _ hr
  have hc : (Cond.count 1).before args s = true := hs _ (by decide +kernel)
  have harr : (Cond.arrayOf (.arg 0) .int).before args s = true := hs _ (by decide +kernel)
  have hle : (Cond.le (.length (.arg 0)) (.int 2048)).before args s = true := hs _ (by decide +kernel)
  have hlen : (Cond.isInt (.length (.arg 0))).before args s = true := hq _ (by decide +kernel)
  have hall : (Cond.all (.arg 0) (.isInt (.elem (.arg 0) (.index 0)))).before args s = true := hq _ (by decide +kernel)
  obtain ⟨b, xs, hb, hx⟩ := State.ints_of_pre rfl harr hlen hall
  have hsm : xs.length < 2 ^ 31 := hx.choose_spec.2.2.2
  have hev : (Term.length (.arg 0)).eval args s none [] s = some (.int xs.length.toInt32) := hx.length_eval hb
  have hv := Cond.le_ints hev (show (Term.int 2048).eval args s none [] s = some (.int 2048) from rfl)
  have hd : xs.length.toInt32 ≤ 2048 := by
    simpa [Cond.before, Cond.holds, hv] using hle
  have hN : xs.length ≤ 2048 := (Int32.ofNat_le_ofNat hsm (by decide)).mp (show Int32.ofNat xs.length ≤ Int32.ofNat 2048 from hd)
  exact ⟨b, xs, Cond.one_arg hc (show args[0]? = some (.ref b) from hb), hx, hN, h⟩
theorem lw_comes (l : Launch) : Comes l x (Jvm.Cond.code x code maxLocals ret :: tables_1) room_1 (fun tb e args s => Calls_1 tb e args s ∧ rest_1 tb e args s ∧ Pre_1 tb e args s)
    (fun _ _ args s o t => lw_Q args s o t) := by
  intro p e ha hc hk s m args below hf hfit hheap happ hpre
  obtain ⟨b, xs, hP⟩ := lw_pre_spec hpre.2.2 hpre.2.1
  obtain ⟨k, o, h1, h2, h3, hQ⟩ := lw_walk l b xs p e ha hc hk s m args below hf ((Spec.applies_iff_loose hf).mp happ).1 hP trivial
  exact ⟨k, o, h1, h2, h3, hQ⟩
theorem lw_frame {s t : State} {o : Outcome} {args : Array Value} (h : Framed s o t [] 22 642) :
    Framed s o t (fieldLocs frame_1_writes args s ++ arrayLocs frame_1_arrays args s ++ staticLocs frame_1_statics s) 22 642 := h
theorem lw_limb (L : Cond) (hL : ∀ (args : Array Value) (s t : State), L.after args s (.returned (some (.int 1))) t = true) :
    ArmFor flags0 classFile x code maxLocals ret World_1 tables_1 room_1 Calls_1 rest_1 Pre_1
      (fun tb e a s o t => postC L tb e a s o t ∧ Framed s o t (fieldLocs frame_1_writes a s ++ arrayLocs frame_1_arrays a s ++ staticLocs frame_1_statics s) 22 642) := by
  intro l _ _ _ p e ha hc hk s m args below hf hfit hheap happ hpre
  obtain ⟨k, o, h1, h2, h3, rfl, hF⟩ := lw_comes l p e ha hc hk s m args below hf hfit hheap happ hpre
  exact ⟨k, _, h1, h2, h3, hL args s _, lw_frame hF⟩
theorem i_vc : Claimed_1_1 ∧ Claimed_1_2 := ⟨lw_limb limb_1_1 (fun args s t => by simp [limb_1_1, Cond.after, Cond.holds, Cond.value]), lw_limb limb_1_2 (fun args s t => Cond.after_iff.mpr (by
  first | (rw [show limb_1_2 = Cond.eq .result (.int 1) from rfl, Cond.eq_ints (x := 1) (y := 1) rfl rfl]; simp; done) | (simp [limb_1_2, Cond.value, Term.eval]; done)))⟩
end
