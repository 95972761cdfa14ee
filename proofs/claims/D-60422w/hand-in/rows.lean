section
-- ===== PART A: goes FIRST, ahead of the names: the tables' words, and 'selects' of the private methods out of them =====
/-- a private method of a class that the tables say can be made, by its rows of tables_1 -/
def lw_okq (q : MethodName × Nat) : Prop := (q.1.cls ≠ "java/lang/invoke/MethodHandle" ∧ q.1.cls ≠ "java/lang/invoke/VarHandle") ∧ Cond.instantiable q.1.cls q.2 ∈ tables_1 ∧ Cond.privateMethod q.1 ∈ tables_1 ∧ Cond.instanceMethod q.1 ∈ tables_1
theorem lw_p0 : lw_okq (⟨"AffixSpeller", "hasAny", "()Z"⟩, 24) := ⟨⟨by decide +kernel, by decide +kernel⟩, List.mem_of_getElem? (i := 4) (by decide +kernel), List.mem_of_getElem? (i := 99) (by decide +kernel), List.mem_of_getElem? (i := 100) (by decide +kernel)⟩
theorem lw_p1 : lw_okq (⟨"AffixSpeller", "childOf", "(II)I"⟩, 24) := ⟨⟨by decide +kernel, by decide +kernel⟩, List.mem_of_getElem? (i := 4) (by decide +kernel), List.mem_of_getElem? (i := 111) (by decide +kernel), List.mem_of_getElem? (i := 112) (by decide +kernel)⟩
theorem lw_p2 : lw_okq (⟨"AffixSpeller", "chain", "(II)V"⟩, 24) := ⟨⟨by decide +kernel, by decide +kernel⟩, List.mem_of_getElem? (i := 4) (by decide +kernel), List.mem_of_getElem? (i := 115) (by decide +kernel), List.mem_of_getElem? (i := 116) (by decide +kernel)⟩
theorem lw_p3 : lw_okq (⟨"AffixSpeller", "searchTyped", "()V"⟩, 24) := ⟨⟨by decide +kernel, by decide +kernel⟩, List.mem_of_getElem? (i := 4) (by decide +kernel), List.mem_of_getElem? (i := 131) (by decide +kernel), List.mem_of_getElem? (i := 132) (by decide +kernel)⟩
theorem lw_p4 : lw_okq (⟨"AffixSpeller", "search", "()V"⟩, 24) := ⟨⟨by decide +kernel, by decide +kernel⟩, List.mem_of_getElem? (i := 4) (by decide +kernel), List.mem_of_getElem? (i := 135) (by decide +kernel), List.mem_of_getElem? (i := 136) (by decide +kernel)⟩
theorem lw_p5 : lw_okq (⟨"AffixSpeller", "searchSuffixes", "(I)V"⟩, 24) := ⟨⟨by decide +kernel, by decide +kernel⟩, List.mem_of_getElem? (i := 4) (by decide +kernel), List.mem_of_getElem? (i := 139) (by decide +kernel), List.mem_of_getElem? (i := 140) (by decide +kernel)⟩
theorem lw_p6 : lw_okq (⟨"AffixSpeller", "takeStems", "(II)V"⟩, 24) := ⟨⟨by decide +kernel, by decide +kernel⟩, List.mem_of_getElem? (i := 4) (by decide +kernel), List.mem_of_getElem? (i := 143) (by decide +kernel), List.mem_of_getElem? (i := 144) (by decide +kernel)⟩
theorem lw_p7 : lw_okq (⟨"AffixSpeller", "findCore", "()I"⟩, 24) := ⟨⟨by decide +kernel, by decide +kernel⟩, List.mem_of_getElem? (i := 4) (by decide +kernel), List.mem_of_getElem? (i := 147) (by decide +kernel), List.mem_of_getElem? (i := 148) (by decide +kernel)⟩
theorem lw_p8 : lw_okq (⟨"AffixSpeller", "allows", "(II)Z"⟩, 24) := ⟨⟨by decide +kernel, by decide +kernel⟩, List.mem_of_getElem? (i := 4) (by decide +kernel), List.mem_of_getElem? (i := 151) (by decide +kernel), List.mem_of_getElem? (i := 152) (by decide +kernel)⟩
theorem lw_p9 : lw_okq (⟨"AffixSpeller", "addFound", "(I)V"⟩, 24) := ⟨⟨by decide +kernel, by decide +kernel⟩, List.mem_of_getElem? (i := 4) (by decide +kernel), List.mem_of_getElem? (i := 155) (by decide +kernel), List.mem_of_getElem? (i := 156) (by decide +kernel)⟩
theorem lw_p10 : lw_okq (⟨"AffixSpeller", "undoSuffix", "(I)Z"⟩, 24) := ⟨⟨by decide +kernel, by decide +kernel⟩, List.mem_of_getElem? (i := 4) (by decide +kernel), List.mem_of_getElem? (i := 159) (by decide +kernel), List.mem_of_getElem? (i := 160) (by decide +kernel)⟩
theorem lw_p11 : lw_okq (⟨"AffixSpeller", "undoPrefix", "(I)Z"⟩, 24) := ⟨⟨by decide +kernel, by decide +kernel⟩, List.mem_of_getElem? (i := 4) (by decide +kernel), List.mem_of_getElem? (i := 163) (by decide +kernel), List.mem_of_getElem? (i := 164) (by decide +kernel)⟩
theorem lw_p12 : lw_okq (⟨"AffixSpellerModel", "nine", "()Z"⟩, 19) := ⟨⟨by decide +kernel, by decide +kernel⟩, List.mem_of_getElem? (i := 183) (by decide +kernel), List.mem_of_getElem? (i := 259) (by decide +kernel), List.mem_of_getElem? (i := 260) (by decide +kernel)⟩
theorem lw_p13 : lw_okq (⟨"AffixSpellerModel", "ofStem", "(II)I"⟩, 19) := ⟨⟨by decide +kernel, by decide +kernel⟩, List.mem_of_getElem? (i := 183) (by decide +kernel), List.mem_of_getElem? (i := 283) (by decide +kernel), List.mem_of_getElem? (i := 284) (by decide +kernel)⟩
theorem lw_p14 : lw_okq (⟨"AffixSpellerModel", "gives", "(III)Z"⟩, 19) := ⟨⟨by decide +kernel, by decide +kernel⟩, List.mem_of_getElem? (i := 183) (by decide +kernel), List.mem_of_getElem? (i := 287) (by decide +kernel), List.mem_of_getElem? (i := 288) (by decide +kernel)⟩
theorem lw_p15 : lw_okq (⟨"AffixSpellerModel", "apply", "(I)Z"⟩, 19) := ⟨⟨by decide +kernel, by decide +kernel⟩, List.mem_of_getElem? (i := 183) (by decide +kernel), List.mem_of_getElem? (i := 291) (by decide +kernel), List.mem_of_getElem? (i := 292) (by decide +kernel)⟩
def lw_privs_1 : List (MethodName × Nat) := [(⟨"AffixSpeller", "hasAny", "()Z"⟩, 24), (⟨"AffixSpeller", "childOf", "(II)I"⟩, 24), (⟨"AffixSpeller", "chain", "(II)V"⟩, 24), (⟨"AffixSpeller", "searchTyped", "()V"⟩, 24), (⟨"AffixSpeller", "search", "()V"⟩, 24), (⟨"AffixSpeller", "searchSuffixes", "(I)V"⟩, 24), (⟨"AffixSpeller", "takeStems", "(II)V"⟩, 24), (⟨"AffixSpeller", "findCore", "()I"⟩, 24), (⟨"AffixSpeller", "allows", "(II)Z"⟩, 24), (⟨"AffixSpeller", "addFound", "(I)V"⟩, 24), (⟨"AffixSpeller", "undoSuffix", "(I)Z"⟩, 24), (⟨"AffixSpeller", "undoPrefix", "(I)Z"⟩, 24), (⟨"AffixSpellerModel", "nine", "()Z"⟩, 19), (⟨"AffixSpellerModel", "ofStem", "(II)I"⟩, 19), (⟨"AffixSpellerModel", "gives", "(III)Z"⟩, 19), (⟨"AffixSpellerModel", "apply", "(I)Z"⟩, 19)]
theorem lw_r1 : ∀ q ∈ lw_privs_1, lw_okq q := List.forall_mem_cons.mpr ⟨lw_p0, List.forall_mem_cons.mpr ⟨lw_p1, List.forall_mem_cons.mpr ⟨lw_p2, List.forall_mem_cons.mpr ⟨lw_p3, List.forall_mem_cons.mpr ⟨lw_p4, List.forall_mem_cons.mpr ⟨lw_p5, List.forall_mem_cons.mpr ⟨lw_p6, List.forall_mem_cons.mpr ⟨lw_p7, List.forall_mem_cons.mpr ⟨lw_p8, List.forall_mem_cons.mpr ⟨lw_p9, List.forall_mem_cons.mpr ⟨lw_p10, List.forall_mem_cons.mpr ⟨lw_p11, List.forall_mem_cons.mpr ⟨lw_p12, List.forall_mem_cons.mpr ⟨lw_p13, List.forall_mem_cons.mpr ⟨lw_p14, List.forall_mem_cons.mpr ⟨lw_p15, fun _ h => absurd h List.not_mem_nil⟩⟩⟩⟩⟩⟩⟩⟩⟩⟩⟩⟩⟩⟩⟩⟩
theorem lw_p16 : lw_okq (⟨"AffixSpellerModel", "stands", "(IIZ)Z"⟩, 19) := ⟨⟨by decide +kernel, by decide +kernel⟩, List.mem_of_getElem? (i := 183) (by decide +kernel), List.mem_of_getElem? (i := 295) (by decide +kernel), List.mem_of_getElem? (i := 296) (by decide +kernel)⟩
theorem lw_p17 : lw_okq (⟨"AffixSpellerModel", "find", "(I)I"⟩, 19) := ⟨⟨by decide +kernel, by decide +kernel⟩, List.mem_of_getElem? (i := 183) (by decide +kernel), List.mem_of_getElem? (i := 303) (by decide +kernel), List.mem_of_getElem? (i := 304) (by decide +kernel)⟩
def lw_privs_2 : List (MethodName × Nat) := [(⟨"AffixSpellerModel", "stands", "(IIZ)Z"⟩, 19), (⟨"AffixSpellerModel", "find", "(I)I"⟩, 19)]
theorem lw_r2 : ∀ q ∈ lw_privs_2, lw_okq q := List.forall_mem_cons.mpr ⟨lw_p16, List.forall_mem_cons.mpr ⟨lw_p17, fun _ h => absurd h List.not_mem_nil⟩⟩
def lw_privs : List (MethodName × Nat) := lw_privs_1 ++ (lw_privs_2)
def lw_tbl : List Cond := k2_sels lw_privs ++ tables_1
theorem lw_privs_ok : ∀ q ∈ lw_privs, lw_okq q := by
  show ∀ q ∈ lw_privs_1 ++ (lw_privs_2), lw_okq q
  exact List.forall_mem_append.mpr ⟨lw_r1, lw_r2⟩
-- ===== end of PART A; then your names; then what follows =====
/-! THE CLAIM OUT OF ONE WALK OF THE LAW'S BODY. Your part is whole_start (and what it stands on); all else here is the same for every law, but numbers. -/
def R_law : String := "AffixSpellerLaw"
def lw_P (b : Addr) (xs : List Int32) (args : Array Value) (s : State) : Prop := args = #[.ref b] ∧ s.IntsAt b xs ∧ xs.length ≤ 2048 ∧ (Jvm.Cond.and given_1 narrow_1).before args s = true
def lw_Q (_ : Array Value) (s : State) (o : Outcome) (t : State) : Prop := o = .returned (some (.int 1)) ∧ Framed s o t [] 31 2425
def lw_Z (below : List Frame) (a : Array Value) (s : State) : State → Prop := fun t => ∃ o, t.status = .running ∧ Ended t below o ∧ lw_Q a s o t
/-- the law's own end, with 1 on the stack, nothing written that was there before, its room as the claim has it -/
theorem lw_ret {p : Program} {l : Launch} {e : Env} {s : State} {m : MethodId} {below : List Frame} {meth : Method} {c : Code} {b : Nat} (hx : p.tables.exec = Jvm.exec) (hb : c.code = code) (hr : meth.sig.returnType = ret) (hlocks : meth.locks = false) {pc : Nat} {H : Heap} {ls : Array Slot} (hdg : decode code pc = .ok (.ireturn, 1)) : W p l e room_1 s m #[Value.ref b] below meth c H [] 31 2425 (lw_Z below #[Value.ref b] s) (F0 m pc ls [.int 1]) := by
  intro T hT X
  obtain ⟨fs, hret, hrun, hended, hW, hframe⟩ := X.leave (v := some (.int 1)) (hlocks := hlocks) (fun h => by rw [hr] at h; cases h)
  have hmeth' : T.vm.method? m = some meth := X.method'
  refine ⟨T.setFrames fs, ?_, .returned (some (.int 1)), hrun, hended, rfl, ⟨_, rfl⟩, hW, hframe⟩
  jvm_step X.here [X.here.top, hx, hb, hdg, hmeth', hr, ret, narrow_b1]
  (try refine ⟨rfl, ?_⟩); (try refine ⟨rfl, ?_⟩)
  first | (intro acts; rw [hret _ acts rfl rfl rfl]) | rw [hret _ _ rfl rfl rfl]
  exact Steps.refl _
/-- what holds at the law's entry: the machine, the code, the tables' words (any of lw_tbl by 'hts w (by decide +kernel)'), the script of L ints xs at the cell b, what the Statement gives of the start (any of its parts by flat_of_before) -/
def lw_At (p : Program) (s : State) (m : MethodId) (meth : Method) (c : Code) (b L : Nat) (xs : Nat → Int32) : Prop :=
  p.tables.exec = Jvm.exec ∧ c.code = code ∧ meth.sig.returnType = ret ∧ c.maxLocals = 4 ∧ s.vm.findClass R_law = some m.cls ∧ (∀ w ∈ lw_tbl, w.before #[Value.ref b] s = true) ∧ va_X b L xs s s.heap ∧ b < s.heap.size ∧ meth.locks = false ∧ (Jvm.Cond.and given_1 narrow_1).before #[Value.ref b] s = true
end
section
/-! names: classes, fields by slot, worlds; printed by tools/names.py -/
def R_X : String := "AffixSpeller"
def R_M : String := "AffixSpellerModel"
def F_X : u_T := fun k => match k with
  | 0 => ("AffixSpeller", "typed", "[I", true)
  | 1 => ("AffixSpeller", "typedLen", "I", false)
  | 2 => ("AffixSpeller", "keptLen", "[I", true)
  | 3 => ("AffixSpeller", "kept", "[I", true)
  | 4 => ("AffixSpeller", "rules", "I", false)
  | 5 => ("AffixSpeller", "ruleFlag", "[I", true)
  | 6 => ("AffixSpeller", "isSuffix", "[Z", true)
  | 7 => ("AffixSpeller", "isCross", "[Z", true)
  | 8 => ("AffixSpeller", "partLen", "[I", true)
  | 9 => ("AffixSpeller", "part", "[I", true)
  | 10 => ("AffixSpeller", "stems", "I", false)
  | 11 => ("AffixSpeller", "flagsOf", "[I", true)
  | 12 => ("AffixSpeller", "nodes", "I", false)
  | 13 => ("AffixSpeller", "child", "[I", true)
  | 14 => ("AffixSpeller", "firstStem", "[I", true)
  | 15 => ("AffixSpeller", "nextStem", "[I", true)
  | 16 => ("AffixSpeller", "word", "[I", true)
  | 17 => ("AffixSpeller", "wordLen", "I", false)
  | 18 => ("AffixSpeller", "inner", "[I", true)
  | 19 => ("AffixSpeller", "innerLen", "I", false)
  | 20 => ("AffixSpeller", "core", "[I", true)
  | 21 => ("AffixSpeller", "coreLen", "I", false)
  | 22 => ("AffixSpeller", "found", "I", false)
  | _ => ("AffixSpeller", "list", "[I", true)
def t_X : Nat → FieldType := fun k => match k with
  | 0 => .array .int
  | 1 => .int
  | 2 => .array .int
  | 3 => .array .int
  | 4 => .int
  | 5 => .array .int
  | 6 => .array .boolean
  | 7 => .array .boolean
  | 8 => .array .int
  | 9 => .array .int
  | 10 => .int
  | 11 => .array .int
  | 12 => .int
  | 13 => .array .int
  | 14 => .array .int
  | 15 => .array .int
  | 16 => .array .int
  | 17 => .int
  | 18 => .array .int
  | 19 => .int
  | 20 => .array .int
  | 21 => .int
  | 22 => .int
  | _ => .array .int
def F_M : u_T := fun k => match k with
  | 0 => ("AffixSpellerModel", "buffer", "[I", true)
  | 1 => ("AffixSpellerModel", "size", "I", false)
  | 2 => ("AffixSpellerModel", "part", "[I", true)
  | 3 => ("AffixSpellerModel", "partSize", "[I", true)
  | 4 => ("AffixSpellerModel", "rules", "I", false)
  | 5 => ("AffixSpellerModel", "flags", "[I", true)
  | 6 => ("AffixSpellerModel", "suffix", "[Z", true)
  | 7 => ("AffixSpellerModel", "cross", "[Z", true)
  | 8 => ("AffixSpellerModel", "rulePart", "[I", true)
  | 9 => ("AffixSpellerModel", "rulePartSize", "[I", true)
  | 10 => ("AffixSpellerModel", "stems", "I", false)
  | 11 => ("AffixSpellerModel", "stemFlags", "[I", true)
  | 12 => ("AffixSpellerModel", "stemSize", "[I", true)
  | 13 => ("AffixSpellerModel", "stemLetters", "[I", true)
  | 14 => ("AffixSpellerModel", "word", "[I", true)
  | 15 => ("AffixSpellerModel", "wordSize", "I", false)
  | 16 => ("AffixSpellerModel", "other", "[I", true)
  | 17 => ("AffixSpellerModel", "foundSuffix", "I", false)
  | _ => ("AffixSpellerModel", "foundPrefix", "I", false)
def t_M : Nat → FieldType := fun k => match k with
  | 0 => .array .int
  | 1 => .int
  | 2 => .array .int
  | 3 => .array .int
  | 4 => .int
  | 5 => .array .int
  | 6 => .array .boolean
  | 7 => .array .boolean
  | 8 => .array .int
  | 9 => .array .int
  | 10 => .int
  | 11 => .array .int
  | 12 => .array .int
  | 13 => .array .int
  | 14 => .array .int
  | 15 => .int
  | 16 => .array .int
  | 17 => .int
  | _ => .int
abbrev classes : List vw_C := [(R_X, F_X, 24), (R_M, F_M, 19)]
/-- a state: numbers by slot (never negative), arrays by slot -/
abbrev Sg : Type := (Nat → Nat) × (Nat → Nat → Int32)
def fs_X (ad : Nat → Nat) (g : Sg) : List Value := [.ref (ad 0), .int (nI (g.1 1)), .ref (ad 2), .ref (ad 3), .int (nI (g.1 4)), .ref (ad 5), .ref (ad 6), .ref (ad 7), .ref (ad 8), .ref (ad 9), .int (nI (g.1 10)), .ref (ad 11), .int (nI (g.1 12)), .ref (ad 13), .ref (ad 14), .ref (ad 15), .ref (ad 16), .int (nI (g.1 17)), .ref (ad 18), .int (nI (g.1 19)), .ref (ad 20), .int (nI (g.1 21)), .int (nI (g.1 22)), .ref (ad 23)]
def w_X (h : Nat) (ad : Nat → Nat) (cI cZ : ClassId) (g : Sg) : va_W := [(h, .inr (0, fs_X ad g)), (ad 0, .inl (cI, 12, .inl (g.2 0))), (ad 2, .inl (cI, 3, .inl (g.2 2))), (ad 3, .inl (cI, 9, .inl (g.2 3))), (ad 5, .inl (cI, 10, .inl (g.2 5))), (ad 6, .inl (cZ, 10, .inl (g.2 6))), (ad 7, .inl (cZ, 10, .inl (g.2 7))), (ad 8, .inl (cI, 30, .inl (g.2 8))), (ad 9, .inl (cI, 90, .inl (g.2 9))), (ad 11, .inl (cI, 12, .inl (g.2 11))), (ad 13, .inl (cI, 1160, .inl (g.2 13))), (ad 14, .inl (cI, 145, .inl (g.2 14))), (ad 15, .inl (cI, 12, .inl (g.2 15))), (ad 16, .inl (cI, 13, .inl (g.2 16))), (ad 18, .inl (cI, 16, .inl (g.2 18))), (ad 20, .inl (cI, 20, .inl (g.2 20))), (ad 23, .inl (cI, 440, .inl (g.2 23)))]
def pos_X : Nat → Nat := fun k => match k with
  | 0 => 1
  | 2 => 2
  | 3 => 3
  | 5 => 4
  | 6 => 5
  | 7 => 6
  | 8 => 7
  | 9 => 8
  | 11 => 9
  | 13 => 10
  | 14 => 11
  | 15 => 12
  | 16 => 13
  | 18 => 14
  | 20 => 15
  | 23 => 16
  | _ => 0
def len_X : Nat → Nat := fun k => match k with
  | 0 => 12
  | 2 => 3
  | 3 => 9
  | 5 => 10
  | 6 => 10
  | 7 => 10
  | 8 => 30
  | 9 => 90
  | 11 => 12
  | 13 => 1160
  | 14 => 145
  | 15 => 12
  | 16 => 13
  | 18 => 16
  | 20 => 20
  | 23 => 440
  | _ => 0
/-- 0 a number, 1 a raw number, 2 ints, 3 booleans, 4 none -/
def kind_X : Nat → Nat := fun k => match k with
  | 0 => 2
  | 1 => 0
  | 2 => 2
  | 3 => 2
  | 4 => 0
  | 5 => 2
  | 6 => 3
  | 7 => 3
  | 8 => 2
  | 9 => 2
  | 10 => 0
  | 11 => 2
  | 12 => 0
  | 13 => 2
  | 14 => 2
  | 15 => 2
  | 16 => 2
  | 17 => 0
  | 18 => 2
  | 19 => 0
  | 20 => 2
  | 21 => 0
  | 22 => 0
  | 23 => 2
  | _ => 4
def fs_M (ad : Nat → Nat) (g : Sg) : List Value := [.ref (ad 0), .int (nI (g.1 1)), .ref (ad 2), .ref (ad 3), .int (nI (g.1 4)), .ref (ad 5), .ref (ad 6), .ref (ad 7), .ref (ad 8), .ref (ad 9), .int (nI (g.1 10)), .ref (ad 11), .ref (ad 12), .ref (ad 13), .ref (ad 14), .int (nI (g.1 15)), .ref (ad 16), .int (g.2 17 0), .int (g.2 18 0)]
def w_M (h : Nat) (ad : Nat → Nat) (cI cZ : ClassId) (g : Sg) : va_W := [(h, .inr (1, fs_M ad g)), (ad 0, .inl (cI, 12, .inl (g.2 0))), (ad 2, .inl (cI, 9, .inl (g.2 2))), (ad 3, .inl (cI, 3, .inl (g.2 3))), (ad 5, .inl (cI, 10, .inl (g.2 5))), (ad 6, .inl (cZ, 10, .inl (g.2 6))), (ad 7, .inl (cZ, 10, .inl (g.2 7))), (ad 8, .inl (cI, 90, .inl (g.2 8))), (ad 9, .inl (cI, 30, .inl (g.2 9))), (ad 11, .inl (cI, 12, .inl (g.2 11))), (ad 12, .inl (cI, 12, .inl (g.2 12))), (ad 13, .inl (cI, 144, .inl (g.2 13))), (ad 14, .inl (cI, 24, .inl (g.2 14))), (ad 16, .inl (cI, 24, .inl (g.2 16)))]
def pos_M : Nat → Nat := fun k => match k with
  | 0 => 1
  | 2 => 2
  | 3 => 3
  | 5 => 4
  | 6 => 5
  | 7 => 6
  | 8 => 7
  | 9 => 8
  | 11 => 9
  | 12 => 10
  | 13 => 11
  | 14 => 12
  | 16 => 13
  | _ => 0
def len_M : Nat → Nat := fun k => match k with
  | 0 => 12
  | 2 => 9
  | 3 => 3
  | 5 => 10
  | 6 => 10
  | 7 => 10
  | 8 => 90
  | 9 => 30
  | 11 => 12
  | 12 => 12
  | 13 => 144
  | 14 => 24
  | 16 => 24
  | _ => 0
/-- 0 a number, 1 a raw number, 2 ints, 3 booleans, 4 none -/
def kind_M : Nat → Nat := fun k => match k with
  | 0 => 2
  | 1 => 0
  | 2 => 2
  | 3 => 2
  | 4 => 0
  | 5 => 2
  | 6 => 3
  | 7 => 3
  | 8 => 2
  | 9 => 2
  | 10 => 0
  | 11 => 2
  | 12 => 2
  | 13 => 2
  | 14 => 2
  | 15 => 0
  | 16 => 2
  | 17 => 1
  | 18 => 1
  | _ => 4
def zR (z : Nat) : String := match z with | 0 => R_X | _ => R_M
def zF (z : Nat) : u_T := match z with | 0 => F_X | _ => F_M
def zt (z : Nat) : Nat → FieldType := match z with | 0 => t_X | _ => t_M
def zN (z : Nat) : Nat := match z with | 0 => 24 | _ => 19
def zw (z : Nat) : Nat → (Nat → Nat) → ClassId → ClassId → Sg → va_W := match z with | 0 => w_X | _ => w_M
def zfs (z : Nat) : (Nat → Nat) → Sg → List Value := match z with | 0 => fs_X | _ => fs_M
def zpos (z : Nat) : Nat → Nat := match z with | 0 => pos_X | _ => pos_M
def zlen (z : Nat) : Nat → Nat := match z with | 0 => len_X | _ => len_M
def zkind (z : Nat) : Nat → Nat := match z with | 0 => kind_X | _ => kind_M
def xi (g : Sg) (k v : Nat) : Sg := (va_up g.1 k v, g.2)
def xa (g : Sg) (k : Nat) (f : Nat → Int32) : Sg := (g.1, va_up g.2 k f)
theorem X_getN (ad : Nat → Nat) (g : Sg) : ∀ k : Nat, kind_X k = 0 → (fs_X ad g)[k]? = some (.int (nI (g.1 k)))
  | 0, hk => by cases hk
  | 1, hk => rfl
  | 2, hk => by cases hk
  | 3, hk => by cases hk
  | 4, hk => rfl
  | 5, hk => by cases hk
  | 6, hk => by cases hk
  | 7, hk => by cases hk
  | 8, hk => by cases hk
  | 9, hk => by cases hk
  | 10, hk => rfl
  | 11, hk => by cases hk
  | 12, hk => rfl
  | 13, hk => by cases hk
  | 14, hk => by cases hk
  | 15, hk => by cases hk
  | 16, hk => by cases hk
  | 17, hk => rfl
  | 18, hk => by cases hk
  | 19, hk => rfl
  | 20, hk => by cases hk
  | 21, hk => rfl
  | 22, hk => rfl
  | 23, hk => by cases hk
  | k + 24, hk => by cases hk
theorem X_getR (ad : Nat → Nat) (g : Sg) : ∀ k : Nat, kind_X k = 1 → (fs_X ad g)[k]? = some (.int (g.2 k 0))
  | 0, hk => by cases hk
  | 1, hk => by cases hk
  | 2, hk => by cases hk
  | 3, hk => by cases hk
  | 4, hk => by cases hk
  | 5, hk => by cases hk
  | 6, hk => by cases hk
  | 7, hk => by cases hk
  | 8, hk => by cases hk
  | 9, hk => by cases hk
  | 10, hk => by cases hk
  | 11, hk => by cases hk
  | 12, hk => by cases hk
  | 13, hk => by cases hk
  | 14, hk => by cases hk
  | 15, hk => by cases hk
  | 16, hk => by cases hk
  | 17, hk => by cases hk
  | 18, hk => by cases hk
  | 19, hk => by cases hk
  | 20, hk => by cases hk
  | 21, hk => by cases hk
  | 22, hk => by cases hk
  | 23, hk => by cases hk
  | k + 24, hk => by cases hk
theorem X_getA (ad : Nat → Nat) (g : Sg) : ∀ k : Nat, (kind_X k = 2 ∨ kind_X k = 3) → (fs_X ad g)[k]? = some (.ref (ad k))
  | 0, hk => rfl
  | 1, hk => by rcases hk with h | h <;> cases h
  | 2, hk => rfl
  | 3, hk => rfl
  | 4, hk => by rcases hk with h | h <;> cases h
  | 5, hk => rfl
  | 6, hk => rfl
  | 7, hk => rfl
  | 8, hk => rfl
  | 9, hk => rfl
  | 10, hk => by rcases hk with h | h <;> cases h
  | 11, hk => rfl
  | 12, hk => by rcases hk with h | h <;> cases h
  | 13, hk => rfl
  | 14, hk => rfl
  | 15, hk => rfl
  | 16, hk => rfl
  | 17, hk => by rcases hk with h | h <;> cases h
  | 18, hk => rfl
  | 19, hk => by rcases hk with h | h <;> cases h
  | 20, hk => rfl
  | 21, hk => by rcases hk with h | h <;> cases h
  | 22, hk => by rcases hk with h | h <;> cases h
  | 23, hk => rfl
  | k + 24, hk => by rcases hk with h | h <;> cases h
theorem X_putN (h : Nat) (ad : Nat → Nat) (cI cZ : ClassId) (g : Sg) (v : Nat) : ∀ k : Nat, kind_X k = 0 → (w_X h ad cI cZ g).set 0 (h, .inr (0, (fs_X ad g).set k (.int (nI v)))) = w_X h ad cI cZ (xi g k v)
  | 0, hk => by cases hk
  | 1, hk => rfl
  | 2, hk => by cases hk
  | 3, hk => by cases hk
  | 4, hk => rfl
  | 5, hk => by cases hk
  | 6, hk => by cases hk
  | 7, hk => by cases hk
  | 8, hk => by cases hk
  | 9, hk => by cases hk
  | 10, hk => rfl
  | 11, hk => by cases hk
  | 12, hk => rfl
  | 13, hk => by cases hk
  | 14, hk => by cases hk
  | 15, hk => by cases hk
  | 16, hk => by cases hk
  | 17, hk => rfl
  | 18, hk => by cases hk
  | 19, hk => rfl
  | 20, hk => by cases hk
  | 21, hk => rfl
  | 22, hk => rfl
  | 23, hk => by cases hk
  | k + 24, hk => by cases hk
theorem X_putR (h : Nat) (ad : Nat → Nat) (cI cZ : ClassId) (g : Sg) (v : Int32) : ∀ k : Nat, kind_X k = 1 → (w_X h ad cI cZ g).set 0 (h, .inr (0, (fs_X ad g).set k (.int v))) = w_X h ad cI cZ (xa g k (fun _ => v))
  | 0, hk => by cases hk
  | 1, hk => by cases hk
  | 2, hk => by cases hk
  | 3, hk => by cases hk
  | 4, hk => by cases hk
  | 5, hk => by cases hk
  | 6, hk => by cases hk
  | 7, hk => by cases hk
  | 8, hk => by cases hk
  | 9, hk => by cases hk
  | 10, hk => by cases hk
  | 11, hk => by cases hk
  | 12, hk => by cases hk
  | 13, hk => by cases hk
  | 14, hk => by cases hk
  | 15, hk => by cases hk
  | 16, hk => by cases hk
  | 17, hk => by cases hk
  | 18, hk => by cases hk
  | 19, hk => by cases hk
  | 20, hk => by cases hk
  | 21, hk => by cases hk
  | 22, hk => by cases hk
  | 23, hk => by cases hk
  | k + 24, hk => by cases hk
theorem X_arI (h : Nat) (ad : Nat → Nat) (cI cZ : ClassId) (g : Sg) : ∀ k : Nat, kind_X k = 2 → (w_X h ad cI cZ g)[pos_X k]? = some (ad k, .inl (cI, len_X k, .inl (g.2 k)))
  | 0, hk => rfl
  | 1, hk => by cases hk
  | 2, hk => rfl
  | 3, hk => rfl
  | 4, hk => by cases hk
  | 5, hk => rfl
  | 6, hk => by cases hk
  | 7, hk => by cases hk
  | 8, hk => rfl
  | 9, hk => rfl
  | 10, hk => by cases hk
  | 11, hk => rfl
  | 12, hk => by cases hk
  | 13, hk => rfl
  | 14, hk => rfl
  | 15, hk => rfl
  | 16, hk => rfl
  | 17, hk => by cases hk
  | 18, hk => rfl
  | 19, hk => by cases hk
  | 20, hk => rfl
  | 21, hk => by cases hk
  | 22, hk => by cases hk
  | 23, hk => rfl
  | k + 24, hk => by cases hk
theorem X_arZ (h : Nat) (ad : Nat → Nat) (cI cZ : ClassId) (g : Sg) : ∀ k : Nat, kind_X k = 3 → (w_X h ad cI cZ g)[pos_X k]? = some (ad k, .inl (cZ, len_X k, .inl (g.2 k)))
  | 0, hk => by cases hk
  | 1, hk => by cases hk
  | 2, hk => by cases hk
  | 3, hk => by cases hk
  | 4, hk => by cases hk
  | 5, hk => by cases hk
  | 6, hk => rfl
  | 7, hk => rfl
  | 8, hk => by cases hk
  | 9, hk => by cases hk
  | 10, hk => by cases hk
  | 11, hk => by cases hk
  | 12, hk => by cases hk
  | 13, hk => by cases hk
  | 14, hk => by cases hk
  | 15, hk => by cases hk
  | 16, hk => by cases hk
  | 17, hk => by cases hk
  | 18, hk => by cases hk
  | 19, hk => by cases hk
  | 20, hk => by cases hk
  | 21, hk => by cases hk
  | 22, hk => by cases hk
  | 23, hk => by cases hk
  | k + 24, hk => by cases hk
theorem X_seI (h : Nat) (ad : Nat → Nat) (cI cZ : ClassId) (g : Sg) (f : Nat → Int32) : ∀ k : Nat, kind_X k = 2 → (w_X h ad cI cZ g).set (pos_X k) (ad k, .inl (cI, len_X k, .inl f)) = w_X h ad cI cZ (xa g k f)
  | 0, hk => rfl
  | 1, hk => by cases hk
  | 2, hk => rfl
  | 3, hk => rfl
  | 4, hk => by cases hk
  | 5, hk => rfl
  | 6, hk => by cases hk
  | 7, hk => by cases hk
  | 8, hk => rfl
  | 9, hk => rfl
  | 10, hk => by cases hk
  | 11, hk => rfl
  | 12, hk => by cases hk
  | 13, hk => rfl
  | 14, hk => rfl
  | 15, hk => rfl
  | 16, hk => rfl
  | 17, hk => by cases hk
  | 18, hk => rfl
  | 19, hk => by cases hk
  | 20, hk => rfl
  | 21, hk => by cases hk
  | 22, hk => by cases hk
  | 23, hk => rfl
  | k + 24, hk => by cases hk
theorem X_seZ (h : Nat) (ad : Nat → Nat) (cI cZ : ClassId) (g : Sg) (f : Nat → Int32) : ∀ k : Nat, kind_X k = 3 → (w_X h ad cI cZ g).set (pos_X k) (ad k, .inl (cZ, len_X k, .inl f)) = w_X h ad cI cZ (xa g k f)
  | 0, hk => by cases hk
  | 1, hk => by cases hk
  | 2, hk => by cases hk
  | 3, hk => by cases hk
  | 4, hk => by cases hk
  | 5, hk => by cases hk
  | 6, hk => rfl
  | 7, hk => rfl
  | 8, hk => by cases hk
  | 9, hk => by cases hk
  | 10, hk => by cases hk
  | 11, hk => by cases hk
  | 12, hk => by cases hk
  | 13, hk => by cases hk
  | 14, hk => by cases hk
  | 15, hk => by cases hk
  | 16, hk => by cases hk
  | 17, hk => by cases hk
  | 18, hk => by cases hk
  | 19, hk => by cases hk
  | 20, hk => by cases hk
  | 21, hk => by cases hk
  | 22, hk => by cases hk
  | 23, hk => by cases hk
  | k + 24, hk => by cases hk
theorem X_int : ∀ k : Nat, (kind_X k = 0 ∨ kind_X k = 1) → k < 24 ∧ (F_X k).1 = R_X ∧ (F_X k).2.2.2 = false ∧ parseFieldDescriptor (F_X k).2.2.1 = some .int
  | 0, hk => by rcases hk with h | h <;> cases h
  | 1, hk => ⟨by decide, rfl, rfl, by decide +kernel⟩
  | 2, hk => by rcases hk with h | h <;> cases h
  | 3, hk => by rcases hk with h | h <;> cases h
  | 4, hk => ⟨by decide, rfl, rfl, by decide +kernel⟩
  | 5, hk => by rcases hk with h | h <;> cases h
  | 6, hk => by rcases hk with h | h <;> cases h
  | 7, hk => by rcases hk with h | h <;> cases h
  | 8, hk => by rcases hk with h | h <;> cases h
  | 9, hk => by rcases hk with h | h <;> cases h
  | 10, hk => ⟨by decide, rfl, rfl, by decide +kernel⟩
  | 11, hk => by rcases hk with h | h <;> cases h
  | 12, hk => ⟨by decide, rfl, rfl, by decide +kernel⟩
  | 13, hk => by rcases hk with h | h <;> cases h
  | 14, hk => by rcases hk with h | h <;> cases h
  | 15, hk => by rcases hk with h | h <;> cases h
  | 16, hk => by rcases hk with h | h <;> cases h
  | 17, hk => ⟨by decide, rfl, rfl, by decide +kernel⟩
  | 18, hk => by rcases hk with h | h <;> cases h
  | 19, hk => ⟨by decide, rfl, rfl, by decide +kernel⟩
  | 20, hk => by rcases hk with h | h <;> cases h
  | 21, hk => ⟨by decide, rfl, rfl, by decide +kernel⟩
  | 22, hk => ⟨by decide, rfl, rfl, by decide +kernel⟩
  | 23, hk => by rcases hk with h | h <;> cases h
  | k + 24, hk => by rcases hk with h | h <;> cases h
theorem X_arr : ∀ k : Nat, (kind_X k = 2 ∨ kind_X k = 3) → k < 24 ∧ (F_X k).1 = R_X
  | 0, hk => ⟨by decide, rfl⟩
  | 1, hk => by rcases hk with h | h <;> cases h
  | 2, hk => ⟨by decide, rfl⟩
  | 3, hk => ⟨by decide, rfl⟩
  | 4, hk => by rcases hk with h | h <;> cases h
  | 5, hk => ⟨by decide, rfl⟩
  | 6, hk => ⟨by decide, rfl⟩
  | 7, hk => ⟨by decide, rfl⟩
  | 8, hk => ⟨by decide, rfl⟩
  | 9, hk => ⟨by decide, rfl⟩
  | 10, hk => by rcases hk with h | h <;> cases h
  | 11, hk => ⟨by decide, rfl⟩
  | 12, hk => by rcases hk with h | h <;> cases h
  | 13, hk => ⟨by decide, rfl⟩
  | 14, hk => ⟨by decide, rfl⟩
  | 15, hk => ⟨by decide, rfl⟩
  | 16, hk => ⟨by decide, rfl⟩
  | 17, hk => by rcases hk with h | h <;> cases h
  | 18, hk => ⟨by decide, rfl⟩
  | 19, hk => by rcases hk with h | h <;> cases h
  | 20, hk => ⟨by decide, rfl⟩
  | 21, hk => by rcases hk with h | h <;> cases h
  | 22, hk => by rcases hk with h | h <;> cases h
  | 23, hk => ⟨by decide, rfl⟩
  | k + 24, hk => by rcases hk with h | h <;> cases h
theorem X_small : ∀ k : Nat, len_X k < 2 ^ 31 := by
  intro k; unfold len_X; split <;> decide
theorem M_getN (ad : Nat → Nat) (g : Sg) : ∀ k : Nat, kind_M k = 0 → (fs_M ad g)[k]? = some (.int (nI (g.1 k)))
  | 0, hk => by cases hk
  | 1, hk => rfl
  | 2, hk => by cases hk
  | 3, hk => by cases hk
  | 4, hk => rfl
  | 5, hk => by cases hk
  | 6, hk => by cases hk
  | 7, hk => by cases hk
  | 8, hk => by cases hk
  | 9, hk => by cases hk
  | 10, hk => rfl
  | 11, hk => by cases hk
  | 12, hk => by cases hk
  | 13, hk => by cases hk
  | 14, hk => by cases hk
  | 15, hk => rfl
  | 16, hk => by cases hk
  | 17, hk => by cases hk
  | 18, hk => by cases hk
  | k + 19, hk => by cases hk
theorem M_getR (ad : Nat → Nat) (g : Sg) : ∀ k : Nat, kind_M k = 1 → (fs_M ad g)[k]? = some (.int (g.2 k 0))
  | 0, hk => by cases hk
  | 1, hk => by cases hk
  | 2, hk => by cases hk
  | 3, hk => by cases hk
  | 4, hk => by cases hk
  | 5, hk => by cases hk
  | 6, hk => by cases hk
  | 7, hk => by cases hk
  | 8, hk => by cases hk
  | 9, hk => by cases hk
  | 10, hk => by cases hk
  | 11, hk => by cases hk
  | 12, hk => by cases hk
  | 13, hk => by cases hk
  | 14, hk => by cases hk
  | 15, hk => by cases hk
  | 16, hk => by cases hk
  | 17, hk => rfl
  | 18, hk => rfl
  | k + 19, hk => by cases hk
theorem M_getA (ad : Nat → Nat) (g : Sg) : ∀ k : Nat, (kind_M k = 2 ∨ kind_M k = 3) → (fs_M ad g)[k]? = some (.ref (ad k))
  | 0, hk => rfl
  | 1, hk => by rcases hk with h | h <;> cases h
  | 2, hk => rfl
  | 3, hk => rfl
  | 4, hk => by rcases hk with h | h <;> cases h
  | 5, hk => rfl
  | 6, hk => rfl
  | 7, hk => rfl
  | 8, hk => rfl
  | 9, hk => rfl
  | 10, hk => by rcases hk with h | h <;> cases h
  | 11, hk => rfl
  | 12, hk => rfl
  | 13, hk => rfl
  | 14, hk => rfl
  | 15, hk => by rcases hk with h | h <;> cases h
  | 16, hk => rfl
  | 17, hk => by rcases hk with h | h <;> cases h
  | 18, hk => by rcases hk with h | h <;> cases h
  | k + 19, hk => by rcases hk with h | h <;> cases h
theorem M_putN (h : Nat) (ad : Nat → Nat) (cI cZ : ClassId) (g : Sg) (v : Nat) : ∀ k : Nat, kind_M k = 0 → (w_M h ad cI cZ g).set 0 (h, .inr (1, (fs_M ad g).set k (.int (nI v)))) = w_M h ad cI cZ (xi g k v)
  | 0, hk => by cases hk
  | 1, hk => rfl
  | 2, hk => by cases hk
  | 3, hk => by cases hk
  | 4, hk => rfl
  | 5, hk => by cases hk
  | 6, hk => by cases hk
  | 7, hk => by cases hk
  | 8, hk => by cases hk
  | 9, hk => by cases hk
  | 10, hk => rfl
  | 11, hk => by cases hk
  | 12, hk => by cases hk
  | 13, hk => by cases hk
  | 14, hk => by cases hk
  | 15, hk => rfl
  | 16, hk => by cases hk
  | 17, hk => by cases hk
  | 18, hk => by cases hk
  | k + 19, hk => by cases hk
theorem M_putR (h : Nat) (ad : Nat → Nat) (cI cZ : ClassId) (g : Sg) (v : Int32) : ∀ k : Nat, kind_M k = 1 → (w_M h ad cI cZ g).set 0 (h, .inr (1, (fs_M ad g).set k (.int v))) = w_M h ad cI cZ (xa g k (fun _ => v))
  | 0, hk => by cases hk
  | 1, hk => by cases hk
  | 2, hk => by cases hk
  | 3, hk => by cases hk
  | 4, hk => by cases hk
  | 5, hk => by cases hk
  | 6, hk => by cases hk
  | 7, hk => by cases hk
  | 8, hk => by cases hk
  | 9, hk => by cases hk
  | 10, hk => by cases hk
  | 11, hk => by cases hk
  | 12, hk => by cases hk
  | 13, hk => by cases hk
  | 14, hk => by cases hk
  | 15, hk => by cases hk
  | 16, hk => by cases hk
  | 17, hk => rfl
  | 18, hk => rfl
  | k + 19, hk => by cases hk
theorem M_arI (h : Nat) (ad : Nat → Nat) (cI cZ : ClassId) (g : Sg) : ∀ k : Nat, kind_M k = 2 → (w_M h ad cI cZ g)[pos_M k]? = some (ad k, .inl (cI, len_M k, .inl (g.2 k)))
  | 0, hk => rfl
  | 1, hk => by cases hk
  | 2, hk => rfl
  | 3, hk => rfl
  | 4, hk => by cases hk
  | 5, hk => rfl
  | 6, hk => by cases hk
  | 7, hk => by cases hk
  | 8, hk => rfl
  | 9, hk => rfl
  | 10, hk => by cases hk
  | 11, hk => rfl
  | 12, hk => rfl
  | 13, hk => rfl
  | 14, hk => rfl
  | 15, hk => by cases hk
  | 16, hk => rfl
  | 17, hk => by cases hk
  | 18, hk => by cases hk
  | k + 19, hk => by cases hk
theorem M_arZ (h : Nat) (ad : Nat → Nat) (cI cZ : ClassId) (g : Sg) : ∀ k : Nat, kind_M k = 3 → (w_M h ad cI cZ g)[pos_M k]? = some (ad k, .inl (cZ, len_M k, .inl (g.2 k)))
  | 0, hk => by cases hk
  | 1, hk => by cases hk
  | 2, hk => by cases hk
  | 3, hk => by cases hk
  | 4, hk => by cases hk
  | 5, hk => by cases hk
  | 6, hk => rfl
  | 7, hk => rfl
  | 8, hk => by cases hk
  | 9, hk => by cases hk
  | 10, hk => by cases hk
  | 11, hk => by cases hk
  | 12, hk => by cases hk
  | 13, hk => by cases hk
  | 14, hk => by cases hk
  | 15, hk => by cases hk
  | 16, hk => by cases hk
  | 17, hk => by cases hk
  | 18, hk => by cases hk
  | k + 19, hk => by cases hk
theorem M_seI (h : Nat) (ad : Nat → Nat) (cI cZ : ClassId) (g : Sg) (f : Nat → Int32) : ∀ k : Nat, kind_M k = 2 → (w_M h ad cI cZ g).set (pos_M k) (ad k, .inl (cI, len_M k, .inl f)) = w_M h ad cI cZ (xa g k f)
  | 0, hk => rfl
  | 1, hk => by cases hk
  | 2, hk => rfl
  | 3, hk => rfl
  | 4, hk => by cases hk
  | 5, hk => rfl
  | 6, hk => by cases hk
  | 7, hk => by cases hk
  | 8, hk => rfl
  | 9, hk => rfl
  | 10, hk => by cases hk
  | 11, hk => rfl
  | 12, hk => rfl
  | 13, hk => rfl
  | 14, hk => rfl
  | 15, hk => by cases hk
  | 16, hk => rfl
  | 17, hk => by cases hk
  | 18, hk => by cases hk
  | k + 19, hk => by cases hk
theorem M_seZ (h : Nat) (ad : Nat → Nat) (cI cZ : ClassId) (g : Sg) (f : Nat → Int32) : ∀ k : Nat, kind_M k = 3 → (w_M h ad cI cZ g).set (pos_M k) (ad k, .inl (cZ, len_M k, .inl f)) = w_M h ad cI cZ (xa g k f)
  | 0, hk => by cases hk
  | 1, hk => by cases hk
  | 2, hk => by cases hk
  | 3, hk => by cases hk
  | 4, hk => by cases hk
  | 5, hk => by cases hk
  | 6, hk => rfl
  | 7, hk => rfl
  | 8, hk => by cases hk
  | 9, hk => by cases hk
  | 10, hk => by cases hk
  | 11, hk => by cases hk
  | 12, hk => by cases hk
  | 13, hk => by cases hk
  | 14, hk => by cases hk
  | 15, hk => by cases hk
  | 16, hk => by cases hk
  | 17, hk => by cases hk
  | 18, hk => by cases hk
  | k + 19, hk => by cases hk
theorem M_int : ∀ k : Nat, (kind_M k = 0 ∨ kind_M k = 1) → k < 19 ∧ (F_M k).1 = R_M ∧ (F_M k).2.2.2 = false ∧ parseFieldDescriptor (F_M k).2.2.1 = some .int
  | 0, hk => by rcases hk with h | h <;> cases h
  | 1, hk => ⟨by decide, rfl, rfl, by decide +kernel⟩
  | 2, hk => by rcases hk with h | h <;> cases h
  | 3, hk => by rcases hk with h | h <;> cases h
  | 4, hk => ⟨by decide, rfl, rfl, by decide +kernel⟩
  | 5, hk => by rcases hk with h | h <;> cases h
  | 6, hk => by rcases hk with h | h <;> cases h
  | 7, hk => by rcases hk with h | h <;> cases h
  | 8, hk => by rcases hk with h | h <;> cases h
  | 9, hk => by rcases hk with h | h <;> cases h
  | 10, hk => ⟨by decide, rfl, rfl, by decide +kernel⟩
  | 11, hk => by rcases hk with h | h <;> cases h
  | 12, hk => by rcases hk with h | h <;> cases h
  | 13, hk => by rcases hk with h | h <;> cases h
  | 14, hk => by rcases hk with h | h <;> cases h
  | 15, hk => ⟨by decide, rfl, rfl, by decide +kernel⟩
  | 16, hk => by rcases hk with h | h <;> cases h
  | 17, hk => ⟨by decide, rfl, rfl, by decide +kernel⟩
  | 18, hk => ⟨by decide, rfl, rfl, by decide +kernel⟩
  | k + 19, hk => by rcases hk with h | h <;> cases h
theorem M_arr : ∀ k : Nat, (kind_M k = 2 ∨ kind_M k = 3) → k < 19 ∧ (F_M k).1 = R_M
  | 0, hk => ⟨by decide, rfl⟩
  | 1, hk => by rcases hk with h | h <;> cases h
  | 2, hk => ⟨by decide, rfl⟩
  | 3, hk => ⟨by decide, rfl⟩
  | 4, hk => by rcases hk with h | h <;> cases h
  | 5, hk => ⟨by decide, rfl⟩
  | 6, hk => ⟨by decide, rfl⟩
  | 7, hk => ⟨by decide, rfl⟩
  | 8, hk => ⟨by decide, rfl⟩
  | 9, hk => ⟨by decide, rfl⟩
  | 10, hk => by rcases hk with h | h <;> cases h
  | 11, hk => ⟨by decide, rfl⟩
  | 12, hk => ⟨by decide, rfl⟩
  | 13, hk => ⟨by decide, rfl⟩
  | 14, hk => ⟨by decide, rfl⟩
  | 15, hk => by rcases hk with h | h <;> cases h
  | 16, hk => ⟨by decide, rfl⟩
  | 17, hk => by rcases hk with h | h <;> cases h
  | 18, hk => by rcases hk with h | h <;> cases h
  | k + 19, hk => by rcases hk with h | h <;> cases h
theorem M_small : ∀ k : Nat, len_M k < 2 ^ 31 := by
  intro k; unfold len_M; split <;> decide
theorem n_X : ∀ a, a < 24 → ∀ b, b < 24 → a ≠ b → (F_X a).2.1 ≠ (F_X b).2.1 := by decide +kernel
theorem n_M : ∀ a, a < 19 → ∀ b, b < 19 → a ≠ b → (F_M a).2.1 ≠ (F_M b).2.1 := by decide +kernel
theorem t_X_ok : ∀ k, k < 24 → parseFieldDescriptor (F_X k).2.2.1 = some (t_X k) := by decide +kernel
theorem t_M_ok : ∀ k, k < 19 → parseFieldDescriptor (F_M k).2.2.1 = some (t_M k) := by decide +kernel
def gt_tbl : List Cond := lw_tbl.filter goodWord
theorem gm {w : Cond} (h : w ∈ lw_tbl) (hg : goodWord w = true) : w ∈ gt_tbl := List.mem_filter.mpr ⟨h, hg⟩
theorem i_X0 : ∀ w ∈ u_ws R_X F_X 24, w ∈ lw_tbl := by decide +kernel
theorem i_X : ∀ w ∈ u_ws R_X F_X 24, w ∈ gt_tbl := fun w hw => gm (i_X0 w hw) (List.all_eq_true.mp (by decide +kernel : (u_ws R_X F_X 24).all goodWord = true) w hw)
theorem i_M0 : ∀ w ∈ u_ws R_M F_M 19, w ∈ lw_tbl := by decide +kernel
theorem i_M : ∀ w ∈ u_ws R_M F_M 19, w ∈ gt_tbl := fun w hw => gm (i_M0 w hw) (List.all_eq_true.mp (by decide +kernel : (u_ws R_M F_M 19).all goodWord = true) w hw)
theorem good_in : GoodIn gt_tbl gt_tbl := fun w hw => ⟨hw, good_of_word (List.mem_filter.mp hw).2⟩
theorem fl_X_0 : Cond.fieldLink R_X 7 R_X "typed" "[I" ∈ gt_tbl := gm (List.mem_of_getElem? (i := 29) rfl) rfl
theorem fl_X_1 : Cond.fieldLink R_X 63 R_X "typedLen" "I" ∈ gt_tbl := gm (List.mem_of_getElem? (i := 30) rfl) rfl
theorem fl_X_2 : Cond.fieldLink R_X 13 R_X "keptLen" "[I" ∈ gt_tbl := gm (List.mem_of_getElem? (i := 31) rfl) rfl
theorem fl_X_3 : Cond.fieldLink R_X 16 R_X "kept" "[I" ∈ gt_tbl := gm (List.mem_of_getElem? (i := 32) rfl) rfl
theorem fl_X_4 : Cond.fieldLink R_X 70 R_X "rules" "I" ∈ gt_tbl := gm (List.mem_of_getElem? (i := 33) rfl) rfl
theorem fl_X_5 : Cond.fieldLink R_X 19 R_X "ruleFlag" "[I" ∈ gt_tbl := gm (List.mem_of_getElem? (i := 34) rfl) rfl
theorem fl_X_6 : Cond.fieldLink R_X 22 R_X "isSuffix" "[Z" ∈ gt_tbl := gm (List.mem_of_getElem? (i := 35) rfl) rfl
theorem fl_X_7 : Cond.fieldLink R_X 26 R_X "isCross" "[Z" ∈ gt_tbl := gm (List.mem_of_getElem? (i := 36) rfl) rfl
theorem fl_X_8 : Cond.fieldLink R_X 29 R_X "partLen" "[I" ∈ gt_tbl := gm (List.mem_of_getElem? (i := 37) rfl) rfl
theorem fl_X_9 : Cond.fieldLink R_X 32 R_X "part" "[I" ∈ gt_tbl := gm (List.mem_of_getElem? (i := 38) rfl) rfl
theorem fl_X_10 : Cond.fieldLink R_X 73 R_X "stems" "I" ∈ gt_tbl := gm (List.mem_of_getElem? (i := 39) rfl) rfl
theorem fl_X_11 : Cond.fieldLink R_X 35 R_X "flagsOf" "[I" ∈ gt_tbl := gm (List.mem_of_getElem? (i := 40) rfl) rfl
theorem fl_X_12 : Cond.fieldLink R_X 59 R_X "nodes" "I" ∈ gt_tbl := gm (List.mem_of_getElem? (i := 41) rfl) rfl
theorem fl_X_13 : Cond.fieldLink R_X 38 R_X "child" "[I" ∈ gt_tbl := gm (List.mem_of_getElem? (i := 42) rfl) rfl
theorem fl_X_14 : Cond.fieldLink R_X 41 R_X "firstStem" "[I" ∈ gt_tbl := gm (List.mem_of_getElem? (i := 43) rfl) rfl
theorem fl_X_15 : Cond.fieldLink R_X 44 R_X "nextStem" "[I" ∈ gt_tbl := gm (List.mem_of_getElem? (i := 44) rfl) rfl
theorem fl_X_16 : Cond.fieldLink R_X 47 R_X "word" "[I" ∈ gt_tbl := gm (List.mem_of_getElem? (i := 45) rfl) rfl
theorem fl_X_17 : Cond.fieldLink R_X 84 R_X "wordLen" "I" ∈ gt_tbl := gm (List.mem_of_getElem? (i := 46) rfl) rfl
theorem fl_X_18 : Cond.fieldLink R_X 50 R_X "inner" "[I" ∈ gt_tbl := gm (List.mem_of_getElem? (i := 47) rfl) rfl
theorem fl_X_19 : Cond.fieldLink R_X 87 R_X "innerLen" "I" ∈ gt_tbl := gm (List.mem_of_getElem? (i := 48) rfl) rfl
theorem fl_X_20 : Cond.fieldLink R_X 53 R_X "core" "[I" ∈ gt_tbl := gm (List.mem_of_getElem? (i := 49) rfl) rfl
theorem fl_X_21 : Cond.fieldLink R_X 90 R_X "coreLen" "I" ∈ gt_tbl := gm (List.mem_of_getElem? (i := 50) rfl) rfl
theorem fl_X_22 : Cond.fieldLink R_X 93 R_X "found" "I" ∈ gt_tbl := gm (List.mem_of_getElem? (i := 51) rfl) rfl
theorem fl_X_23 : Cond.fieldLink R_X 56 R_X "list" "[I" ∈ gt_tbl := gm (List.mem_of_getElem? (i := 52) rfl) rfl
theorem fl_M_0 : Cond.fieldLink R_M 7 R_M "buffer" "[I" ∈ gt_tbl := gm (List.mem_of_getElem? (i := 206) rfl) rfl
theorem fl_M_1 : Cond.fieldLink R_M 50 R_M "size" "I" ∈ gt_tbl := gm (List.mem_of_getElem? (i := 207) rfl) rfl
theorem fl_M_2 : Cond.fieldLink R_M 13 R_M "part" "[I" ∈ gt_tbl := gm (List.mem_of_getElem? (i := 208) rfl) rfl
theorem fl_M_3 : Cond.fieldLink R_M 16 R_M "partSize" "[I" ∈ gt_tbl := gm (List.mem_of_getElem? (i := 209) rfl) rfl
theorem fl_M_4 : Cond.fieldLink R_M 58 R_M "rules" "I" ∈ gt_tbl := gm (List.mem_of_getElem? (i := 210) rfl) rfl
theorem fl_M_5 : Cond.fieldLink R_M 19 R_M "flags" "[I" ∈ gt_tbl := gm (List.mem_of_getElem? (i := 211) rfl) rfl
theorem fl_M_6 : Cond.fieldLink R_M 22 R_M "suffix" "[Z" ∈ gt_tbl := gm (List.mem_of_getElem? (i := 212) rfl) rfl
theorem fl_M_7 : Cond.fieldLink R_M 26 R_M "cross" "[Z" ∈ gt_tbl := gm (List.mem_of_getElem? (i := 213) rfl) rfl
theorem fl_M_8 : Cond.fieldLink R_M 29 R_M "rulePart" "[I" ∈ gt_tbl := gm (List.mem_of_getElem? (i := 214) rfl) rfl
theorem fl_M_9 : Cond.fieldLink R_M 32 R_M "rulePartSize" "[I" ∈ gt_tbl := gm (List.mem_of_getElem? (i := 215) rfl) rfl
theorem fl_M_10 : Cond.fieldLink R_M 61 R_M "stems" "I" ∈ gt_tbl := gm (List.mem_of_getElem? (i := 216) rfl) rfl
theorem fl_M_11 : Cond.fieldLink R_M 35 R_M "stemFlags" "[I" ∈ gt_tbl := gm (List.mem_of_getElem? (i := 217) rfl) rfl
theorem fl_M_12 : Cond.fieldLink R_M 38 R_M "stemSize" "[I" ∈ gt_tbl := gm (List.mem_of_getElem? (i := 218) rfl) rfl
theorem fl_M_13 : Cond.fieldLink R_M 41 R_M "stemLetters" "[I" ∈ gt_tbl := gm (List.mem_of_getElem? (i := 219) rfl) rfl
theorem fl_M_14 : Cond.fieldLink R_M 44 R_M "word" "[I" ∈ gt_tbl := gm (List.mem_of_getElem? (i := 220) rfl) rfl
theorem fl_M_15 : Cond.fieldLink R_M 64 R_M "wordSize" "I" ∈ gt_tbl := gm (List.mem_of_getElem? (i := 221) rfl) rfl
theorem fl_M_16 : Cond.fieldLink R_M 47 R_M "other" "[I" ∈ gt_tbl := gm (List.mem_of_getElem? (i := 222) rfl) rfl
theorem fl_M_17 : Cond.fieldLink R_M 79 R_M "foundSuffix" "I" ∈ gt_tbl := gm (List.mem_of_getElem? (i := 223) rfl) rfl
theorem fl_M_18 : Cond.fieldLink R_M 82 R_M "foundPrefix" "I" ∈ gt_tbl := gm (List.mem_of_getElem? (i := 224) rfl) rfl
abbrev b_X_init : ByteArray := prog_1_method_1_code
def y_X_init : MethodName := ⟨R_X, "<init>", "()V"⟩
theorem k_X_init : Cond.code y_X_init b_X_init 1 none ∈ gt_tbl := gm (List.mem_of_getElem? (i := 25) rfl) rfl
theorem in_X_init : Cond.instanceMethod y_X_init ∈ gt_tbl := gm (List.mem_of_getElem? (i := 24) rfl) rfl
abbrev b_X_type : ByteArray := prog_1_method_2_code
def y_X_type : MethodName := ⟨R_X, "type", "(I)I"⟩
theorem k_X_type : Cond.code y_X_type b_X_type 2 (some .int) ∈ gt_tbl := gm (List.mem_of_getElem? (i := 107) rfl) rfl
theorem in_X_type : Cond.instanceMethod y_X_type ∈ gt_tbl := gm (List.mem_of_getElem? (i := 105) rfl) rfl
theorem se_X_type : Cond.selects R_X y_X_type y_X_type ∈ gt_tbl := gm (List.mem_of_getElem? (i := 106) rfl) rfl
abbrev b_X_erase : ByteArray := prog_1_method_3_code
def y_X_erase : MethodName := ⟨R_X, "erase", "()V"⟩
theorem k_X_erase : Cond.code y_X_erase b_X_erase 1 none ∈ gt_tbl := gm (List.mem_of_getElem? (i := 111) rfl) rfl
theorem in_X_erase : Cond.instanceMethod y_X_erase ∈ gt_tbl := gm (List.mem_of_getElem? (i := 109) rfl) rfl
theorem se_X_erase : Cond.selects R_X y_X_erase y_X_erase ∈ gt_tbl := gm (List.mem_of_getElem? (i := 110) rfl) rfl
abbrev b_X_keep : ByteArray := prog_1_method_5_code
def y_X_keep : MethodName := ⟨R_X, "keep", "(I)I"⟩
theorem k_X_keep : Cond.code y_X_keep b_X_keep 4 (some .int) ∈ gt_tbl := gm (List.mem_of_getElem? (i := 115) rfl) rfl
theorem in_X_keep : Cond.instanceMethod y_X_keep ∈ gt_tbl := gm (List.mem_of_getElem? (i := 113) rfl) rfl
theorem se_X_keep : Cond.selects R_X y_X_keep y_X_keep ∈ gt_tbl := gm (List.mem_of_getElem? (i := 114) rfl) rfl
abbrev b_X_hasAny : ByteArray := prog_1_method_4_code
def y_X_hasAny : MethodName := ⟨R_X, "hasAny", "()Z"⟩
theorem k_X_hasAny : Cond.code y_X_hasAny b_X_hasAny 2 (some .boolean) ∈ gt_tbl := gm (List.mem_of_getElem? (i := 119) rfl) rfl
theorem in_X_hasAny : Cond.instanceMethod y_X_hasAny ∈ gt_tbl := gm (List.mem_of_getElem? (i := 118) rfl) rfl
theorem se_X_hasAny : Cond.selects R_X y_X_hasAny y_X_hasAny ∈ gt_tbl := gm (List.mem_of_getElem? (i := 0) rfl) rfl
abbrev b_X_rule : ByteArray := prog_1_method_6_code
def y_X_rule : MethodName := ⟨R_X, "rule", "(IZZ)I"⟩
theorem k_X_rule : Cond.code y_X_rule b_X_rule 6 (some .int) ∈ gt_tbl := gm (List.mem_of_getElem? (i := 123) rfl) rfl
theorem in_X_rule : Cond.instanceMethod y_X_rule ∈ gt_tbl := gm (List.mem_of_getElem? (i := 121) rfl) rfl
theorem se_X_rule : Cond.selects R_X y_X_rule y_X_rule ∈ gt_tbl := gm (List.mem_of_getElem? (i := 122) rfl) rfl
abbrev b_X_stem : ByteArray := prog_1_method_7_code
def y_X_stem : MethodName := ⟨R_X, "stem", "(I)I"⟩
theorem k_X_stem : Cond.code y_X_stem b_X_stem 5 (some .int) ∈ gt_tbl := gm (List.mem_of_getElem? (i := 127) rfl) rfl
theorem in_X_stem : Cond.instanceMethod y_X_stem ∈ gt_tbl := gm (List.mem_of_getElem? (i := 125) rfl) rfl
theorem se_X_stem : Cond.selects R_X y_X_stem y_X_stem ∈ gt_tbl := gm (List.mem_of_getElem? (i := 126) rfl) rfl
abbrev b_X_childOf : ByteArray := prog_1_method_8_code
def y_X_childOf : MethodName := ⟨R_X, "childOf", "(II)I"⟩
theorem k_X_childOf : Cond.code y_X_childOf b_X_childOf 4 (some .int) ∈ gt_tbl := gm (List.mem_of_getElem? (i := 131) rfl) rfl
theorem in_X_childOf : Cond.instanceMethod y_X_childOf ∈ gt_tbl := gm (List.mem_of_getElem? (i := 130) rfl) rfl
theorem se_X_childOf : Cond.selects R_X y_X_childOf y_X_childOf ∈ gt_tbl := gm (List.mem_of_getElem? (i := 1) rfl) rfl
abbrev b_X_chain : ByteArray := prog_1_method_9_code
def y_X_chain : MethodName := ⟨R_X, "chain", "(II)V"⟩
theorem k_X_chain : Cond.code y_X_chain b_X_chain 5 none ∈ gt_tbl := gm (List.mem_of_getElem? (i := 135) rfl) rfl
theorem in_X_chain : Cond.instanceMethod y_X_chain ∈ gt_tbl := gm (List.mem_of_getElem? (i := 134) rfl) rfl
theorem se_X_chain : Cond.selects R_X y_X_chain y_X_chain ∈ gt_tbl := gm (List.mem_of_getElem? (i := 2) rfl) rfl
abbrev b_X_reflag : ByteArray := prog_1_method_10_code
def y_X_reflag : MethodName := ⟨R_X, "reflag", "(II)I"⟩
theorem k_X_reflag : Cond.code y_X_reflag b_X_reflag 4 (some .int) ∈ gt_tbl := gm (List.mem_of_getElem? (i := 139) rfl) rfl
theorem in_X_reflag : Cond.instanceMethod y_X_reflag ∈ gt_tbl := gm (List.mem_of_getElem? (i := 137) rfl) rfl
theorem se_X_reflag : Cond.selects R_X y_X_reflag y_X_reflag ∈ gt_tbl := gm (List.mem_of_getElem? (i := 138) rfl) rfl
abbrev b_X_length : ByteArray := prog_1_method_20_code
def y_X_length : MethodName := ⟨R_X, "length", "()I"⟩
theorem k_X_length : Cond.code y_X_length b_X_length 1 (some .int) ∈ gt_tbl := gm (List.mem_of_getElem? (i := 143) rfl) rfl
theorem in_X_length : Cond.instanceMethod y_X_length ∈ gt_tbl := gm (List.mem_of_getElem? (i := 141) rfl) rfl
theorem se_X_length : Cond.selects R_X y_X_length y_X_length ∈ gt_tbl := gm (List.mem_of_getElem? (i := 142) rfl) rfl
abbrev b_X_derivations : ByteArray := prog_1_method_21_code
def y_X_derivations : MethodName := ⟨R_X, "derivations", "()I"⟩
theorem k_X_derivations : Cond.code y_X_derivations b_X_derivations 1 (some .int) ∈ gt_tbl := gm (List.mem_of_getElem? (i := 147) rfl) rfl
theorem in_X_derivations : Cond.instanceMethod y_X_derivations ∈ gt_tbl := gm (List.mem_of_getElem? (i := 145) rfl) rfl
theorem se_X_derivations : Cond.selects R_X y_X_derivations y_X_derivations ∈ gt_tbl := gm (List.mem_of_getElem? (i := 146) rfl) rfl
abbrev b_X_searchTyped : ByteArray := prog_1_method_19_code
def y_X_searchTyped : MethodName := ⟨R_X, "searchTyped", "()V"⟩
theorem k_X_searchTyped : Cond.code y_X_searchTyped b_X_searchTyped 3 none ∈ gt_tbl := gm (List.mem_of_getElem? (i := 151) rfl) rfl
theorem in_X_searchTyped : Cond.instanceMethod y_X_searchTyped ∈ gt_tbl := gm (List.mem_of_getElem? (i := 150) rfl) rfl
theorem se_X_searchTyped : Cond.selects R_X y_X_searchTyped y_X_searchTyped ∈ gt_tbl := gm (List.mem_of_getElem? (i := 3) rfl) rfl
abbrev b_X_search : ByteArray := prog_1_method_14_code
def y_X_search : MethodName := ⟨R_X, "search", "()V"⟩
theorem k_X_search : Cond.code y_X_search b_X_search 3 none ∈ gt_tbl := gm (List.mem_of_getElem? (i := 155) rfl) rfl
theorem in_X_search : Cond.instanceMethod y_X_search ∈ gt_tbl := gm (List.mem_of_getElem? (i := 154) rfl) rfl
theorem se_X_search : Cond.selects R_X y_X_search y_X_search ∈ gt_tbl := gm (List.mem_of_getElem? (i := 4) rfl) rfl
abbrev b_X_searchSuffixes : ByteArray := prog_1_method_15_code
def y_X_searchSuffixes : MethodName := ⟨R_X, "searchSuffixes", "(I)V"⟩
theorem k_X_searchSuffixes : Cond.code y_X_searchSuffixes b_X_searchSuffixes 4 none ∈ gt_tbl := gm (List.mem_of_getElem? (i := 159) rfl) rfl
theorem in_X_searchSuffixes : Cond.instanceMethod y_X_searchSuffixes ∈ gt_tbl := gm (List.mem_of_getElem? (i := 158) rfl) rfl
theorem se_X_searchSuffixes : Cond.selects R_X y_X_searchSuffixes y_X_searchSuffixes ∈ gt_tbl := gm (List.mem_of_getElem? (i := 5) rfl) rfl
abbrev b_X_takeStems : ByteArray := prog_1_method_17_code
def y_X_takeStems : MethodName := ⟨R_X, "takeStems", "(II)V"⟩
theorem k_X_takeStems : Cond.code y_X_takeStems b_X_takeStems 7 none ∈ gt_tbl := gm (List.mem_of_getElem? (i := 163) rfl) rfl
theorem in_X_takeStems : Cond.instanceMethod y_X_takeStems ∈ gt_tbl := gm (List.mem_of_getElem? (i := 162) rfl) rfl
theorem se_X_takeStems : Cond.selects R_X y_X_takeStems y_X_takeStems ∈ gt_tbl := gm (List.mem_of_getElem? (i := 6) rfl) rfl
abbrev b_X_findCore : ByteArray := prog_1_method_13_code
def y_X_findCore : MethodName := ⟨R_X, "findCore", "()I"⟩
theorem k_X_findCore : Cond.code y_X_findCore b_X_findCore 3 (some .int) ∈ gt_tbl := gm (List.mem_of_getElem? (i := 167) rfl) rfl
theorem in_X_findCore : Cond.instanceMethod y_X_findCore ∈ gt_tbl := gm (List.mem_of_getElem? (i := 166) rfl) rfl
theorem se_X_findCore : Cond.selects R_X y_X_findCore y_X_findCore ∈ gt_tbl := gm (List.mem_of_getElem? (i := 7) rfl) rfl
abbrev b_X_allows : ByteArray := prog_1_method_16_code
def y_X_allows : MethodName := ⟨R_X, "allows", "(II)Z"⟩
theorem k_X_allows : Cond.code y_X_allows b_X_allows 3 (some .boolean) ∈ gt_tbl := gm (List.mem_of_getElem? (i := 171) rfl) rfl
theorem in_X_allows : Cond.instanceMethod y_X_allows ∈ gt_tbl := gm (List.mem_of_getElem? (i := 170) rfl) rfl
theorem se_X_allows : Cond.selects R_X y_X_allows y_X_allows ∈ gt_tbl := gm (List.mem_of_getElem? (i := 8) rfl) rfl
abbrev b_X_addFound : ByteArray := prog_1_method_18_code
def y_X_addFound : MethodName := ⟨R_X, "addFound", "(I)V"⟩
theorem k_X_addFound : Cond.code y_X_addFound b_X_addFound 3 none ∈ gt_tbl := gm (List.mem_of_getElem? (i := 175) rfl) rfl
theorem in_X_addFound : Cond.instanceMethod y_X_addFound ∈ gt_tbl := gm (List.mem_of_getElem? (i := 174) rfl) rfl
theorem se_X_addFound : Cond.selects R_X y_X_addFound y_X_addFound ∈ gt_tbl := gm (List.mem_of_getElem? (i := 9) rfl) rfl
abbrev b_X_undoSuffix : ByteArray := prog_1_method_12_code
def y_X_undoSuffix : MethodName := ⟨R_X, "undoSuffix", "(I)Z"⟩
theorem k_X_undoSuffix : Cond.code y_X_undoSuffix b_X_undoSuffix 8 (some .boolean) ∈ gt_tbl := gm (List.mem_of_getElem? (i := 179) rfl) rfl
theorem in_X_undoSuffix : Cond.instanceMethod y_X_undoSuffix ∈ gt_tbl := gm (List.mem_of_getElem? (i := 178) rfl) rfl
theorem se_X_undoSuffix : Cond.selects R_X y_X_undoSuffix y_X_undoSuffix ∈ gt_tbl := gm (List.mem_of_getElem? (i := 10) rfl) rfl
abbrev b_X_undoPrefix : ByteArray := prog_1_method_11_code
def y_X_undoPrefix : MethodName := ⟨R_X, "undoPrefix", "(I)Z"⟩
theorem k_X_undoPrefix : Cond.code y_X_undoPrefix b_X_undoPrefix 7 (some .boolean) ∈ gt_tbl := gm (List.mem_of_getElem? (i := 183) rfl) rfl
theorem in_X_undoPrefix : Cond.instanceMethod y_X_undoPrefix ∈ gt_tbl := gm (List.mem_of_getElem? (i := 182) rfl) rfl
theorem se_X_undoPrefix : Cond.selects R_X y_X_undoPrefix y_X_undoPrefix ∈ gt_tbl := gm (List.mem_of_getElem? (i := 11) rfl) rfl
abbrev b_X_stemOf : ByteArray := prog_1_method_22_code
def y_X_stemOf : MethodName := ⟨R_X, "stemOf", "(I)I"⟩
theorem k_X_stemOf : Cond.code y_X_stemOf b_X_stemOf 2 (some .int) ∈ gt_tbl := gm (List.mem_of_getElem? (i := 187) rfl) rfl
theorem in_X_stemOf : Cond.instanceMethod y_X_stemOf ∈ gt_tbl := gm (List.mem_of_getElem? (i := 185) rfl) rfl
theorem se_X_stemOf : Cond.selects R_X y_X_stemOf y_X_stemOf ∈ gt_tbl := gm (List.mem_of_getElem? (i := 186) rfl) rfl
abbrev b_X_suffixOf : ByteArray := prog_1_method_23_code
def y_X_suffixOf : MethodName := ⟨R_X, "suffixOf", "(I)I"⟩
theorem k_X_suffixOf : Cond.code y_X_suffixOf b_X_suffixOf 3 (some .int) ∈ gt_tbl := gm (List.mem_of_getElem? (i := 191) rfl) rfl
theorem in_X_suffixOf : Cond.instanceMethod y_X_suffixOf ∈ gt_tbl := gm (List.mem_of_getElem? (i := 189) rfl) rfl
theorem se_X_suffixOf : Cond.selects R_X y_X_suffixOf y_X_suffixOf ∈ gt_tbl := gm (List.mem_of_getElem? (i := 190) rfl) rfl
abbrev b_X_prefixOf : ByteArray := prog_1_method_24_code
def y_X_prefixOf : MethodName := ⟨R_X, "prefixOf", "(I)I"⟩
theorem k_X_prefixOf : Cond.code y_X_prefixOf b_X_prefixOf 3 (some .int) ∈ gt_tbl := gm (List.mem_of_getElem? (i := 195) rfl) rfl
theorem in_X_prefixOf : Cond.instanceMethod y_X_prefixOf ∈ gt_tbl := gm (List.mem_of_getElem? (i := 193) rfl) rfl
theorem se_X_prefixOf : Cond.selects R_X y_X_prefixOf y_X_prefixOf ∈ gt_tbl := gm (List.mem_of_getElem? (i := 194) rfl) rfl
abbrev b_X_continuations : ByteArray := prog_1_method_25_code
def y_X_continuations : MethodName := ⟨R_X, "continuations", "()I"⟩
theorem k_X_continuations : Cond.code y_X_continuations b_X_continuations 5 (some .int) ∈ gt_tbl := gm (List.mem_of_getElem? (i := 199) rfl) rfl
theorem in_X_continuations : Cond.instanceMethod y_X_continuations ∈ gt_tbl := gm (List.mem_of_getElem? (i := 197) rfl) rfl
theorem se_X_continuations : Cond.selects R_X y_X_continuations y_X_continuations ∈ gt_tbl := gm (List.mem_of_getElem? (i := 198) rfl) rfl
abbrev b_M_init : ByteArray := prog_3_method_1_code
def y_M_init : MethodName := ⟨R_M, "<init>", "()V"⟩
theorem k_M_init : Cond.code y_M_init b_M_init 1 none ∈ gt_tbl := gm (List.mem_of_getElem? (i := 204) rfl) rfl
theorem in_M_init : Cond.instanceMethod y_M_init ∈ gt_tbl := gm (List.mem_of_getElem? (i := 203) rfl) rfl
abbrev b_M_type : ByteArray := prog_3_method_2_code
def y_M_type : MethodName := ⟨R_M, "type", "(I)I"⟩
theorem k_M_type : Cond.code y_M_type b_M_type 2 (some .int) ∈ gt_tbl := gm (List.mem_of_getElem? (i := 267) rfl) rfl
theorem in_M_type : Cond.instanceMethod y_M_type ∈ gt_tbl := gm (List.mem_of_getElem? (i := 265) rfl) rfl
theorem se_M_type : Cond.selects R_M y_M_type y_M_type ∈ gt_tbl := gm (List.mem_of_getElem? (i := 266) rfl) rfl
abbrev b_M_erase : ByteArray := prog_3_method_3_code
def y_M_erase : MethodName := ⟨R_M, "erase", "()V"⟩
theorem k_M_erase : Cond.code y_M_erase b_M_erase 1 none ∈ gt_tbl := gm (List.mem_of_getElem? (i := 271) rfl) rfl
theorem in_M_erase : Cond.instanceMethod y_M_erase ∈ gt_tbl := gm (List.mem_of_getElem? (i := 269) rfl) rfl
theorem se_M_erase : Cond.selects R_M y_M_erase y_M_erase ∈ gt_tbl := gm (List.mem_of_getElem? (i := 270) rfl) rfl
abbrev b_M_keep : ByteArray := prog_3_method_5_code
def y_M_keep : MethodName := ⟨R_M, "keep", "(I)I"⟩
theorem k_M_keep : Cond.code y_M_keep b_M_keep 3 (some .int) ∈ gt_tbl := gm (List.mem_of_getElem? (i := 275) rfl) rfl
theorem in_M_keep : Cond.instanceMethod y_M_keep ∈ gt_tbl := gm (List.mem_of_getElem? (i := 273) rfl) rfl
theorem se_M_keep : Cond.selects R_M y_M_keep y_M_keep ∈ gt_tbl := gm (List.mem_of_getElem? (i := 274) rfl) rfl
abbrev b_M_nine : ByteArray := prog_3_method_4_code
def y_M_nine : MethodName := ⟨R_M, "nine", "()Z"⟩
theorem k_M_nine : Cond.code y_M_nine b_M_nine 2 (some .boolean) ∈ gt_tbl := gm (List.mem_of_getElem? (i := 279) rfl) rfl
theorem in_M_nine : Cond.instanceMethod y_M_nine ∈ gt_tbl := gm (List.mem_of_getElem? (i := 278) rfl) rfl
theorem se_M_nine : Cond.selects R_M y_M_nine y_M_nine ∈ gt_tbl := gm (List.mem_of_getElem? (i := 12) rfl) rfl
abbrev b_M_rule : ByteArray := prog_3_method_6_code
def y_M_rule : MethodName := ⟨R_M, "rule", "(IZZ)I"⟩
theorem k_M_rule : Cond.code y_M_rule b_M_rule 5 (some .int) ∈ gt_tbl := gm (List.mem_of_getElem? (i := 283) rfl) rfl
theorem in_M_rule : Cond.instanceMethod y_M_rule ∈ gt_tbl := gm (List.mem_of_getElem? (i := 281) rfl) rfl
theorem se_M_rule : Cond.selects R_M y_M_rule y_M_rule ∈ gt_tbl := gm (List.mem_of_getElem? (i := 282) rfl) rfl
abbrev b_M_stem : ByteArray := prog_3_method_7_code
def y_M_stem : MethodName := ⟨R_M, "stem", "(I)I"⟩
theorem k_M_stem : Cond.code y_M_stem b_M_stem 3 (some .int) ∈ gt_tbl := gm (List.mem_of_getElem? (i := 287) rfl) rfl
theorem in_M_stem : Cond.instanceMethod y_M_stem ∈ gt_tbl := gm (List.mem_of_getElem? (i := 285) rfl) rfl
theorem se_M_stem : Cond.selects R_M y_M_stem y_M_stem ∈ gt_tbl := gm (List.mem_of_getElem? (i := 286) rfl) rfl
abbrev b_M_reflag : ByteArray := prog_3_method_8_code
def y_M_reflag : MethodName := ⟨R_M, "reflag", "(II)I"⟩
theorem k_M_reflag : Cond.code y_M_reflag b_M_reflag 4 (some .int) ∈ gt_tbl := gm (List.mem_of_getElem? (i := 291) rfl) rfl
theorem in_M_reflag : Cond.instanceMethod y_M_reflag ∈ gt_tbl := gm (List.mem_of_getElem? (i := 289) rfl) rfl
theorem se_M_reflag : Cond.selects R_M y_M_reflag y_M_reflag ∈ gt_tbl := gm (List.mem_of_getElem? (i := 290) rfl) rfl
abbrev b_M_length : ByteArray := prog_3_method_14_code
def y_M_length : MethodName := ⟨R_M, "length", "()I"⟩
theorem k_M_length : Cond.code y_M_length b_M_length 1 (some .int) ∈ gt_tbl := gm (List.mem_of_getElem? (i := 295) rfl) rfl
theorem in_M_length : Cond.instanceMethod y_M_length ∈ gt_tbl := gm (List.mem_of_getElem? (i := 293) rfl) rfl
theorem se_M_length : Cond.selects R_M y_M_length y_M_length ∈ gt_tbl := gm (List.mem_of_getElem? (i := 294) rfl) rfl
abbrev b_M_derivations : ByteArray := prog_3_method_15_code
def y_M_derivations : MethodName := ⟨R_M, "derivations", "()I"⟩
theorem k_M_derivations : Cond.code y_M_derivations b_M_derivations 4 (some .int) ∈ gt_tbl := gm (List.mem_of_getElem? (i := 299) rfl) rfl
theorem in_M_derivations : Cond.instanceMethod y_M_derivations ∈ gt_tbl := gm (List.mem_of_getElem? (i := 297) rfl) rfl
theorem se_M_derivations : Cond.selects R_M y_M_derivations y_M_derivations ∈ gt_tbl := gm (List.mem_of_getElem? (i := 298) rfl) rfl
abbrev b_M_ofStem : ByteArray := prog_3_method_12_code
def y_M_ofStem : MethodName := ⟨R_M, "ofStem", "(II)I"⟩
theorem k_M_ofStem : Cond.code y_M_ofStem b_M_ofStem 6 (some .int) ∈ gt_tbl := gm (List.mem_of_getElem? (i := 303) rfl) rfl
theorem in_M_ofStem : Cond.instanceMethod y_M_ofStem ∈ gt_tbl := gm (List.mem_of_getElem? (i := 302) rfl) rfl
theorem se_M_ofStem : Cond.selects R_M y_M_ofStem y_M_ofStem ∈ gt_tbl := gm (List.mem_of_getElem? (i := 13) rfl) rfl
abbrev b_M_gives : ByteArray := prog_3_method_11_code
def y_M_gives : MethodName := ⟨R_M, "gives", "(III)Z"⟩
theorem k_M_gives : Cond.code y_M_gives b_M_gives 7 (some .boolean) ∈ gt_tbl := gm (List.mem_of_getElem? (i := 307) rfl) rfl
theorem in_M_gives : Cond.instanceMethod y_M_gives ∈ gt_tbl := gm (List.mem_of_getElem? (i := 306) rfl) rfl
theorem se_M_gives : Cond.selects R_M y_M_gives y_M_gives ∈ gt_tbl := gm (List.mem_of_getElem? (i := 14) rfl) rfl
abbrev b_M_apply : ByteArray := prog_3_method_10_code
def y_M_apply : MethodName := ⟨R_M, "apply", "(I)Z"⟩
theorem k_M_apply : Cond.code y_M_apply b_M_apply 7 (some .boolean) ∈ gt_tbl := gm (List.mem_of_getElem? (i := 311) rfl) rfl
theorem in_M_apply : Cond.instanceMethod y_M_apply ∈ gt_tbl := gm (List.mem_of_getElem? (i := 310) rfl) rfl
theorem se_M_apply : Cond.selects R_M y_M_apply y_M_apply ∈ gt_tbl := gm (List.mem_of_getElem? (i := 15) rfl) rfl
abbrev b_M_stands : ByteArray := prog_3_method_9_code
def y_M_stands : MethodName := ⟨R_M, "stands", "(IIZ)Z"⟩
theorem k_M_stands : Cond.code y_M_stands b_M_stands 8 (some .boolean) ∈ gt_tbl := gm (List.mem_of_getElem? (i := 315) rfl) rfl
theorem in_M_stands : Cond.instanceMethod y_M_stands ∈ gt_tbl := gm (List.mem_of_getElem? (i := 314) rfl) rfl
theorem se_M_stands : Cond.selects R_M y_M_stands y_M_stands ∈ gt_tbl := gm (List.mem_of_getElem? (i := 16) rfl) rfl
abbrev b_M_stemOf : ByteArray := prog_3_method_16_code
def y_M_stemOf : MethodName := ⟨R_M, "stemOf", "(I)I"⟩
theorem k_M_stemOf : Cond.code y_M_stemOf b_M_stemOf 2 (some .int) ∈ gt_tbl := gm (List.mem_of_getElem? (i := 319) rfl) rfl
theorem in_M_stemOf : Cond.instanceMethod y_M_stemOf ∈ gt_tbl := gm (List.mem_of_getElem? (i := 317) rfl) rfl
theorem se_M_stemOf : Cond.selects R_M y_M_stemOf y_M_stemOf ∈ gt_tbl := gm (List.mem_of_getElem? (i := 318) rfl) rfl
abbrev b_M_find : ByteArray := prog_3_method_13_code
def y_M_find : MethodName := ⟨R_M, "find", "(I)I"⟩
theorem k_M_find : Cond.code y_M_find b_M_find 5 (some .int) ∈ gt_tbl := gm (List.mem_of_getElem? (i := 323) rfl) rfl
theorem in_M_find : Cond.instanceMethod y_M_find ∈ gt_tbl := gm (List.mem_of_getElem? (i := 322) rfl) rfl
theorem se_M_find : Cond.selects R_M y_M_find y_M_find ∈ gt_tbl := gm (List.mem_of_getElem? (i := 17) rfl) rfl
abbrev b_M_suffixOf : ByteArray := prog_3_method_17_code
def y_M_suffixOf : MethodName := ⟨R_M, "suffixOf", "(I)I"⟩
theorem k_M_suffixOf : Cond.code y_M_suffixOf b_M_suffixOf 2 (some .int) ∈ gt_tbl := gm (List.mem_of_getElem? (i := 327) rfl) rfl
theorem in_M_suffixOf : Cond.instanceMethod y_M_suffixOf ∈ gt_tbl := gm (List.mem_of_getElem? (i := 325) rfl) rfl
theorem se_M_suffixOf : Cond.selects R_M y_M_suffixOf y_M_suffixOf ∈ gt_tbl := gm (List.mem_of_getElem? (i := 326) rfl) rfl
abbrev b_M_prefixOf : ByteArray := prog_3_method_18_code
def y_M_prefixOf : MethodName := ⟨R_M, "prefixOf", "(I)I"⟩
theorem k_M_prefixOf : Cond.code y_M_prefixOf b_M_prefixOf 2 (some .int) ∈ gt_tbl := gm (List.mem_of_getElem? (i := 331) rfl) rfl
theorem in_M_prefixOf : Cond.instanceMethod y_M_prefixOf ∈ gt_tbl := gm (List.mem_of_getElem? (i := 329) rfl) rfl
theorem se_M_prefixOf : Cond.selects R_M y_M_prefixOf y_M_prefixOf ∈ gt_tbl := gm (List.mem_of_getElem? (i := 330) rfl) rfl
abbrev b_M_continuations : ByteArray := prog_3_method_19_code
def y_M_continuations : MethodName := ⟨R_M, "continuations", "()I"⟩
theorem k_M_continuations : Cond.code y_M_continuations b_M_continuations 3 (some .int) ∈ gt_tbl := gm (List.mem_of_getElem? (i := 335) rfl) rfl
theorem in_M_continuations : Cond.instanceMethod y_M_continuations ∈ gt_tbl := gm (List.mem_of_getElem? (i := 333) rfl) rfl
theorem se_M_continuations : Cond.selects R_M y_M_continuations y_M_continuations ∈ gt_tbl := gm (List.mem_of_getElem? (i := 334) rfl) rfl
theorem ml_law_9 : Cond.methodLink R_law 9 y_X_init ∈ gt_tbl := gm (List.mem_of_getElem? (i := 23) rfl) rfl
theorem ml_law_13 : Cond.methodLink R_law 13 y_X_type ∈ gt_tbl := gm (List.mem_of_getElem? (i := 104) rfl) rfl
theorem ml_law_18 : Cond.methodLink R_law 18 y_X_erase ∈ gt_tbl := gm (List.mem_of_getElem? (i := 108) rfl) rfl
theorem ml_law_22 : Cond.methodLink R_law 22 y_X_keep ∈ gt_tbl := gm (List.mem_of_getElem? (i := 112) rfl) rfl
theorem ml_X_66 : Cond.methodLink R_X 66 y_X_hasAny ∈ gt_tbl := gm (List.mem_of_getElem? (i := 116) rfl) rfl
theorem ml_law_26 : Cond.methodLink R_law 26 y_X_rule ∈ gt_tbl := gm (List.mem_of_getElem? (i := 120) rfl) rfl
theorem ml_law_31 : Cond.methodLink R_law 31 y_X_stem ∈ gt_tbl := gm (List.mem_of_getElem? (i := 124) rfl) rfl
theorem ml_X_76 : Cond.methodLink R_X 76 y_X_childOf ∈ gt_tbl := gm (List.mem_of_getElem? (i := 128) rfl) rfl
theorem ml_X_80 : Cond.methodLink R_X 80 y_X_chain ∈ gt_tbl := gm (List.mem_of_getElem? (i := 132) rfl) rfl
theorem ml_law_35 : Cond.methodLink R_law 35 y_X_reflag ∈ gt_tbl := gm (List.mem_of_getElem? (i := 136) rfl) rfl
theorem ml_law_40 : Cond.methodLink R_law 40 y_X_length ∈ gt_tbl := gm (List.mem_of_getElem? (i := 140) rfl) rfl
theorem ml_law_45 : Cond.methodLink R_law 45 y_X_derivations ∈ gt_tbl := gm (List.mem_of_getElem? (i := 144) rfl) rfl
theorem ml_X_124 : Cond.methodLink R_X 124 y_X_searchTyped ∈ gt_tbl := gm (List.mem_of_getElem? (i := 148) rfl) rfl
theorem ml_X_121 : Cond.methodLink R_X 121 y_X_search ∈ gt_tbl := gm (List.mem_of_getElem? (i := 152) rfl) rfl
theorem ml_X_96 : Cond.methodLink R_X 96 y_X_searchSuffixes ∈ gt_tbl := gm (List.mem_of_getElem? (i := 156) rfl) rfl
theorem ml_X_104 : Cond.methodLink R_X 104 y_X_takeStems ∈ gt_tbl := gm (List.mem_of_getElem? (i := 160) rfl) rfl
theorem ml_X_110 : Cond.methodLink R_X 110 y_X_findCore ∈ gt_tbl := gm (List.mem_of_getElem? (i := 164) rfl) rfl
theorem ml_X_114 : Cond.methodLink R_X 114 y_X_allows ∈ gt_tbl := gm (List.mem_of_getElem? (i := 168) rfl) rfl
theorem ml_X_118 : Cond.methodLink R_X 118 y_X_addFound ∈ gt_tbl := gm (List.mem_of_getElem? (i := 172) rfl) rfl
theorem ml_X_107 : Cond.methodLink R_X 107 y_X_undoSuffix ∈ gt_tbl := gm (List.mem_of_getElem? (i := 176) rfl) rfl
theorem ml_X_100 : Cond.methodLink R_X 100 y_X_undoPrefix ∈ gt_tbl := gm (List.mem_of_getElem? (i := 180) rfl) rfl
theorem ml_law_49 : Cond.methodLink R_law 49 y_X_stemOf ∈ gt_tbl := gm (List.mem_of_getElem? (i := 184) rfl) rfl
theorem ml_law_53 : Cond.methodLink R_law 53 y_X_suffixOf ∈ gt_tbl := gm (List.mem_of_getElem? (i := 188) rfl) rfl
theorem ml_law_57 : Cond.methodLink R_law 57 y_X_prefixOf ∈ gt_tbl := gm (List.mem_of_getElem? (i := 192) rfl) rfl
theorem ml_law_61 : Cond.methodLink R_law 61 y_X_continuations ∈ gt_tbl := gm (List.mem_of_getElem? (i := 196) rfl) rfl
theorem ml_law_12 : Cond.methodLink R_law 12 y_M_init ∈ gt_tbl := gm (List.mem_of_getElem? (i := 202) rfl) rfl
theorem ml_law_17 : Cond.methodLink R_law 17 y_M_type ∈ gt_tbl := gm (List.mem_of_getElem? (i := 264) rfl) rfl
theorem ml_law_21 : Cond.methodLink R_law 21 y_M_erase ∈ gt_tbl := gm (List.mem_of_getElem? (i := 268) rfl) rfl
theorem ml_law_25 : Cond.methodLink R_law 25 y_M_keep ∈ gt_tbl := gm (List.mem_of_getElem? (i := 272) rfl) rfl
theorem ml_M_54 : Cond.methodLink R_M 54 y_M_nine ∈ gt_tbl := gm (List.mem_of_getElem? (i := 276) rfl) rfl
theorem ml_law_30 : Cond.methodLink R_law 30 y_M_rule ∈ gt_tbl := gm (List.mem_of_getElem? (i := 280) rfl) rfl
theorem ml_law_34 : Cond.methodLink R_law 34 y_M_stem ∈ gt_tbl := gm (List.mem_of_getElem? (i := 284) rfl) rfl
theorem ml_law_39 : Cond.methodLink R_law 39 y_M_reflag ∈ gt_tbl := gm (List.mem_of_getElem? (i := 288) rfl) rfl
theorem ml_law_44 : Cond.methodLink R_law 44 y_M_length ∈ gt_tbl := gm (List.mem_of_getElem? (i := 292) rfl) rfl
theorem ml_law_48 : Cond.methodLink R_law 48 y_M_derivations ∈ gt_tbl := gm (List.mem_of_getElem? (i := 296) rfl) rfl
theorem ml_M_85 : Cond.methodLink R_M 85 y_M_ofStem ∈ gt_tbl := gm (List.mem_of_getElem? (i := 300) rfl) rfl
theorem ml_M_75 : Cond.methodLink R_M 75 y_M_gives ∈ gt_tbl := gm (List.mem_of_getElem? (i := 304) rfl) rfl
theorem ml_M_71 : Cond.methodLink R_M 71 y_M_apply ∈ gt_tbl := gm (List.mem_of_getElem? (i := 308) rfl) rfl
theorem ml_M_67 : Cond.methodLink R_M 67 y_M_stands ∈ gt_tbl := gm (List.mem_of_getElem? (i := 312) rfl) rfl
theorem ml_law_52 : Cond.methodLink R_law 52 y_M_stemOf ∈ gt_tbl := gm (List.mem_of_getElem? (i := 316) rfl) rfl
theorem ml_M_89 : Cond.methodLink R_M 89 y_M_find ∈ gt_tbl := gm (List.mem_of_getElem? (i := 320) rfl) rfl
theorem ml_law_56 : Cond.methodLink R_law 56 y_M_suffixOf ∈ gt_tbl := gm (List.mem_of_getElem? (i := 324) rfl) rfl
theorem ml_law_60 : Cond.methodLink R_law 60 y_M_prefixOf ∈ gt_tbl := gm (List.mem_of_getElem? (i := 328) rfl) rfl
theorem ml_law_64 : Cond.methodLink R_law 64 y_M_continuations ∈ gt_tbl := gm (List.mem_of_getElem? (i := 332) rfl) rfl
theorem ml_M_93 : Cond.methodLink R_M 93 y_M_derivations ∈ gt_tbl := gm (List.mem_of_getElem? (i := 336) rfl) rfl
theorem ini_X : Cond.initialized R_X ∈ gt_tbl := gm (List.mem_of_getElem? (i := 19) rfl) rfl
theorem mlo_X : Cond.methodLink R_X 1 objectInit ∈ gt_tbl := gm (List.mem_of_getElem? (i := 26) rfl) rfl
theorem inst_X : Cond.instantiable R_X 24 ∈ gt_tbl := gm (List.mem_of_getElem? (i := 22) rfl) rfl
theorem cl_X : Cond.classLink R_law 7 R_X ∈ gt_tbl := gm (List.mem_of_getElem? (i := 21) rfl) rfl
theorem ini_M : Cond.initialized R_M ∈ gt_tbl := gm (List.mem_of_getElem? (i := 20) rfl) rfl
theorem mlo_M : Cond.methodLink R_M 1 objectInit ∈ gt_tbl := gm (List.mem_of_getElem? (i := 205) rfl) rfl
theorem inst_M : Cond.instantiable R_M 19 ∈ gt_tbl := gm (List.mem_of_getElem? (i := 201) rfl) rfl
theorem cl_M : Cond.classLink R_law 10 R_M ∈ gt_tbl := gm (List.mem_of_getElem? (i := 200) rfl) rfl
theorem ino : Cond.instanceMethod objectInit ∈ gt_tbl := gm (List.mem_of_getElem? (i := 27) rfl) rfl
theorem coo : Cond.code objectInit ⟨#[0xb1]⟩ 1 none ∈ gt_tbl := gm (List.mem_of_getElem? (i := 28) rfl) rfl
theorem arr_i : Cond.arrayClass .int ∈ gt_tbl := gm (List.mem_of_getElem? (i := 102) rfl) rfl
theorem arr_z : Cond.arrayClass .boolean ∈ gt_tbl := gm (List.mem_of_getElem? (i := 103) rfl) rfl
end
section
/-! decode rows, printed by tools/names.py -/
theorem d_X_init_0 : decode b_X_init 0 = .ok (.aload_n 0, 1) := by decide +kernel
theorem d_X_init_1 : decode b_X_init 1 = .ok (.invokespecial 1, 3) := by decide +kernel
theorem d_X_init_4 : decode b_X_init 4 = .ok (.aload_n 0, 1) := by decide +kernel
theorem d_X_init_5 : decode b_X_init 5 = .ok (.bipush 12, 2) := by decide +kernel
theorem d_X_init_7 : decode b_X_init 7 = .ok (.newarray .int, 2) := by decide +kernel
theorem d_X_init_9 : decode b_X_init 9 = .ok (.putfield 7, 3) := by decide +kernel
theorem d_X_init_12 : decode b_X_init 12 = .ok (.aload_n 0, 1) := by decide +kernel
theorem d_X_init_13 : decode b_X_init 13 = .ok (.iconst 3, 1) := by decide +kernel
theorem d_X_init_14 : decode b_X_init 14 = .ok (.newarray .int, 2) := by decide +kernel
theorem d_X_init_16 : decode b_X_init 16 = .ok (.putfield 13, 3) := by decide +kernel
theorem d_X_init_19 : decode b_X_init 19 = .ok (.aload_n 0, 1) := by decide +kernel
theorem d_X_init_20 : decode b_X_init 20 = .ok (.bipush 9, 2) := by decide +kernel
theorem d_X_init_22 : decode b_X_init 22 = .ok (.newarray .int, 2) := by decide +kernel
theorem d_X_init_24 : decode b_X_init 24 = .ok (.putfield 16, 3) := by decide +kernel
theorem d_X_init_27 : decode b_X_init 27 = .ok (.aload_n 0, 1) := by decide +kernel
theorem d_X_init_28 : decode b_X_init 28 = .ok (.bipush 10, 2) := by decide +kernel
theorem d_X_init_30 : decode b_X_init 30 = .ok (.newarray .int, 2) := by decide +kernel
theorem d_X_init_32 : decode b_X_init 32 = .ok (.putfield 19, 3) := by decide +kernel
theorem d_X_init_35 : decode b_X_init 35 = .ok (.aload_n 0, 1) := by decide +kernel
theorem d_X_init_36 : decode b_X_init 36 = .ok (.bipush 10, 2) := by decide +kernel
theorem d_X_init_38 : decode b_X_init 38 = .ok (.newarray .boolean, 2) := by decide +kernel
theorem d_X_init_40 : decode b_X_init 40 = .ok (.putfield 22, 3) := by decide +kernel
theorem d_X_init_43 : decode b_X_init 43 = .ok (.aload_n 0, 1) := by decide +kernel
theorem d_X_init_44 : decode b_X_init 44 = .ok (.bipush 10, 2) := by decide +kernel
theorem d_X_init_46 : decode b_X_init 46 = .ok (.newarray .boolean, 2) := by decide +kernel
theorem d_X_init_48 : decode b_X_init 48 = .ok (.putfield 26, 3) := by decide +kernel
theorem d_X_init_51 : decode b_X_init 51 = .ok (.aload_n 0, 1) := by decide +kernel
theorem d_X_init_52 : decode b_X_init 52 = .ok (.bipush 30, 2) := by decide +kernel
theorem d_X_init_54 : decode b_X_init 54 = .ok (.newarray .int, 2) := by decide +kernel
theorem d_X_init_56 : decode b_X_init 56 = .ok (.putfield 29, 3) := by decide +kernel
theorem d_X_init_59 : decode b_X_init 59 = .ok (.aload_n 0, 1) := by decide +kernel
theorem d_X_init_60 : decode b_X_init 60 = .ok (.bipush 90, 2) := by decide +kernel
theorem d_X_init_62 : decode b_X_init 62 = .ok (.newarray .int, 2) := by decide +kernel
theorem d_X_init_64 : decode b_X_init 64 = .ok (.putfield 32, 3) := by decide +kernel
theorem d_X_init_67 : decode b_X_init 67 = .ok (.aload_n 0, 1) := by decide +kernel
theorem d_X_init_68 : decode b_X_init 68 = .ok (.bipush 12, 2) := by decide +kernel
theorem d_X_init_70 : decode b_X_init 70 = .ok (.newarray .int, 2) := by decide +kernel
theorem d_X_init_72 : decode b_X_init 72 = .ok (.putfield 35, 3) := by decide +kernel
theorem d_X_init_75 : decode b_X_init 75 = .ok (.aload_n 0, 1) := by decide +kernel
theorem d_X_init_76 : decode b_X_init 76 = .ok (.sipush 1160, 3) := by decide +kernel
theorem d_X_init_79 : decode b_X_init 79 = .ok (.newarray .int, 2) := by decide +kernel
theorem d_X_init_81 : decode b_X_init 81 = .ok (.putfield 38, 3) := by decide +kernel
theorem d_X_init_84 : decode b_X_init 84 = .ok (.aload_n 0, 1) := by decide +kernel
theorem d_X_init_85 : decode b_X_init 85 = .ok (.sipush 145, 3) := by decide +kernel
theorem d_X_init_88 : decode b_X_init 88 = .ok (.newarray .int, 2) := by decide +kernel
theorem d_X_init_90 : decode b_X_init 90 = .ok (.putfield 41, 3) := by decide +kernel
theorem d_X_init_93 : decode b_X_init 93 = .ok (.aload_n 0, 1) := by decide +kernel
theorem d_X_init_94 : decode b_X_init 94 = .ok (.bipush 12, 2) := by decide +kernel
theorem d_X_init_96 : decode b_X_init 96 = .ok (.newarray .int, 2) := by decide +kernel
theorem d_X_init_98 : decode b_X_init 98 = .ok (.putfield 44, 3) := by decide +kernel
theorem d_X_init_101 : decode b_X_init 101 = .ok (.aload_n 0, 1) := by decide +kernel
theorem d_X_init_102 : decode b_X_init 102 = .ok (.bipush 13, 2) := by decide +kernel
theorem d_X_init_104 : decode b_X_init 104 = .ok (.newarray .int, 2) := by decide +kernel
theorem d_X_init_106 : decode b_X_init 106 = .ok (.putfield 47, 3) := by decide +kernel
theorem d_X_init_109 : decode b_X_init 109 = .ok (.aload_n 0, 1) := by decide +kernel
theorem d_X_init_110 : decode b_X_init 110 = .ok (.bipush 16, 2) := by decide +kernel
theorem d_X_init_112 : decode b_X_init 112 = .ok (.newarray .int, 2) := by decide +kernel
theorem d_X_init_114 : decode b_X_init 114 = .ok (.putfield 50, 3) := by decide +kernel
theorem d_X_init_117 : decode b_X_init 117 = .ok (.aload_n 0, 1) := by decide +kernel
theorem d_X_init_118 : decode b_X_init 118 = .ok (.bipush 20, 2) := by decide +kernel
theorem d_X_init_120 : decode b_X_init 120 = .ok (.newarray .int, 2) := by decide +kernel
theorem d_X_init_122 : decode b_X_init 122 = .ok (.putfield 53, 3) := by decide +kernel
theorem d_X_init_125 : decode b_X_init 125 = .ok (.aload_n 0, 1) := by decide +kernel
theorem d_X_init_126 : decode b_X_init 126 = .ok (.sipush 440, 3) := by decide +kernel
theorem d_X_init_129 : decode b_X_init 129 = .ok (.newarray .int, 2) := by decide +kernel
theorem d_X_init_131 : decode b_X_init 131 = .ok (.putfield 56, 3) := by decide +kernel
theorem d_X_init_134 : decode b_X_init 134 = .ok (.aload_n 0, 1) := by decide +kernel
theorem d_X_init_135 : decode b_X_init 135 = .ok (.iconst 1, 1) := by decide +kernel
theorem d_X_init_136 : decode b_X_init 136 = .ok (.putfield 59, 3) := by decide +kernel
theorem d_X_init_139 : decode b_X_init 139 = .ok (.aload_n 0, 1) := by decide +kernel
theorem d_X_init_140 : decode b_X_init 140 = .ok (.getfield 41, 3) := by decide +kernel
theorem d_X_init_143 : decode b_X_init 143 = .ok (.iconst 0, 1) := by decide +kernel
theorem d_X_init_144 : decode b_X_init 144 = .ok (.iconst (-1), 1) := by decide +kernel
theorem d_X_init_145 : decode b_X_init 145 = .ok (.iastore, 1) := by decide +kernel
theorem d_X_init_146 : decode b_X_init 146 = .ok (.return_, 1) := by decide +kernel
theorem d_X_type_0 : decode b_X_type 0 = .ok (.iload_n 1, 1) := by decide +kernel
theorem d_X_type_1 : decode b_X_type 1 = .ok (.iconst 1, 1) := by decide +kernel
theorem d_X_type_2 : decode b_X_type 2 = .ok (.if_icmp .lt 9, 3) := by decide +kernel
theorem d_X_type_5 : decode b_X_type 5 = .ok (.iload_n 1, 1) := by decide +kernel
theorem d_X_type_6 : decode b_X_type 6 = .ok (.bipush 9, 2) := by decide +kernel
theorem d_X_type_8 : decode b_X_type 8 = .ok (.if_icmp .le 5, 3) := by decide +kernel
theorem d_X_type_11 : decode b_X_type 11 = .ok (.iconst (-1), 1) := by decide +kernel
theorem d_X_type_12 : decode b_X_type 12 = .ok (.ireturn, 1) := by decide +kernel
theorem d_X_type_13 : decode b_X_type 13 = .ok (.aload_n 0, 1) := by decide +kernel
theorem d_X_type_14 : decode b_X_type 14 = .ok (.getfield 63, 3) := by decide +kernel
theorem d_X_type_17 : decode b_X_type 17 = .ok (.bipush 12, 2) := by decide +kernel
theorem d_X_type_19 : decode b_X_type 19 = .ok (.if_icmp .lt 6, 3) := by decide +kernel
theorem d_X_type_22 : decode b_X_type 22 = .ok (.bipush (-2), 2) := by decide +kernel
theorem d_X_type_24 : decode b_X_type 24 = .ok (.ireturn, 1) := by decide +kernel
theorem d_X_type_25 : decode b_X_type 25 = .ok (.aload_n 0, 1) := by decide +kernel
theorem d_X_type_26 : decode b_X_type 26 = .ok (.getfield 7, 3) := by decide +kernel
theorem d_X_type_29 : decode b_X_type 29 = .ok (.aload_n 0, 1) := by decide +kernel
theorem d_X_type_30 : decode b_X_type 30 = .ok (.getfield 63, 3) := by decide +kernel
theorem d_X_type_33 : decode b_X_type 33 = .ok (.iload_n 1, 1) := by decide +kernel
theorem d_X_type_34 : decode b_X_type 34 = .ok (.iastore, 1) := by decide +kernel
theorem d_X_type_35 : decode b_X_type 35 = .ok (.aload_n 0, 1) := by decide +kernel
theorem d_X_type_36 : decode b_X_type 36 = .ok (.dup, 1) := by decide +kernel
theorem d_X_type_37 : decode b_X_type 37 = .ok (.getfield 63, 3) := by decide +kernel
theorem d_X_type_40 : decode b_X_type 40 = .ok (.iconst 1, 1) := by decide +kernel
theorem d_X_type_41 : decode b_X_type 41 = .ok (.iadd, 1) := by decide +kernel
theorem d_X_type_42 : decode b_X_type 42 = .ok (.putfield 63, 3) := by decide +kernel
theorem d_X_type_45 : decode b_X_type 45 = .ok (.aload_n 0, 1) := by decide +kernel
theorem d_X_type_46 : decode b_X_type 46 = .ok (.getfield 63, 3) := by decide +kernel
theorem d_X_type_49 : decode b_X_type 49 = .ok (.ireturn, 1) := by decide +kernel
theorem d_X_erase_0 : decode b_X_erase 0 = .ok (.aload_n 0, 1) := by decide +kernel
theorem d_X_erase_1 : decode b_X_erase 1 = .ok (.iconst 0, 1) := by decide +kernel
theorem d_X_erase_2 : decode b_X_erase 2 = .ok (.putfield 63, 3) := by decide +kernel
theorem d_X_erase_5 : decode b_X_erase 5 = .ok (.return_, 1) := by decide +kernel
theorem d_X_hasAny_0 : decode b_X_hasAny 0 = .ok (.iconst 0, 1) := by decide +kernel
theorem d_X_hasAny_1 : decode b_X_hasAny 1 = .ok (.istore_n 1, 1) := by decide +kernel
theorem d_X_hasAny_2 : decode b_X_hasAny 2 = .ok (.iload_n 1, 1) := by decide +kernel
theorem d_X_hasAny_3 : decode b_X_hasAny 3 = .ok (.aload_n 0, 1) := by decide +kernel
theorem d_X_hasAny_4 : decode b_X_hasAny 4 = .ok (.getfield 63, 3) := by decide +kernel
theorem d_X_hasAny_7 : decode b_X_hasAny 7 = .ok (.if_icmp .ge 22, 3) := by decide +kernel
theorem d_X_hasAny_10 : decode b_X_hasAny 10 = .ok (.aload_n 0, 1) := by decide +kernel
theorem d_X_hasAny_11 : decode b_X_hasAny 11 = .ok (.getfield 7, 3) := by decide +kernel
theorem d_X_hasAny_14 : decode b_X_hasAny 14 = .ok (.iload_n 1, 1) := by decide +kernel
theorem d_X_hasAny_15 : decode b_X_hasAny 15 = .ok (.iaload, 1) := by decide +kernel
theorem d_X_hasAny_16 : decode b_X_hasAny 16 = .ok (.bipush 9, 2) := by decide +kernel
theorem d_X_hasAny_18 : decode b_X_hasAny 18 = .ok (.if_icmp .ne 5, 3) := by decide +kernel
theorem d_X_hasAny_21 : decode b_X_hasAny 21 = .ok (.iconst 1, 1) := by decide +kernel
theorem d_X_hasAny_22 : decode b_X_hasAny 22 = .ok (.ireturn, 1) := by decide +kernel
theorem d_X_hasAny_23 : decode b_X_hasAny 23 = .ok (.iinc 1 1, 3) := by decide +kernel
theorem d_X_hasAny_26 : decode b_X_hasAny 26 = .ok (.goto (-24), 3) := by decide +kernel
theorem d_X_hasAny_29 : decode b_X_hasAny 29 = .ok (.iconst 0, 1) := by decide +kernel
theorem d_X_hasAny_30 : decode b_X_hasAny 30 = .ok (.ireturn, 1) := by decide +kernel
theorem d_X_keep_0 : decode b_X_keep 0 = .ok (.iload_n 1, 1) := by decide +kernel
theorem d_X_keep_1 : decode b_X_keep 1 = .ok (.ifCond .lt 8, 3) := by decide +kernel
theorem d_X_keep_4 : decode b_X_keep 4 = .ok (.iload_n 1, 1) := by decide +kernel
theorem d_X_keep_5 : decode b_X_keep 5 = .ok (.iconst 2, 1) := by decide +kernel
theorem d_X_keep_6 : decode b_X_keep 6 = .ok (.if_icmp .le 6, 3) := by decide +kernel
theorem d_X_keep_9 : decode b_X_keep 9 = .ok (.bipush (-4), 2) := by decide +kernel
theorem d_X_keep_11 : decode b_X_keep 11 = .ok (.ireturn, 1) := by decide +kernel
theorem d_X_keep_12 : decode b_X_keep 12 = .ok (.aload_n 0, 1) := by decide +kernel
theorem d_X_keep_13 : decode b_X_keep 13 = .ok (.invokevirtual 66, 3) := by decide +kernel
theorem d_X_keep_16 : decode b_X_keep 16 = .ok (.istore_n 2, 1) := by decide +kernel
theorem d_X_keep_17 : decode b_X_keep 17 = .ok (.aload_n 0, 1) := by decide +kernel
theorem d_X_keep_18 : decode b_X_keep 18 = .ok (.getfield 63, 3) := by decide +kernel
theorem d_X_keep_21 : decode b_X_keep 21 = .ok (.iconst 3, 1) := by decide +kernel
theorem d_X_keep_22 : decode b_X_keep 22 = .ok (.if_icmp .gt 12, 3) := by decide +kernel
theorem d_X_keep_25 : decode b_X_keep 25 = .ok (.iload_n 2, 1) := by decide +kernel
theorem d_X_keep_26 : decode b_X_keep 26 = .ok (.ifCond .eq 11, 3) := by decide +kernel
theorem d_X_keep_29 : decode b_X_keep 29 = .ok (.iload_n 1, 1) := by decide +kernel
theorem d_X_keep_30 : decode b_X_keep 30 = .ok (.iconst 2, 1) := by decide +kernel
theorem d_X_keep_31 : decode b_X_keep 31 = .ok (.if_icmp .eq 6, 3) := by decide +kernel
theorem d_X_keep_34 : decode b_X_keep 34 = .ok (.bipush (-3), 2) := by decide +kernel
theorem d_X_keep_36 : decode b_X_keep 36 = .ok (.ireturn, 1) := by decide +kernel
theorem d_X_keep_37 : decode b_X_keep 37 = .ok (.aload_n 0, 1) := by decide +kernel
theorem d_X_keep_38 : decode b_X_keep 38 = .ok (.getfield 13, 3) := by decide +kernel
theorem d_X_keep_41 : decode b_X_keep 41 = .ok (.iload_n 1, 1) := by decide +kernel
theorem d_X_keep_42 : decode b_X_keep 42 = .ok (.aload_n 0, 1) := by decide +kernel
theorem d_X_keep_43 : decode b_X_keep 43 = .ok (.getfield 63, 3) := by decide +kernel
theorem d_X_keep_46 : decode b_X_keep 46 = .ok (.iastore, 1) := by decide +kernel
theorem d_X_keep_47 : decode b_X_keep 47 = .ok (.iconst 0, 1) := by decide +kernel
theorem d_X_keep_48 : decode b_X_keep 48 = .ok (.istore_n 3, 1) := by decide +kernel
theorem d_X_keep_49 : decode b_X_keep 49 = .ok (.iload_n 3, 1) := by decide +kernel
theorem d_X_keep_50 : decode b_X_keep 50 = .ok (.aload_n 0, 1) := by decide +kernel
theorem d_X_keep_51 : decode b_X_keep 51 = .ok (.getfield 63, 3) := by decide +kernel
theorem d_X_keep_54 : decode b_X_keep 54 = .ok (.if_icmp .ge 25, 3) := by decide +kernel
theorem d_X_keep_57 : decode b_X_keep 57 = .ok (.aload_n 0, 1) := by decide +kernel
theorem d_X_keep_58 : decode b_X_keep 58 = .ok (.getfield 16, 3) := by decide +kernel
theorem d_X_keep_61 : decode b_X_keep 61 = .ok (.iload_n 1, 1) := by decide +kernel
theorem d_X_keep_62 : decode b_X_keep 62 = .ok (.iconst 3, 1) := by decide +kernel
theorem d_X_keep_63 : decode b_X_keep 63 = .ok (.imul, 1) := by decide +kernel
theorem d_X_keep_64 : decode b_X_keep 64 = .ok (.iload_n 3, 1) := by decide +kernel
theorem d_X_keep_65 : decode b_X_keep 65 = .ok (.iadd, 1) := by decide +kernel
theorem d_X_keep_66 : decode b_X_keep 66 = .ok (.aload_n 0, 1) := by decide +kernel
theorem d_X_keep_67 : decode b_X_keep 67 = .ok (.getfield 7, 3) := by decide +kernel
theorem d_X_keep_70 : decode b_X_keep 70 = .ok (.iload_n 3, 1) := by decide +kernel
theorem d_X_keep_71 : decode b_X_keep 71 = .ok (.iaload, 1) := by decide +kernel
theorem d_X_keep_72 : decode b_X_keep 72 = .ok (.iastore, 1) := by decide +kernel
theorem d_X_keep_73 : decode b_X_keep 73 = .ok (.iinc 3 1, 3) := by decide +kernel
theorem d_X_keep_76 : decode b_X_keep 76 = .ok (.goto (-27), 3) := by decide +kernel
theorem d_X_keep_79 : decode b_X_keep 79 = .ok (.aload_n 0, 1) := by decide +kernel
theorem d_X_keep_80 : decode b_X_keep 80 = .ok (.iconst 0, 1) := by decide +kernel
theorem d_X_keep_81 : decode b_X_keep 81 = .ok (.putfield 63, 3) := by decide +kernel
theorem d_X_keep_84 : decode b_X_keep 84 = .ok (.aload_n 0, 1) := by decide +kernel
theorem d_X_keep_85 : decode b_X_keep 85 = .ok (.getfield 13, 3) := by decide +kernel
theorem d_X_keep_88 : decode b_X_keep 88 = .ok (.iload_n 1, 1) := by decide +kernel
theorem d_X_keep_89 : decode b_X_keep 89 = .ok (.iaload, 1) := by decide +kernel
theorem d_X_keep_90 : decode b_X_keep 90 = .ok (.ireturn, 1) := by decide +kernel
theorem d_X_rule_0 : decode b_X_rule 0 = .ok (.iload_n 1, 1) := by decide +kernel
theorem d_X_rule_1 : decode b_X_rule 1 = .ok (.ifCond .lt 9, 3) := by decide +kernel
theorem d_X_rule_4 : decode b_X_rule 4 = .ok (.iload_n 1, 1) := by decide +kernel
theorem d_X_rule_5 : decode b_X_rule 5 = .ok (.bipush 7, 2) := by decide +kernel
theorem d_X_rule_7 : decode b_X_rule 7 = .ok (.if_icmp .le 6, 3) := by decide +kernel
theorem d_X_rule_10 : decode b_X_rule 10 = .ok (.bipush (-5), 2) := by decide +kernel
theorem d_X_rule_12 : decode b_X_rule 12 = .ok (.ireturn, 1) := by decide +kernel
theorem d_X_rule_13 : decode b_X_rule 13 = .ok (.aload_n 0, 1) := by decide +kernel
theorem d_X_rule_14 : decode b_X_rule 14 = .ok (.getfield 70, 3) := by decide +kernel
theorem d_X_rule_17 : decode b_X_rule 17 = .ok (.bipush 10, 2) := by decide +kernel
theorem d_X_rule_19 : decode b_X_rule 19 = .ok (.if_icmp .lt 6, 3) := by decide +kernel
theorem d_X_rule_22 : decode b_X_rule 22 = .ok (.bipush (-2), 2) := by decide +kernel
theorem d_X_rule_24 : decode b_X_rule 24 = .ok (.ireturn, 1) := by decide +kernel
theorem d_X_rule_25 : decode b_X_rule 25 = .ok (.aload_n 0, 1) := by decide +kernel
theorem d_X_rule_26 : decode b_X_rule 26 = .ok (.getfield 70, 3) := by decide +kernel
theorem d_X_rule_29 : decode b_X_rule 29 = .ok (.istore 4, 2) := by decide +kernel
theorem d_X_rule_31 : decode b_X_rule 31 = .ok (.aload_n 0, 1) := by decide +kernel
theorem d_X_rule_32 : decode b_X_rule 32 = .ok (.getfield 19, 3) := by decide +kernel
theorem d_X_rule_35 : decode b_X_rule 35 = .ok (.iload 4, 2) := by decide +kernel
theorem d_X_rule_37 : decode b_X_rule 37 = .ok (.iload_n 1, 1) := by decide +kernel
theorem d_X_rule_38 : decode b_X_rule 38 = .ok (.iastore, 1) := by decide +kernel
theorem d_X_rule_39 : decode b_X_rule 39 = .ok (.aload_n 0, 1) := by decide +kernel
theorem d_X_rule_40 : decode b_X_rule 40 = .ok (.getfield 22, 3) := by decide +kernel
theorem d_X_rule_43 : decode b_X_rule 43 = .ok (.iload 4, 2) := by decide +kernel
theorem d_X_rule_45 : decode b_X_rule 45 = .ok (.iload_n 2, 1) := by decide +kernel
theorem d_X_rule_46 : decode b_X_rule 46 = .ok (.bastore, 1) := by decide +kernel
theorem d_X_rule_47 : decode b_X_rule 47 = .ok (.aload_n 0, 1) := by decide +kernel
theorem d_X_rule_48 : decode b_X_rule 48 = .ok (.getfield 26, 3) := by decide +kernel
theorem d_X_rule_51 : decode b_X_rule 51 = .ok (.iload 4, 2) := by decide +kernel
theorem d_X_rule_53 : decode b_X_rule 53 = .ok (.iload_n 3, 1) := by decide +kernel
theorem d_X_rule_54 : decode b_X_rule 54 = .ok (.bastore, 1) := by decide +kernel
theorem d_X_rule_55 : decode b_X_rule 55 = .ok (.iconst 0, 1) := by decide +kernel
theorem d_X_rule_56 : decode b_X_rule 56 = .ok (.istore 5, 2) := by decide +kernel
theorem d_X_rule_58 : decode b_X_rule 58 = .ok (.iload 5, 2) := by decide +kernel
theorem d_X_rule_60 : decode b_X_rule 60 = .ok (.iconst 3, 1) := by decide +kernel
theorem d_X_rule_61 : decode b_X_rule 61 = .ok (.if_icmp .ge 28, 3) := by decide +kernel
theorem d_X_rule_64 : decode b_X_rule 64 = .ok (.aload_n 0, 1) := by decide +kernel
theorem d_X_rule_65 : decode b_X_rule 65 = .ok (.getfield 29, 3) := by decide +kernel
theorem d_X_rule_68 : decode b_X_rule 68 = .ok (.iload 4, 2) := by decide +kernel
theorem d_X_rule_70 : decode b_X_rule 70 = .ok (.iconst 3, 1) := by decide +kernel
theorem d_X_rule_71 : decode b_X_rule 71 = .ok (.imul, 1) := by decide +kernel
theorem d_X_rule_72 : decode b_X_rule 72 = .ok (.iload 5, 2) := by decide +kernel
theorem d_X_rule_74 : decode b_X_rule 74 = .ok (.iadd, 1) := by decide +kernel
theorem d_X_rule_75 : decode b_X_rule 75 = .ok (.aload_n 0, 1) := by decide +kernel
theorem d_X_rule_76 : decode b_X_rule 76 = .ok (.getfield 13, 3) := by decide +kernel
theorem d_X_rule_79 : decode b_X_rule 79 = .ok (.iload 5, 2) := by decide +kernel
theorem d_X_rule_81 : decode b_X_rule 81 = .ok (.iaload, 1) := by decide +kernel
theorem d_X_rule_82 : decode b_X_rule 82 = .ok (.iastore, 1) := by decide +kernel
theorem d_X_rule_83 : decode b_X_rule 83 = .ok (.iinc 5 1, 3) := by decide +kernel
theorem d_X_rule_86 : decode b_X_rule 86 = .ok (.goto (-28), 3) := by decide +kernel
theorem d_X_rule_89 : decode b_X_rule 89 = .ok (.iconst 0, 1) := by decide +kernel
theorem d_X_rule_90 : decode b_X_rule 90 = .ok (.istore 5, 2) := by decide +kernel
theorem d_X_rule_92 : decode b_X_rule 92 = .ok (.iload 5, 2) := by decide +kernel
theorem d_X_rule_94 : decode b_X_rule 94 = .ok (.bipush 9, 2) := by decide +kernel
theorem d_X_rule_96 : decode b_X_rule 96 = .ok (.if_icmp .ge 29, 3) := by decide +kernel
theorem d_X_rule_99 : decode b_X_rule 99 = .ok (.aload_n 0, 1) := by decide +kernel
theorem d_X_rule_100 : decode b_X_rule 100 = .ok (.getfield 32, 3) := by decide +kernel
theorem d_X_rule_103 : decode b_X_rule 103 = .ok (.iload 4, 2) := by decide +kernel
theorem d_X_rule_105 : decode b_X_rule 105 = .ok (.bipush 9, 2) := by decide +kernel
theorem d_X_rule_107 : decode b_X_rule 107 = .ok (.imul, 1) := by decide +kernel
theorem d_X_rule_108 : decode b_X_rule 108 = .ok (.iload 5, 2) := by decide +kernel
theorem d_X_rule_110 : decode b_X_rule 110 = .ok (.iadd, 1) := by decide +kernel
theorem d_X_rule_111 : decode b_X_rule 111 = .ok (.aload_n 0, 1) := by decide +kernel
theorem d_X_rule_112 : decode b_X_rule 112 = .ok (.getfield 16, 3) := by decide +kernel
theorem d_X_rule_115 : decode b_X_rule 115 = .ok (.iload 5, 2) := by decide +kernel
theorem d_X_rule_117 : decode b_X_rule 117 = .ok (.iaload, 1) := by decide +kernel
theorem d_X_rule_118 : decode b_X_rule 118 = .ok (.iastore, 1) := by decide +kernel
theorem d_X_rule_119 : decode b_X_rule 119 = .ok (.iinc 5 1, 3) := by decide +kernel
theorem d_X_rule_122 : decode b_X_rule 122 = .ok (.goto (-30), 3) := by decide +kernel
theorem d_X_rule_125 : decode b_X_rule 125 = .ok (.aload_n 0, 1) := by decide +kernel
theorem d_X_rule_126 : decode b_X_rule 126 = .ok (.dup, 1) := by decide +kernel
theorem d_X_rule_127 : decode b_X_rule 127 = .ok (.getfield 70, 3) := by decide +kernel
theorem d_X_rule_130 : decode b_X_rule 130 = .ok (.iconst 1, 1) := by decide +kernel
theorem d_X_rule_131 : decode b_X_rule 131 = .ok (.iadd, 1) := by decide +kernel
theorem d_X_rule_132 : decode b_X_rule 132 = .ok (.putfield 70, 3) := by decide +kernel
theorem d_X_rule_135 : decode b_X_rule 135 = .ok (.iload 4, 2) := by decide +kernel
theorem d_X_rule_137 : decode b_X_rule 137 = .ok (.ireturn, 1) := by decide +kernel
theorem d_X_stem_0 : decode b_X_stem 0 = .ok (.aload_n 0, 1) := by decide +kernel
theorem d_X_stem_1 : decode b_X_stem 1 = .ok (.invokevirtual 66, 3) := by decide +kernel
theorem d_X_stem_4 : decode b_X_stem 4 = .ok (.istore_n 2, 1) := by decide +kernel
theorem d_X_stem_5 : decode b_X_stem 5 = .ok (.aload_n 0, 1) := by decide +kernel
theorem d_X_stem_6 : decode b_X_stem 6 = .ok (.getfield 63, 3) := by decide +kernel
theorem d_X_stem_9 : decode b_X_stem 9 = .ok (.ifCond .eq 7, 3) := by decide +kernel
theorem d_X_stem_12 : decode b_X_stem 12 = .ok (.iload_n 2, 1) := by decide +kernel
theorem d_X_stem_13 : decode b_X_stem 13 = .ok (.ifCond .eq 6, 3) := by decide +kernel
theorem d_X_stem_16 : decode b_X_stem 16 = .ok (.bipush (-3), 2) := by decide +kernel
theorem d_X_stem_18 : decode b_X_stem 18 = .ok (.ireturn, 1) := by decide +kernel
theorem d_X_stem_19 : decode b_X_stem 19 = .ok (.aload_n 0, 1) := by decide +kernel
theorem d_X_stem_20 : decode b_X_stem 20 = .ok (.getfield 73, 3) := by decide +kernel
theorem d_X_stem_23 : decode b_X_stem 23 = .ok (.bipush 12, 2) := by decide +kernel
theorem d_X_stem_25 : decode b_X_stem 25 = .ok (.if_icmp .lt 6, 3) := by decide +kernel
theorem d_X_stem_28 : decode b_X_stem 28 = .ok (.bipush (-2), 2) := by decide +kernel
theorem d_X_stem_30 : decode b_X_stem 30 = .ok (.ireturn, 1) := by decide +kernel
theorem d_X_stem_31 : decode b_X_stem 31 = .ok (.iconst 0, 1) := by decide +kernel
theorem d_X_stem_32 : decode b_X_stem 32 = .ok (.istore_n 3, 1) := by decide +kernel
theorem d_X_stem_33 : decode b_X_stem 33 = .ok (.iconst 0, 1) := by decide +kernel
theorem d_X_stem_34 : decode b_X_stem 34 = .ok (.istore 4, 2) := by decide +kernel
theorem d_X_stem_36 : decode b_X_stem 36 = .ok (.iload 4, 2) := by decide +kernel
theorem d_X_stem_38 : decode b_X_stem 38 = .ok (.aload_n 0, 1) := by decide +kernel
theorem d_X_stem_39 : decode b_X_stem 39 = .ok (.getfield 63, 3) := by decide +kernel
theorem d_X_stem_42 : decode b_X_stem 42 = .ok (.if_icmp .ge 24, 3) := by decide +kernel
theorem d_X_stem_45 : decode b_X_stem 45 = .ok (.aload_n 0, 1) := by decide +kernel
theorem d_X_stem_46 : decode b_X_stem 46 = .ok (.iload_n 3, 1) := by decide +kernel
theorem d_X_stem_47 : decode b_X_stem 47 = .ok (.aload_n 0, 1) := by decide +kernel
theorem d_X_stem_48 : decode b_X_stem 48 = .ok (.getfield 7, 3) := by decide +kernel
theorem d_X_stem_51 : decode b_X_stem 51 = .ok (.iload 4, 2) := by decide +kernel
theorem d_X_stem_53 : decode b_X_stem 53 = .ok (.iaload, 1) := by decide +kernel
theorem d_X_stem_54 : decode b_X_stem 54 = .ok (.iconst 1, 1) := by decide +kernel
theorem d_X_stem_55 : decode b_X_stem 55 = .ok (.isub, 1) := by decide +kernel
theorem d_X_stem_56 : decode b_X_stem 56 = .ok (.invokevirtual 76, 3) := by decide +kernel
theorem d_X_stem_59 : decode b_X_stem 59 = .ok (.istore_n 3, 1) := by decide +kernel
theorem d_X_stem_60 : decode b_X_stem 60 = .ok (.iinc 4 1, 3) := by decide +kernel
theorem d_X_stem_63 : decode b_X_stem 63 = .ok (.goto (-27), 3) := by decide +kernel
theorem d_X_stem_66 : decode b_X_stem 66 = .ok (.aload_n 0, 1) := by decide +kernel
theorem d_X_stem_67 : decode b_X_stem 67 = .ok (.getfield 73, 3) := by decide +kernel
theorem d_X_stem_70 : decode b_X_stem 70 = .ok (.istore 4, 2) := by decide +kernel
theorem d_X_stem_72 : decode b_X_stem 72 = .ok (.aload_n 0, 1) := by decide +kernel
theorem d_X_stem_73 : decode b_X_stem 73 = .ok (.getfield 35, 3) := by decide +kernel
theorem d_X_stem_76 : decode b_X_stem 76 = .ok (.iload 4, 2) := by decide +kernel
theorem d_X_stem_78 : decode b_X_stem 78 = .ok (.iload_n 1, 1) := by decide +kernel
theorem d_X_stem_79 : decode b_X_stem 79 = .ok (.sipush 255, 3) := by decide +kernel
theorem d_X_stem_82 : decode b_X_stem 82 = .ok (.iand, 1) := by decide +kernel
theorem d_X_stem_83 : decode b_X_stem 83 = .ok (.iastore, 1) := by decide +kernel
theorem d_X_stem_84 : decode b_X_stem 84 = .ok (.aload_n 0, 1) := by decide +kernel
theorem d_X_stem_85 : decode b_X_stem 85 = .ok (.getfield 44, 3) := by decide +kernel
theorem d_X_stem_88 : decode b_X_stem 88 = .ok (.iload 4, 2) := by decide +kernel
theorem d_X_stem_90 : decode b_X_stem 90 = .ok (.iconst (-1), 1) := by decide +kernel
theorem d_X_stem_91 : decode b_X_stem 91 = .ok (.iastore, 1) := by decide +kernel
theorem d_X_stem_92 : decode b_X_stem 92 = .ok (.aload_n 0, 1) := by decide +kernel
theorem d_X_stem_93 : decode b_X_stem 93 = .ok (.iload_n 3, 1) := by decide +kernel
theorem d_X_stem_94 : decode b_X_stem 94 = .ok (.iload 4, 2) := by decide +kernel
theorem d_X_stem_96 : decode b_X_stem 96 = .ok (.invokevirtual 80, 3) := by decide +kernel
theorem d_X_stem_99 : decode b_X_stem 99 = .ok (.aload_n 0, 1) := by decide +kernel
theorem d_X_stem_100 : decode b_X_stem 100 = .ok (.dup, 1) := by decide +kernel
theorem d_X_stem_101 : decode b_X_stem 101 = .ok (.getfield 73, 3) := by decide +kernel
theorem d_X_stem_104 : decode b_X_stem 104 = .ok (.iconst 1, 1) := by decide +kernel
theorem d_X_stem_105 : decode b_X_stem 105 = .ok (.iadd, 1) := by decide +kernel
theorem d_X_stem_106 : decode b_X_stem 106 = .ok (.putfield 73, 3) := by decide +kernel
theorem d_X_stem_109 : decode b_X_stem 109 = .ok (.aload_n 0, 1) := by decide +kernel
theorem d_X_stem_110 : decode b_X_stem 110 = .ok (.iconst 0, 1) := by decide +kernel
theorem d_X_stem_111 : decode b_X_stem 111 = .ok (.putfield 63, 3) := by decide +kernel
theorem d_X_stem_114 : decode b_X_stem 114 = .ok (.iload 4, 2) := by decide +kernel
theorem d_X_stem_116 : decode b_X_stem 116 = .ok (.ireturn, 1) := by decide +kernel
theorem d_X_childOf_0 : decode b_X_childOf 0 = .ok (.iload_n 1, 1) := by decide +kernel
theorem d_X_childOf_1 : decode b_X_childOf 1 = .ok (.bipush 8, 2) := by decide +kernel
theorem d_X_childOf_3 : decode b_X_childOf 3 = .ok (.imul, 1) := by decide +kernel
theorem d_X_childOf_4 : decode b_X_childOf 4 = .ok (.iload_n 2, 1) := by decide +kernel
theorem d_X_childOf_5 : decode b_X_childOf 5 = .ok (.iadd, 1) := by decide +kernel
theorem d_X_childOf_6 : decode b_X_childOf 6 = .ok (.istore_n 3, 1) := by decide +kernel
theorem d_X_childOf_7 : decode b_X_childOf 7 = .ok (.aload_n 0, 1) := by decide +kernel
theorem d_X_childOf_8 : decode b_X_childOf 8 = .ok (.getfield 38, 3) := by decide +kernel
theorem d_X_childOf_11 : decode b_X_childOf 11 = .ok (.iload_n 3, 1) := by decide +kernel
theorem d_X_childOf_12 : decode b_X_childOf 12 = .ok (.iaload, 1) := by decide +kernel
theorem d_X_childOf_13 : decode b_X_childOf 13 = .ok (.ifCond .ne 43, 3) := by decide +kernel
theorem d_X_childOf_16 : decode b_X_childOf 16 = .ok (.aload_n 0, 1) := by decide +kernel
theorem d_X_childOf_17 : decode b_X_childOf 17 = .ok (.getfield 59, 3) := by decide +kernel
theorem d_X_childOf_20 : decode b_X_childOf 20 = .ok (.sipush 145, 3) := by decide +kernel
theorem d_X_childOf_23 : decode b_X_childOf 23 = .ok (.if_icmp .ge 33, 3) := by decide +kernel
theorem d_X_childOf_26 : decode b_X_childOf 26 = .ok (.aload_n 0, 1) := by decide +kernel
theorem d_X_childOf_27 : decode b_X_childOf 27 = .ok (.getfield 38, 3) := by decide +kernel
theorem d_X_childOf_30 : decode b_X_childOf 30 = .ok (.iload_n 3, 1) := by decide +kernel
theorem d_X_childOf_31 : decode b_X_childOf 31 = .ok (.aload_n 0, 1) := by decide +kernel
theorem d_X_childOf_32 : decode b_X_childOf 32 = .ok (.getfield 59, 3) := by decide +kernel
theorem d_X_childOf_35 : decode b_X_childOf 35 = .ok (.iastore, 1) := by decide +kernel
theorem d_X_childOf_36 : decode b_X_childOf 36 = .ok (.aload_n 0, 1) := by decide +kernel
theorem d_X_childOf_37 : decode b_X_childOf 37 = .ok (.getfield 41, 3) := by decide +kernel
theorem d_X_childOf_40 : decode b_X_childOf 40 = .ok (.aload_n 0, 1) := by decide +kernel
theorem d_X_childOf_41 : decode b_X_childOf 41 = .ok (.getfield 59, 3) := by decide +kernel
theorem d_X_childOf_44 : decode b_X_childOf 44 = .ok (.iconst (-1), 1) := by decide +kernel
theorem d_X_childOf_45 : decode b_X_childOf 45 = .ok (.iastore, 1) := by decide +kernel
theorem d_X_childOf_46 : decode b_X_childOf 46 = .ok (.aload_n 0, 1) := by decide +kernel
theorem d_X_childOf_47 : decode b_X_childOf 47 = .ok (.dup, 1) := by decide +kernel
theorem d_X_childOf_48 : decode b_X_childOf 48 = .ok (.getfield 59, 3) := by decide +kernel
theorem d_X_childOf_51 : decode b_X_childOf 51 = .ok (.iconst 1, 1) := by decide +kernel
theorem d_X_childOf_52 : decode b_X_childOf 52 = .ok (.iadd, 1) := by decide +kernel
theorem d_X_childOf_53 : decode b_X_childOf 53 = .ok (.putfield 59, 3) := by decide +kernel
theorem d_X_childOf_56 : decode b_X_childOf 56 = .ok (.aload_n 0, 1) := by decide +kernel
theorem d_X_childOf_57 : decode b_X_childOf 57 = .ok (.getfield 38, 3) := by decide +kernel
theorem d_X_childOf_60 : decode b_X_childOf 60 = .ok (.iload_n 3, 1) := by decide +kernel
theorem d_X_childOf_61 : decode b_X_childOf 61 = .ok (.iaload, 1) := by decide +kernel
theorem d_X_childOf_62 : decode b_X_childOf 62 = .ok (.ireturn, 1) := by decide +kernel
theorem d_X_chain_0 : decode b_X_chain 0 = .ok (.aload_n 0, 1) := by decide +kernel
theorem d_X_chain_1 : decode b_X_chain 1 = .ok (.getfield 41, 3) := by decide +kernel
theorem d_X_chain_4 : decode b_X_chain 4 = .ok (.iload_n 1, 1) := by decide +kernel
theorem d_X_chain_5 : decode b_X_chain 5 = .ok (.iaload, 1) := by decide +kernel
theorem d_X_chain_6 : decode b_X_chain 6 = .ok (.ifCond .ge 11, 3) := by decide +kernel
theorem d_X_chain_9 : decode b_X_chain 9 = .ok (.aload_n 0, 1) := by decide +kernel
theorem d_X_chain_10 : decode b_X_chain 10 = .ok (.getfield 41, 3) := by decide +kernel
theorem d_X_chain_13 : decode b_X_chain 13 = .ok (.iload_n 1, 1) := by decide +kernel
theorem d_X_chain_14 : decode b_X_chain 14 = .ok (.iload_n 2, 1) := by decide +kernel
theorem d_X_chain_15 : decode b_X_chain 15 = .ok (.iastore, 1) := by decide +kernel
theorem d_X_chain_16 : decode b_X_chain 16 = .ok (.return_, 1) := by decide +kernel
theorem d_X_chain_17 : decode b_X_chain 17 = .ok (.aload_n 0, 1) := by decide +kernel
theorem d_X_chain_18 : decode b_X_chain 18 = .ok (.getfield 41, 3) := by decide +kernel
theorem d_X_chain_21 : decode b_X_chain 21 = .ok (.iload_n 1, 1) := by decide +kernel
theorem d_X_chain_22 : decode b_X_chain 22 = .ok (.iaload, 1) := by decide +kernel
theorem d_X_chain_23 : decode b_X_chain 23 = .ok (.istore_n 3, 1) := by decide +kernel
theorem d_X_chain_24 : decode b_X_chain 24 = .ok (.iconst 0, 1) := by decide +kernel
theorem d_X_chain_25 : decode b_X_chain 25 = .ok (.istore 4, 2) := by decide +kernel
theorem d_X_chain_27 : decode b_X_chain 27 = .ok (.iload 4, 2) := by decide +kernel
theorem d_X_chain_29 : decode b_X_chain 29 = .ok (.bipush 12, 2) := by decide +kernel
theorem d_X_chain_31 : decode b_X_chain 31 = .ok (.if_icmp .ge 25, 3) := by decide +kernel
theorem d_X_chain_34 : decode b_X_chain 34 = .ok (.aload_n 0, 1) := by decide +kernel
theorem d_X_chain_35 : decode b_X_chain 35 = .ok (.getfield 44, 3) := by decide +kernel
theorem d_X_chain_38 : decode b_X_chain 38 = .ok (.iload_n 3, 1) := by decide +kernel
theorem d_X_chain_39 : decode b_X_chain 39 = .ok (.iaload, 1) := by decide +kernel
theorem d_X_chain_40 : decode b_X_chain 40 = .ok (.ifCond .lt 16, 3) := by decide +kernel
theorem d_X_chain_43 : decode b_X_chain 43 = .ok (.aload_n 0, 1) := by decide +kernel
theorem d_X_chain_44 : decode b_X_chain 44 = .ok (.getfield 44, 3) := by decide +kernel
theorem d_X_chain_47 : decode b_X_chain 47 = .ok (.iload_n 3, 1) := by decide +kernel
theorem d_X_chain_48 : decode b_X_chain 48 = .ok (.iaload, 1) := by decide +kernel
theorem d_X_chain_49 : decode b_X_chain 49 = .ok (.istore_n 3, 1) := by decide +kernel
theorem d_X_chain_50 : decode b_X_chain 50 = .ok (.iinc 4 1, 3) := by decide +kernel
theorem d_X_chain_53 : decode b_X_chain 53 = .ok (.goto (-26), 3) := by decide +kernel
theorem d_X_chain_56 : decode b_X_chain 56 = .ok (.aload_n 0, 1) := by decide +kernel
theorem d_X_chain_57 : decode b_X_chain 57 = .ok (.getfield 44, 3) := by decide +kernel
theorem d_X_chain_60 : decode b_X_chain 60 = .ok (.iload_n 3, 1) := by decide +kernel
theorem d_X_chain_61 : decode b_X_chain 61 = .ok (.iload_n 2, 1) := by decide +kernel
theorem d_X_chain_62 : decode b_X_chain 62 = .ok (.iastore, 1) := by decide +kernel
theorem d_X_chain_63 : decode b_X_chain 63 = .ok (.return_, 1) := by decide +kernel
theorem d_X_reflag_0 : decode b_X_reflag 0 = .ok (.iload_n 1, 1) := by decide +kernel
theorem d_X_reflag_1 : decode b_X_reflag 1 = .ok (.ifCond .lt 11, 3) := by decide +kernel
theorem d_X_reflag_4 : decode b_X_reflag 4 = .ok (.iload_n 1, 1) := by decide +kernel
theorem d_X_reflag_5 : decode b_X_reflag 5 = .ok (.aload_n 0, 1) := by decide +kernel
theorem d_X_reflag_6 : decode b_X_reflag 6 = .ok (.getfield 73, 3) := by decide +kernel
theorem d_X_reflag_9 : decode b_X_reflag 9 = .ok (.if_icmp .lt 6, 3) := by decide +kernel
theorem d_X_reflag_12 : decode b_X_reflag 12 = .ok (.bipush (-6), 2) := by decide +kernel
theorem d_X_reflag_14 : decode b_X_reflag 14 = .ok (.ireturn, 1) := by decide +kernel
theorem d_X_reflag_15 : decode b_X_reflag 15 = .ok (.aload_n 0, 1) := by decide +kernel
theorem d_X_reflag_16 : decode b_X_reflag 16 = .ok (.getfield 35, 3) := by decide +kernel
theorem d_X_reflag_19 : decode b_X_reflag 19 = .ok (.iload_n 1, 1) := by decide +kernel
theorem d_X_reflag_20 : decode b_X_reflag 20 = .ok (.iaload, 1) := by decide +kernel
theorem d_X_reflag_21 : decode b_X_reflag 21 = .ok (.istore_n 3, 1) := by decide +kernel
theorem d_X_reflag_22 : decode b_X_reflag 22 = .ok (.aload_n 0, 1) := by decide +kernel
theorem d_X_reflag_23 : decode b_X_reflag 23 = .ok (.getfield 35, 3) := by decide +kernel
theorem d_X_reflag_26 : decode b_X_reflag 26 = .ok (.iload_n 1, 1) := by decide +kernel
theorem d_X_reflag_27 : decode b_X_reflag 27 = .ok (.iload_n 2, 1) := by decide +kernel
theorem d_X_reflag_28 : decode b_X_reflag 28 = .ok (.sipush 255, 3) := by decide +kernel
theorem d_X_reflag_31 : decode b_X_reflag 31 = .ok (.iand, 1) := by decide +kernel
theorem d_X_reflag_32 : decode b_X_reflag 32 = .ok (.iastore, 1) := by decide +kernel
theorem d_X_reflag_33 : decode b_X_reflag 33 = .ok (.iload_n 3, 1) := by decide +kernel
theorem d_X_reflag_34 : decode b_X_reflag 34 = .ok (.ireturn, 1) := by decide +kernel
theorem d_X_undoPrefix_0 : decode b_X_undoPrefix 0 = .ok (.aload_n 0, 1) := by decide +kernel
theorem d_X_undoPrefix_1 : decode b_X_undoPrefix 1 = .ok (.getfield 29, 3) := by decide +kernel
theorem d_X_undoPrefix_4 : decode b_X_undoPrefix 4 = .ok (.iload_n 1, 1) := by decide +kernel
theorem d_X_undoPrefix_5 : decode b_X_undoPrefix 5 = .ok (.iconst 3, 1) := by decide +kernel
theorem d_X_undoPrefix_6 : decode b_X_undoPrefix 6 = .ok (.imul, 1) := by decide +kernel
theorem d_X_undoPrefix_7 : decode b_X_undoPrefix 7 = .ok (.iconst 1, 1) := by decide +kernel
theorem d_X_undoPrefix_8 : decode b_X_undoPrefix 8 = .ok (.iadd, 1) := by decide +kernel
theorem d_X_undoPrefix_9 : decode b_X_undoPrefix 9 = .ok (.iaload, 1) := by decide +kernel
theorem d_X_undoPrefix_10 : decode b_X_undoPrefix 10 = .ok (.istore_n 2, 1) := by decide +kernel
theorem d_X_undoPrefix_11 : decode b_X_undoPrefix 11 = .ok (.aload_n 0, 1) := by decide +kernel
theorem d_X_undoPrefix_12 : decode b_X_undoPrefix 12 = .ok (.getfield 29, 3) := by decide +kernel
theorem d_X_undoPrefix_15 : decode b_X_undoPrefix 15 = .ok (.iload_n 1, 1) := by decide +kernel
theorem d_X_undoPrefix_16 : decode b_X_undoPrefix 16 = .ok (.iconst 3, 1) := by decide +kernel
theorem d_X_undoPrefix_17 : decode b_X_undoPrefix 17 = .ok (.imul, 1) := by decide +kernel
theorem d_X_undoPrefix_18 : decode b_X_undoPrefix 18 = .ok (.iaload, 1) := by decide +kernel
theorem d_X_undoPrefix_19 : decode b_X_undoPrefix 19 = .ok (.istore_n 3, 1) := by decide +kernel
theorem d_X_undoPrefix_20 : decode b_X_undoPrefix 20 = .ok (.aload_n 0, 1) := by decide +kernel
theorem d_X_undoPrefix_21 : decode b_X_undoPrefix 21 = .ok (.getfield 84, 3) := by decide +kernel
theorem d_X_undoPrefix_24 : decode b_X_undoPrefix 24 = .ok (.iload_n 2, 1) := by decide +kernel
theorem d_X_undoPrefix_25 : decode b_X_undoPrefix 25 = .ok (.if_icmp .ge 5, 3) := by decide +kernel
theorem d_X_undoPrefix_28 : decode b_X_undoPrefix 28 = .ok (.iconst 0, 1) := by decide +kernel
theorem d_X_undoPrefix_29 : decode b_X_undoPrefix 29 = .ok (.ireturn, 1) := by decide +kernel
theorem d_X_undoPrefix_30 : decode b_X_undoPrefix 30 = .ok (.iconst 0, 1) := by decide +kernel
theorem d_X_undoPrefix_31 : decode b_X_undoPrefix 31 = .ok (.istore 4, 2) := by decide +kernel
theorem d_X_undoPrefix_33 : decode b_X_undoPrefix 33 = .ok (.iload 4, 2) := by decide +kernel
theorem d_X_undoPrefix_35 : decode b_X_undoPrefix 35 = .ok (.iload_n 2, 1) := by decide +kernel
theorem d_X_undoPrefix_36 : decode b_X_undoPrefix 36 = .ok (.if_icmp .ge 35, 3) := by decide +kernel
theorem d_X_undoPrefix_39 : decode b_X_undoPrefix 39 = .ok (.aload_n 0, 1) := by decide +kernel
theorem d_X_undoPrefix_40 : decode b_X_undoPrefix 40 = .ok (.getfield 47, 3) := by decide +kernel
theorem d_X_undoPrefix_43 : decode b_X_undoPrefix 43 = .ok (.iload 4, 2) := by decide +kernel
theorem d_X_undoPrefix_45 : decode b_X_undoPrefix 45 = .ok (.iaload, 1) := by decide +kernel
theorem d_X_undoPrefix_46 : decode b_X_undoPrefix 46 = .ok (.aload_n 0, 1) := by decide +kernel
theorem d_X_undoPrefix_47 : decode b_X_undoPrefix 47 = .ok (.getfield 32, 3) := by decide +kernel
theorem d_X_undoPrefix_50 : decode b_X_undoPrefix 50 = .ok (.iload_n 1, 1) := by decide +kernel
theorem d_X_undoPrefix_51 : decode b_X_undoPrefix 51 = .ok (.bipush 9, 2) := by decide +kernel
theorem d_X_undoPrefix_53 : decode b_X_undoPrefix 53 = .ok (.imul, 1) := by decide +kernel
theorem d_X_undoPrefix_54 : decode b_X_undoPrefix 54 = .ok (.iconst 3, 1) := by decide +kernel
theorem d_X_undoPrefix_55 : decode b_X_undoPrefix 55 = .ok (.iadd, 1) := by decide +kernel
theorem d_X_undoPrefix_56 : decode b_X_undoPrefix 56 = .ok (.iload 4, 2) := by decide +kernel
theorem d_X_undoPrefix_58 : decode b_X_undoPrefix 58 = .ok (.iadd, 1) := by decide +kernel
theorem d_X_undoPrefix_59 : decode b_X_undoPrefix 59 = .ok (.iaload, 1) := by decide +kernel
theorem d_X_undoPrefix_60 : decode b_X_undoPrefix 60 = .ok (.if_icmp .eq 5, 3) := by decide +kernel
theorem d_X_undoPrefix_63 : decode b_X_undoPrefix 63 = .ok (.iconst 0, 1) := by decide +kernel
theorem d_X_undoPrefix_64 : decode b_X_undoPrefix 64 = .ok (.ireturn, 1) := by decide +kernel
theorem d_X_undoPrefix_65 : decode b_X_undoPrefix 65 = .ok (.iinc 4 1, 3) := by decide +kernel
theorem d_X_undoPrefix_68 : decode b_X_undoPrefix 68 = .ok (.goto (-35), 3) := by decide +kernel
theorem d_X_undoPrefix_71 : decode b_X_undoPrefix 71 = .ok (.iconst 0, 1) := by decide +kernel
theorem d_X_undoPrefix_72 : decode b_X_undoPrefix 72 = .ok (.istore 4, 2) := by decide +kernel
theorem d_X_undoPrefix_74 : decode b_X_undoPrefix 74 = .ok (.iload 4, 2) := by decide +kernel
theorem d_X_undoPrefix_76 : decode b_X_undoPrefix 76 = .ok (.iload_n 3, 1) := by decide +kernel
theorem d_X_undoPrefix_77 : decode b_X_undoPrefix 77 = .ok (.if_icmp .ge 28, 3) := by decide +kernel
theorem d_X_undoPrefix_80 : decode b_X_undoPrefix 80 = .ok (.aload_n 0, 1) := by decide +kernel
theorem d_X_undoPrefix_81 : decode b_X_undoPrefix 81 = .ok (.getfield 50, 3) := by decide +kernel
theorem d_X_undoPrefix_84 : decode b_X_undoPrefix 84 = .ok (.iload 4, 2) := by decide +kernel
theorem d_X_undoPrefix_86 : decode b_X_undoPrefix 86 = .ok (.aload_n 0, 1) := by decide +kernel
theorem d_X_undoPrefix_87 : decode b_X_undoPrefix 87 = .ok (.getfield 32, 3) := by decide +kernel
theorem d_X_undoPrefix_90 : decode b_X_undoPrefix 90 = .ok (.iload_n 1, 1) := by decide +kernel
theorem d_X_undoPrefix_91 : decode b_X_undoPrefix 91 = .ok (.bipush 9, 2) := by decide +kernel
theorem d_X_undoPrefix_93 : decode b_X_undoPrefix 93 = .ok (.imul, 1) := by decide +kernel
theorem d_X_undoPrefix_94 : decode b_X_undoPrefix 94 = .ok (.iload 4, 2) := by decide +kernel
theorem d_X_undoPrefix_96 : decode b_X_undoPrefix 96 = .ok (.iadd, 1) := by decide +kernel
theorem d_X_undoPrefix_97 : decode b_X_undoPrefix 97 = .ok (.iaload, 1) := by decide +kernel
theorem d_X_undoPrefix_98 : decode b_X_undoPrefix 98 = .ok (.iastore, 1) := by decide +kernel
theorem d_X_undoPrefix_99 : decode b_X_undoPrefix 99 = .ok (.iinc 4 1, 3) := by decide +kernel
theorem d_X_undoPrefix_102 : decode b_X_undoPrefix 102 = .ok (.goto (-28), 3) := by decide +kernel
theorem d_X_undoPrefix_105 : decode b_X_undoPrefix 105 = .ok (.iload_n 2, 1) := by decide +kernel
theorem d_X_undoPrefix_106 : decode b_X_undoPrefix 106 = .ok (.istore 4, 2) := by decide +kernel
theorem d_X_undoPrefix_108 : decode b_X_undoPrefix 108 = .ok (.iload 4, 2) := by decide +kernel
theorem d_X_undoPrefix_110 : decode b_X_undoPrefix 110 = .ok (.aload_n 0, 1) := by decide +kernel
theorem d_X_undoPrefix_111 : decode b_X_undoPrefix 111 = .ok (.getfield 84, 3) := by decide +kernel
theorem d_X_undoPrefix_114 : decode b_X_undoPrefix 114 = .ok (.if_icmp .ge 27, 3) := by decide +kernel
theorem d_X_undoPrefix_117 : decode b_X_undoPrefix 117 = .ok (.aload_n 0, 1) := by decide +kernel
theorem d_X_undoPrefix_118 : decode b_X_undoPrefix 118 = .ok (.getfield 50, 3) := by decide +kernel
theorem d_X_undoPrefix_121 : decode b_X_undoPrefix 121 = .ok (.iload_n 3, 1) := by decide +kernel
theorem d_X_undoPrefix_122 : decode b_X_undoPrefix 122 = .ok (.iload 4, 2) := by decide +kernel
theorem d_X_undoPrefix_124 : decode b_X_undoPrefix 124 = .ok (.iadd, 1) := by decide +kernel
theorem d_X_undoPrefix_125 : decode b_X_undoPrefix 125 = .ok (.iload_n 2, 1) := by decide +kernel
theorem d_X_undoPrefix_126 : decode b_X_undoPrefix 126 = .ok (.isub, 1) := by decide +kernel
theorem d_X_undoPrefix_127 : decode b_X_undoPrefix 127 = .ok (.aload_n 0, 1) := by decide +kernel
theorem d_X_undoPrefix_128 : decode b_X_undoPrefix 128 = .ok (.getfield 47, 3) := by decide +kernel
theorem d_X_undoPrefix_131 : decode b_X_undoPrefix 131 = .ok (.iload 4, 2) := by decide +kernel
theorem d_X_undoPrefix_133 : decode b_X_undoPrefix 133 = .ok (.iaload, 1) := by decide +kernel
theorem d_X_undoPrefix_134 : decode b_X_undoPrefix 134 = .ok (.iastore, 1) := by decide +kernel
theorem d_X_undoPrefix_135 : decode b_X_undoPrefix 135 = .ok (.iinc 4 1, 3) := by decide +kernel
theorem d_X_undoPrefix_138 : decode b_X_undoPrefix 138 = .ok (.goto (-30), 3) := by decide +kernel
theorem d_X_undoPrefix_141 : decode b_X_undoPrefix 141 = .ok (.aload_n 0, 1) := by decide +kernel
theorem d_X_undoPrefix_142 : decode b_X_undoPrefix 142 = .ok (.iload_n 3, 1) := by decide +kernel
theorem d_X_undoPrefix_143 : decode b_X_undoPrefix 143 = .ok (.aload_n 0, 1) := by decide +kernel
theorem d_X_undoPrefix_144 : decode b_X_undoPrefix 144 = .ok (.getfield 84, 3) := by decide +kernel
theorem d_X_undoPrefix_147 : decode b_X_undoPrefix 147 = .ok (.iadd, 1) := by decide +kernel
theorem d_X_undoPrefix_148 : decode b_X_undoPrefix 148 = .ok (.iload_n 2, 1) := by decide +kernel
theorem d_X_undoPrefix_149 : decode b_X_undoPrefix 149 = .ok (.isub, 1) := by decide +kernel
theorem d_X_undoPrefix_150 : decode b_X_undoPrefix 150 = .ok (.putfield 87, 3) := by decide +kernel
theorem d_X_undoPrefix_153 : decode b_X_undoPrefix 153 = .ok (.aload_n 0, 1) := by decide +kernel
theorem d_X_undoPrefix_154 : decode b_X_undoPrefix 154 = .ok (.getfield 29, 3) := by decide +kernel
theorem d_X_undoPrefix_157 : decode b_X_undoPrefix 157 = .ok (.iload_n 1, 1) := by decide +kernel
theorem d_X_undoPrefix_158 : decode b_X_undoPrefix 158 = .ok (.iconst 3, 1) := by decide +kernel
theorem d_X_undoPrefix_159 : decode b_X_undoPrefix 159 = .ok (.imul, 1) := by decide +kernel
theorem d_X_undoPrefix_160 : decode b_X_undoPrefix 160 = .ok (.iconst 2, 1) := by decide +kernel
theorem d_X_undoPrefix_161 : decode b_X_undoPrefix 161 = .ok (.iadd, 1) := by decide +kernel
theorem d_X_undoPrefix_162 : decode b_X_undoPrefix 162 = .ok (.iaload, 1) := by decide +kernel
theorem d_X_undoPrefix_163 : decode b_X_undoPrefix 163 = .ok (.istore 4, 2) := by decide +kernel
theorem d_X_undoPrefix_165 : decode b_X_undoPrefix 165 = .ok (.aload_n 0, 1) := by decide +kernel
theorem d_X_undoPrefix_166 : decode b_X_undoPrefix 166 = .ok (.getfield 87, 3) := by decide +kernel
theorem d_X_undoPrefix_169 : decode b_X_undoPrefix 169 = .ok (.iload 4, 2) := by decide +kernel
theorem d_X_undoPrefix_171 : decode b_X_undoPrefix 171 = .ok (.if_icmp .ge 5, 3) := by decide +kernel
theorem d_X_undoPrefix_174 : decode b_X_undoPrefix 174 = .ok (.iconst 0, 1) := by decide +kernel
theorem d_X_undoPrefix_175 : decode b_X_undoPrefix 175 = .ok (.ireturn, 1) := by decide +kernel
theorem d_X_undoPrefix_176 : decode b_X_undoPrefix 176 = .ok (.iconst 0, 1) := by decide +kernel
theorem d_X_undoPrefix_177 : decode b_X_undoPrefix 177 = .ok (.istore 5, 2) := by decide +kernel
theorem d_X_undoPrefix_179 : decode b_X_undoPrefix 179 = .ok (.iload 5, 2) := by decide +kernel
theorem d_X_undoPrefix_181 : decode b_X_undoPrefix 181 = .ok (.iload 4, 2) := by decide +kernel
theorem d_X_undoPrefix_183 : decode b_X_undoPrefix 183 = .ok (.if_icmp .ge 47, 3) := by decide +kernel
theorem d_X_undoPrefix_186 : decode b_X_undoPrefix 186 = .ok (.aload_n 0, 1) := by decide +kernel
theorem d_X_undoPrefix_187 : decode b_X_undoPrefix 187 = .ok (.getfield 32, 3) := by decide +kernel
theorem d_X_undoPrefix_190 : decode b_X_undoPrefix 190 = .ok (.iload_n 1, 1) := by decide +kernel
theorem d_X_undoPrefix_191 : decode b_X_undoPrefix 191 = .ok (.bipush 9, 2) := by decide +kernel
theorem d_X_undoPrefix_193 : decode b_X_undoPrefix 193 = .ok (.imul, 1) := by decide +kernel
theorem d_X_undoPrefix_194 : decode b_X_undoPrefix 194 = .ok (.bipush 6, 2) := by decide +kernel
theorem d_X_undoPrefix_196 : decode b_X_undoPrefix 196 = .ok (.iadd, 1) := by decide +kernel
theorem d_X_undoPrefix_197 : decode b_X_undoPrefix 197 = .ok (.iload 5, 2) := by decide +kernel
theorem d_X_undoPrefix_199 : decode b_X_undoPrefix 199 = .ok (.iadd, 1) := by decide +kernel
theorem d_X_undoPrefix_200 : decode b_X_undoPrefix 200 = .ok (.iaload, 1) := by decide +kernel
theorem d_X_undoPrefix_201 : decode b_X_undoPrefix 201 = .ok (.istore 6, 2) := by decide +kernel
theorem d_X_undoPrefix_203 : decode b_X_undoPrefix 203 = .ok (.iload 6, 2) := by decide +kernel
theorem d_X_undoPrefix_205 : decode b_X_undoPrefix 205 = .ok (.bipush 9, 2) := by decide +kernel
theorem d_X_undoPrefix_207 : decode b_X_undoPrefix 207 = .ok (.if_icmp .eq 17, 3) := by decide +kernel
theorem d_X_undoPrefix_210 : decode b_X_undoPrefix 210 = .ok (.iload 6, 2) := by decide +kernel
theorem d_X_undoPrefix_212 : decode b_X_undoPrefix 212 = .ok (.aload_n 0, 1) := by decide +kernel
theorem d_X_undoPrefix_213 : decode b_X_undoPrefix 213 = .ok (.getfield 50, 3) := by decide +kernel
theorem d_X_undoPrefix_216 : decode b_X_undoPrefix 216 = .ok (.iload 5, 2) := by decide +kernel
theorem d_X_undoPrefix_218 : decode b_X_undoPrefix 218 = .ok (.iaload, 1) := by decide +kernel
theorem d_X_undoPrefix_219 : decode b_X_undoPrefix 219 = .ok (.if_icmp .eq 5, 3) := by decide +kernel
theorem d_X_undoPrefix_222 : decode b_X_undoPrefix 222 = .ok (.iconst 0, 1) := by decide +kernel
theorem d_X_undoPrefix_223 : decode b_X_undoPrefix 223 = .ok (.ireturn, 1) := by decide +kernel
theorem d_X_undoPrefix_224 : decode b_X_undoPrefix 224 = .ok (.iinc 5 1, 3) := by decide +kernel
theorem d_X_undoPrefix_227 : decode b_X_undoPrefix 227 = .ok (.goto (-48), 3) := by decide +kernel
theorem d_X_undoPrefix_230 : decode b_X_undoPrefix 230 = .ok (.iconst 1, 1) := by decide +kernel
theorem d_X_undoPrefix_231 : decode b_X_undoPrefix 231 = .ok (.ireturn, 1) := by decide +kernel
theorem d_X_undoSuffix_0 : decode b_X_undoSuffix 0 = .ok (.aload_n 0, 1) := by decide +kernel
theorem d_X_undoSuffix_1 : decode b_X_undoSuffix 1 = .ok (.getfield 29, 3) := by decide +kernel
theorem d_X_undoSuffix_4 : decode b_X_undoSuffix 4 = .ok (.iload_n 1, 1) := by decide +kernel
theorem d_X_undoSuffix_5 : decode b_X_undoSuffix 5 = .ok (.iconst 3, 1) := by decide +kernel
theorem d_X_undoSuffix_6 : decode b_X_undoSuffix 6 = .ok (.imul, 1) := by decide +kernel
theorem d_X_undoSuffix_7 : decode b_X_undoSuffix 7 = .ok (.iconst 1, 1) := by decide +kernel
theorem d_X_undoSuffix_8 : decode b_X_undoSuffix 8 = .ok (.iadd, 1) := by decide +kernel
theorem d_X_undoSuffix_9 : decode b_X_undoSuffix 9 = .ok (.iaload, 1) := by decide +kernel
theorem d_X_undoSuffix_10 : decode b_X_undoSuffix 10 = .ok (.istore_n 2, 1) := by decide +kernel
theorem d_X_undoSuffix_11 : decode b_X_undoSuffix 11 = .ok (.aload_n 0, 1) := by decide +kernel
theorem d_X_undoSuffix_12 : decode b_X_undoSuffix 12 = .ok (.getfield 29, 3) := by decide +kernel
theorem d_X_undoSuffix_15 : decode b_X_undoSuffix 15 = .ok (.iload_n 1, 1) := by decide +kernel
theorem d_X_undoSuffix_16 : decode b_X_undoSuffix 16 = .ok (.iconst 3, 1) := by decide +kernel
theorem d_X_undoSuffix_17 : decode b_X_undoSuffix 17 = .ok (.imul, 1) := by decide +kernel
theorem d_X_undoSuffix_18 : decode b_X_undoSuffix 18 = .ok (.iaload, 1) := by decide +kernel
theorem d_X_undoSuffix_19 : decode b_X_undoSuffix 19 = .ok (.istore_n 3, 1) := by decide +kernel
theorem d_X_undoSuffix_20 : decode b_X_undoSuffix 20 = .ok (.aload_n 0, 1) := by decide +kernel
theorem d_X_undoSuffix_21 : decode b_X_undoSuffix 21 = .ok (.getfield 87, 3) := by decide +kernel
theorem d_X_undoSuffix_24 : decode b_X_undoSuffix 24 = .ok (.iload_n 2, 1) := by decide +kernel
theorem d_X_undoSuffix_25 : decode b_X_undoSuffix 25 = .ok (.isub, 1) := by decide +kernel
theorem d_X_undoSuffix_26 : decode b_X_undoSuffix 26 = .ok (.istore 4, 2) := by decide +kernel
theorem d_X_undoSuffix_28 : decode b_X_undoSuffix 28 = .ok (.iload 4, 2) := by decide +kernel
theorem d_X_undoSuffix_30 : decode b_X_undoSuffix 30 = .ok (.ifCond .ge 5, 3) := by decide +kernel
theorem d_X_undoSuffix_33 : decode b_X_undoSuffix 33 = .ok (.iconst 0, 1) := by decide +kernel
theorem d_X_undoSuffix_34 : decode b_X_undoSuffix 34 = .ok (.ireturn, 1) := by decide +kernel
theorem d_X_undoSuffix_35 : decode b_X_undoSuffix 35 = .ok (.iconst 0, 1) := by decide +kernel
theorem d_X_undoSuffix_36 : decode b_X_undoSuffix 36 = .ok (.istore 5, 2) := by decide +kernel
theorem d_X_undoSuffix_38 : decode b_X_undoSuffix 38 = .ok (.iload 5, 2) := by decide +kernel
theorem d_X_undoSuffix_40 : decode b_X_undoSuffix 40 = .ok (.iload_n 2, 1) := by decide +kernel
theorem d_X_undoSuffix_41 : decode b_X_undoSuffix 41 = .ok (.if_icmp .ge 38, 3) := by decide +kernel
theorem d_X_undoSuffix_44 : decode b_X_undoSuffix 44 = .ok (.aload_n 0, 1) := by decide +kernel
theorem d_X_undoSuffix_45 : decode b_X_undoSuffix 45 = .ok (.getfield 50, 3) := by decide +kernel
theorem d_X_undoSuffix_48 : decode b_X_undoSuffix 48 = .ok (.iload 4, 2) := by decide +kernel
theorem d_X_undoSuffix_50 : decode b_X_undoSuffix 50 = .ok (.iload 5, 2) := by decide +kernel
theorem d_X_undoSuffix_52 : decode b_X_undoSuffix 52 = .ok (.iadd, 1) := by decide +kernel
theorem d_X_undoSuffix_53 : decode b_X_undoSuffix 53 = .ok (.iaload, 1) := by decide +kernel
theorem d_X_undoSuffix_54 : decode b_X_undoSuffix 54 = .ok (.aload_n 0, 1) := by decide +kernel
theorem d_X_undoSuffix_55 : decode b_X_undoSuffix 55 = .ok (.getfield 32, 3) := by decide +kernel
theorem d_X_undoSuffix_58 : decode b_X_undoSuffix 58 = .ok (.iload_n 1, 1) := by decide +kernel
theorem d_X_undoSuffix_59 : decode b_X_undoSuffix 59 = .ok (.bipush 9, 2) := by decide +kernel
theorem d_X_undoSuffix_61 : decode b_X_undoSuffix 61 = .ok (.imul, 1) := by decide +kernel
theorem d_X_undoSuffix_62 : decode b_X_undoSuffix 62 = .ok (.iconst 3, 1) := by decide +kernel
theorem d_X_undoSuffix_63 : decode b_X_undoSuffix 63 = .ok (.iadd, 1) := by decide +kernel
theorem d_X_undoSuffix_64 : decode b_X_undoSuffix 64 = .ok (.iload 5, 2) := by decide +kernel
theorem d_X_undoSuffix_66 : decode b_X_undoSuffix 66 = .ok (.iadd, 1) := by decide +kernel
theorem d_X_undoSuffix_67 : decode b_X_undoSuffix 67 = .ok (.iaload, 1) := by decide +kernel
theorem d_X_undoSuffix_68 : decode b_X_undoSuffix 68 = .ok (.if_icmp .eq 5, 3) := by decide +kernel
theorem d_X_undoSuffix_71 : decode b_X_undoSuffix 71 = .ok (.iconst 0, 1) := by decide +kernel
theorem d_X_undoSuffix_72 : decode b_X_undoSuffix 72 = .ok (.ireturn, 1) := by decide +kernel
theorem d_X_undoSuffix_73 : decode b_X_undoSuffix 73 = .ok (.iinc 5 1, 3) := by decide +kernel
theorem d_X_undoSuffix_76 : decode b_X_undoSuffix 76 = .ok (.goto (-38), 3) := by decide +kernel
theorem d_X_undoSuffix_79 : decode b_X_undoSuffix 79 = .ok (.iconst 0, 1) := by decide +kernel
theorem d_X_undoSuffix_80 : decode b_X_undoSuffix 80 = .ok (.istore 5, 2) := by decide +kernel
theorem d_X_undoSuffix_82 : decode b_X_undoSuffix 82 = .ok (.iload 5, 2) := by decide +kernel
theorem d_X_undoSuffix_84 : decode b_X_undoSuffix 84 = .ok (.iload 4, 2) := by decide +kernel
theorem d_X_undoSuffix_86 : decode b_X_undoSuffix 86 = .ok (.if_icmp .ge 23, 3) := by decide +kernel
theorem d_X_undoSuffix_89 : decode b_X_undoSuffix 89 = .ok (.aload_n 0, 1) := by decide +kernel
theorem d_X_undoSuffix_90 : decode b_X_undoSuffix 90 = .ok (.getfield 53, 3) := by decide +kernel
theorem d_X_undoSuffix_93 : decode b_X_undoSuffix 93 = .ok (.iload 5, 2) := by decide +kernel
theorem d_X_undoSuffix_95 : decode b_X_undoSuffix 95 = .ok (.aload_n 0, 1) := by decide +kernel
theorem d_X_undoSuffix_96 : decode b_X_undoSuffix 96 = .ok (.getfield 50, 3) := by decide +kernel
theorem d_X_undoSuffix_99 : decode b_X_undoSuffix 99 = .ok (.iload 5, 2) := by decide +kernel
theorem d_X_undoSuffix_101 : decode b_X_undoSuffix 101 = .ok (.iaload, 1) := by decide +kernel
theorem d_X_undoSuffix_102 : decode b_X_undoSuffix 102 = .ok (.iastore, 1) := by decide +kernel
theorem d_X_undoSuffix_103 : decode b_X_undoSuffix 103 = .ok (.iinc 5 1, 3) := by decide +kernel
theorem d_X_undoSuffix_106 : decode b_X_undoSuffix 106 = .ok (.goto (-24), 3) := by decide +kernel
theorem d_X_undoSuffix_109 : decode b_X_undoSuffix 109 = .ok (.iconst 0, 1) := by decide +kernel
theorem d_X_undoSuffix_110 : decode b_X_undoSuffix 110 = .ok (.istore 5, 2) := by decide +kernel
theorem d_X_undoSuffix_112 : decode b_X_undoSuffix 112 = .ok (.iload 5, 2) := by decide +kernel
theorem d_X_undoSuffix_114 : decode b_X_undoSuffix 114 = .ok (.iload_n 3, 1) := by decide +kernel
theorem d_X_undoSuffix_115 : decode b_X_undoSuffix 115 = .ok (.if_icmp .ge 31, 3) := by decide +kernel
theorem d_X_undoSuffix_118 : decode b_X_undoSuffix 118 = .ok (.aload_n 0, 1) := by decide +kernel
theorem d_X_undoSuffix_119 : decode b_X_undoSuffix 119 = .ok (.getfield 53, 3) := by decide +kernel
theorem d_X_undoSuffix_122 : decode b_X_undoSuffix 122 = .ok (.iload 4, 2) := by decide +kernel
theorem d_X_undoSuffix_124 : decode b_X_undoSuffix 124 = .ok (.iload 5, 2) := by decide +kernel
theorem d_X_undoSuffix_126 : decode b_X_undoSuffix 126 = .ok (.iadd, 1) := by decide +kernel
theorem d_X_undoSuffix_127 : decode b_X_undoSuffix 127 = .ok (.aload_n 0, 1) := by decide +kernel
theorem d_X_undoSuffix_128 : decode b_X_undoSuffix 128 = .ok (.getfield 32, 3) := by decide +kernel
theorem d_X_undoSuffix_131 : decode b_X_undoSuffix 131 = .ok (.iload_n 1, 1) := by decide +kernel
theorem d_X_undoSuffix_132 : decode b_X_undoSuffix 132 = .ok (.bipush 9, 2) := by decide +kernel
theorem d_X_undoSuffix_134 : decode b_X_undoSuffix 134 = .ok (.imul, 1) := by decide +kernel
theorem d_X_undoSuffix_135 : decode b_X_undoSuffix 135 = .ok (.iload 5, 2) := by decide +kernel
theorem d_X_undoSuffix_137 : decode b_X_undoSuffix 137 = .ok (.iadd, 1) := by decide +kernel
theorem d_X_undoSuffix_138 : decode b_X_undoSuffix 138 = .ok (.iaload, 1) := by decide +kernel
theorem d_X_undoSuffix_139 : decode b_X_undoSuffix 139 = .ok (.iastore, 1) := by decide +kernel
theorem d_X_undoSuffix_140 : decode b_X_undoSuffix 140 = .ok (.iinc 5 1, 3) := by decide +kernel
theorem d_X_undoSuffix_143 : decode b_X_undoSuffix 143 = .ok (.goto (-31), 3) := by decide +kernel
theorem d_X_undoSuffix_146 : decode b_X_undoSuffix 146 = .ok (.aload_n 0, 1) := by decide +kernel
theorem d_X_undoSuffix_147 : decode b_X_undoSuffix 147 = .ok (.iload 4, 2) := by decide +kernel
theorem d_X_undoSuffix_149 : decode b_X_undoSuffix 149 = .ok (.iload_n 3, 1) := by decide +kernel
theorem d_X_undoSuffix_150 : decode b_X_undoSuffix 150 = .ok (.iadd, 1) := by decide +kernel
theorem d_X_undoSuffix_151 : decode b_X_undoSuffix 151 = .ok (.putfield 90, 3) := by decide +kernel
theorem d_X_undoSuffix_154 : decode b_X_undoSuffix 154 = .ok (.aload_n 0, 1) := by decide +kernel
theorem d_X_undoSuffix_155 : decode b_X_undoSuffix 155 = .ok (.getfield 29, 3) := by decide +kernel
theorem d_X_undoSuffix_158 : decode b_X_undoSuffix 158 = .ok (.iload_n 1, 1) := by decide +kernel
theorem d_X_undoSuffix_159 : decode b_X_undoSuffix 159 = .ok (.iconst 3, 1) := by decide +kernel
theorem d_X_undoSuffix_160 : decode b_X_undoSuffix 160 = .ok (.imul, 1) := by decide +kernel
theorem d_X_undoSuffix_161 : decode b_X_undoSuffix 161 = .ok (.iconst 2, 1) := by decide +kernel
theorem d_X_undoSuffix_162 : decode b_X_undoSuffix 162 = .ok (.iadd, 1) := by decide +kernel
theorem d_X_undoSuffix_163 : decode b_X_undoSuffix 163 = .ok (.iaload, 1) := by decide +kernel
theorem d_X_undoSuffix_164 : decode b_X_undoSuffix 164 = .ok (.istore 5, 2) := by decide +kernel
theorem d_X_undoSuffix_166 : decode b_X_undoSuffix 166 = .ok (.aload_n 0, 1) := by decide +kernel
theorem d_X_undoSuffix_167 : decode b_X_undoSuffix 167 = .ok (.getfield 90, 3) := by decide +kernel
theorem d_X_undoSuffix_170 : decode b_X_undoSuffix 170 = .ok (.iload 5, 2) := by decide +kernel
theorem d_X_undoSuffix_172 : decode b_X_undoSuffix 172 = .ok (.if_icmp .ge 5, 3) := by decide +kernel
theorem d_X_undoSuffix_175 : decode b_X_undoSuffix 175 = .ok (.iconst 0, 1) := by decide +kernel
theorem d_X_undoSuffix_176 : decode b_X_undoSuffix 176 = .ok (.ireturn, 1) := by decide +kernel
theorem d_X_undoSuffix_177 : decode b_X_undoSuffix 177 = .ok (.iconst 0, 1) := by decide +kernel
theorem d_X_undoSuffix_178 : decode b_X_undoSuffix 178 = .ok (.istore 6, 2) := by decide +kernel
theorem d_X_undoSuffix_180 : decode b_X_undoSuffix 180 = .ok (.iload 6, 2) := by decide +kernel
theorem d_X_undoSuffix_182 : decode b_X_undoSuffix 182 = .ok (.iload 5, 2) := by decide +kernel
theorem d_X_undoSuffix_184 : decode b_X_undoSuffix 184 = .ok (.if_icmp .ge 55, 3) := by decide +kernel
theorem d_X_undoSuffix_187 : decode b_X_undoSuffix 187 = .ok (.aload_n 0, 1) := by decide +kernel
theorem d_X_undoSuffix_188 : decode b_X_undoSuffix 188 = .ok (.getfield 32, 3) := by decide +kernel
theorem d_X_undoSuffix_191 : decode b_X_undoSuffix 191 = .ok (.iload_n 1, 1) := by decide +kernel
theorem d_X_undoSuffix_192 : decode b_X_undoSuffix 192 = .ok (.bipush 9, 2) := by decide +kernel
theorem d_X_undoSuffix_194 : decode b_X_undoSuffix 194 = .ok (.imul, 1) := by decide +kernel
theorem d_X_undoSuffix_195 : decode b_X_undoSuffix 195 = .ok (.bipush 6, 2) := by decide +kernel
theorem d_X_undoSuffix_197 : decode b_X_undoSuffix 197 = .ok (.iadd, 1) := by decide +kernel
theorem d_X_undoSuffix_198 : decode b_X_undoSuffix 198 = .ok (.iload 6, 2) := by decide +kernel
theorem d_X_undoSuffix_200 : decode b_X_undoSuffix 200 = .ok (.iadd, 1) := by decide +kernel
theorem d_X_undoSuffix_201 : decode b_X_undoSuffix 201 = .ok (.iaload, 1) := by decide +kernel
theorem d_X_undoSuffix_202 : decode b_X_undoSuffix 202 = .ok (.istore 7, 2) := by decide +kernel
theorem d_X_undoSuffix_204 : decode b_X_undoSuffix 204 = .ok (.iload 7, 2) := by decide +kernel
theorem d_X_undoSuffix_206 : decode b_X_undoSuffix 206 = .ok (.bipush 9, 2) := by decide +kernel
theorem d_X_undoSuffix_208 : decode b_X_undoSuffix 208 = .ok (.if_icmp .eq 25, 3) := by decide +kernel
theorem d_X_undoSuffix_211 : decode b_X_undoSuffix 211 = .ok (.iload 7, 2) := by decide +kernel
theorem d_X_undoSuffix_213 : decode b_X_undoSuffix 213 = .ok (.aload_n 0, 1) := by decide +kernel
theorem d_X_undoSuffix_214 : decode b_X_undoSuffix 214 = .ok (.getfield 53, 3) := by decide +kernel
theorem d_X_undoSuffix_217 : decode b_X_undoSuffix 217 = .ok (.aload_n 0, 1) := by decide +kernel
theorem d_X_undoSuffix_218 : decode b_X_undoSuffix 218 = .ok (.getfield 90, 3) := by decide +kernel
theorem d_X_undoSuffix_221 : decode b_X_undoSuffix 221 = .ok (.iload 5, 2) := by decide +kernel
theorem d_X_undoSuffix_223 : decode b_X_undoSuffix 223 = .ok (.isub, 1) := by decide +kernel
theorem d_X_undoSuffix_224 : decode b_X_undoSuffix 224 = .ok (.iload 6, 2) := by decide +kernel
theorem d_X_undoSuffix_226 : decode b_X_undoSuffix 226 = .ok (.iadd, 1) := by decide +kernel
theorem d_X_undoSuffix_227 : decode b_X_undoSuffix 227 = .ok (.iaload, 1) := by decide +kernel
theorem d_X_undoSuffix_228 : decode b_X_undoSuffix 228 = .ok (.if_icmp .eq 5, 3) := by decide +kernel
theorem d_X_undoSuffix_231 : decode b_X_undoSuffix 231 = .ok (.iconst 0, 1) := by decide +kernel
theorem d_X_undoSuffix_232 : decode b_X_undoSuffix 232 = .ok (.ireturn, 1) := by decide +kernel
theorem d_X_undoSuffix_233 : decode b_X_undoSuffix 233 = .ok (.iinc 6 1, 3) := by decide +kernel
theorem d_X_undoSuffix_236 : decode b_X_undoSuffix 236 = .ok (.goto (-56), 3) := by decide +kernel
theorem d_X_undoSuffix_239 : decode b_X_undoSuffix 239 = .ok (.iconst 1, 1) := by decide +kernel
theorem d_X_undoSuffix_240 : decode b_X_undoSuffix 240 = .ok (.ireturn, 1) := by decide +kernel
theorem d_X_findCore_0 : decode b_X_findCore 0 = .ok (.iconst 0, 1) := by decide +kernel
theorem d_X_findCore_1 : decode b_X_findCore 1 = .ok (.istore_n 1, 1) := by decide +kernel
theorem d_X_findCore_2 : decode b_X_findCore 2 = .ok (.iconst 0, 1) := by decide +kernel
theorem d_X_findCore_3 : decode b_X_findCore 3 = .ok (.istore_n 2, 1) := by decide +kernel
theorem d_X_findCore_4 : decode b_X_findCore 4 = .ok (.iload_n 2, 1) := by decide +kernel
theorem d_X_findCore_5 : decode b_X_findCore 5 = .ok (.aload_n 0, 1) := by decide +kernel
theorem d_X_findCore_6 : decode b_X_findCore 6 = .ok (.getfield 90, 3) := by decide +kernel
theorem d_X_findCore_9 : decode b_X_findCore 9 = .ok (.if_icmp .ge 34, 3) := by decide +kernel
theorem d_X_findCore_12 : decode b_X_findCore 12 = .ok (.aload_n 0, 1) := by decide +kernel
theorem d_X_findCore_13 : decode b_X_findCore 13 = .ok (.getfield 38, 3) := by decide +kernel
theorem d_X_findCore_16 : decode b_X_findCore 16 = .ok (.iload_n 1, 1) := by decide +kernel
theorem d_X_findCore_17 : decode b_X_findCore 17 = .ok (.bipush 8, 2) := by decide +kernel
theorem d_X_findCore_19 : decode b_X_findCore 19 = .ok (.imul, 1) := by decide +kernel
theorem d_X_findCore_20 : decode b_X_findCore 20 = .ok (.aload_n 0, 1) := by decide +kernel
theorem d_X_findCore_21 : decode b_X_findCore 21 = .ok (.getfield 53, 3) := by decide +kernel
theorem d_X_findCore_24 : decode b_X_findCore 24 = .ok (.iload_n 2, 1) := by decide +kernel
theorem d_X_findCore_25 : decode b_X_findCore 25 = .ok (.iaload, 1) := by decide +kernel
theorem d_X_findCore_26 : decode b_X_findCore 26 = .ok (.iadd, 1) := by decide +kernel
theorem d_X_findCore_27 : decode b_X_findCore 27 = .ok (.iconst 1, 1) := by decide +kernel
theorem d_X_findCore_28 : decode b_X_findCore 28 = .ok (.isub, 1) := by decide +kernel
theorem d_X_findCore_29 : decode b_X_findCore 29 = .ok (.iaload, 1) := by decide +kernel
theorem d_X_findCore_30 : decode b_X_findCore 30 = .ok (.istore_n 1, 1) := by decide +kernel
theorem d_X_findCore_31 : decode b_X_findCore 31 = .ok (.iload_n 1, 1) := by decide +kernel
theorem d_X_findCore_32 : decode b_X_findCore 32 = .ok (.ifCond .ne 5, 3) := by decide +kernel
theorem d_X_findCore_35 : decode b_X_findCore 35 = .ok (.iconst (-1), 1) := by decide +kernel
theorem d_X_findCore_36 : decode b_X_findCore 36 = .ok (.ireturn, 1) := by decide +kernel
theorem d_X_findCore_37 : decode b_X_findCore 37 = .ok (.iinc 2 1, 3) := by decide +kernel
theorem d_X_findCore_40 : decode b_X_findCore 40 = .ok (.goto (-36), 3) := by decide +kernel
theorem d_X_findCore_43 : decode b_X_findCore 43 = .ok (.iload_n 1, 1) := by decide +kernel
theorem d_X_findCore_44 : decode b_X_findCore 44 = .ok (.ireturn, 1) := by decide +kernel
theorem d_X_search_0 : decode b_X_search 0 = .ok (.aload_n 0, 1) := by decide +kernel
theorem d_X_search_1 : decode b_X_search 1 = .ok (.iconst 0, 1) := by decide +kernel
theorem d_X_search_2 : decode b_X_search 2 = .ok (.putfield 93, 3) := by decide +kernel
theorem d_X_search_5 : decode b_X_search 5 = .ok (.aload_n 0, 1) := by decide +kernel
theorem d_X_search_6 : decode b_X_search 6 = .ok (.getfield 84, 3) := by decide +kernel
theorem d_X_search_9 : decode b_X_search 9 = .ok (.ifCond .ne 4, 3) := by decide +kernel
theorem d_X_search_12 : decode b_X_search 12 = .ok (.return_, 1) := by decide +kernel
theorem d_X_search_13 : decode b_X_search 13 = .ok (.iconst 0, 1) := by decide +kernel
theorem d_X_search_14 : decode b_X_search 14 = .ok (.istore_n 1, 1) := by decide +kernel
theorem d_X_search_15 : decode b_X_search 15 = .ok (.iload_n 1, 1) := by decide +kernel
theorem d_X_search_16 : decode b_X_search 16 = .ok (.aload_n 0, 1) := by decide +kernel
theorem d_X_search_17 : decode b_X_search 17 = .ok (.getfield 84, 3) := by decide +kernel
theorem d_X_search_20 : decode b_X_search 20 = .ok (.if_icmp .ge 21, 3) := by decide +kernel
theorem d_X_search_23 : decode b_X_search 23 = .ok (.aload_n 0, 1) := by decide +kernel
theorem d_X_search_24 : decode b_X_search 24 = .ok (.getfield 50, 3) := by decide +kernel
theorem d_X_search_27 : decode b_X_search 27 = .ok (.iload_n 1, 1) := by decide +kernel
theorem d_X_search_28 : decode b_X_search 28 = .ok (.aload_n 0, 1) := by decide +kernel
theorem d_X_search_29 : decode b_X_search 29 = .ok (.getfield 47, 3) := by decide +kernel
theorem d_X_search_32 : decode b_X_search 32 = .ok (.iload_n 1, 1) := by decide +kernel
theorem d_X_search_33 : decode b_X_search 33 = .ok (.iaload, 1) := by decide +kernel
theorem d_X_search_34 : decode b_X_search 34 = .ok (.iastore, 1) := by decide +kernel
theorem d_X_search_35 : decode b_X_search 35 = .ok (.iinc 1 1, 3) := by decide +kernel
theorem d_X_search_38 : decode b_X_search 38 = .ok (.goto (-23), 3) := by decide +kernel
theorem d_X_search_41 : decode b_X_search 41 = .ok (.aload_n 0, 1) := by decide +kernel
theorem d_X_search_42 : decode b_X_search 42 = .ok (.aload_n 0, 1) := by decide +kernel
theorem d_X_search_43 : decode b_X_search 43 = .ok (.getfield 84, 3) := by decide +kernel
theorem d_X_search_46 : decode b_X_search 46 = .ok (.putfield 87, 3) := by decide +kernel
theorem d_X_search_49 : decode b_X_search 49 = .ok (.aload_n 0, 1) := by decide +kernel
theorem d_X_search_50 : decode b_X_search 50 = .ok (.iconst (-1), 1) := by decide +kernel
theorem d_X_search_51 : decode b_X_search 51 = .ok (.invokevirtual 96, 3) := by decide +kernel
theorem d_X_search_54 : decode b_X_search 54 = .ok (.iconst 0, 1) := by decide +kernel
theorem d_X_search_55 : decode b_X_search 55 = .ok (.istore_n 1, 1) := by decide +kernel
theorem d_X_search_56 : decode b_X_search 56 = .ok (.iload_n 1, 1) := by decide +kernel
theorem d_X_search_57 : decode b_X_search 57 = .ok (.aload_n 0, 1) := by decide +kernel
theorem d_X_search_58 : decode b_X_search 58 = .ok (.getfield 70, 3) := by decide +kernel
theorem d_X_search_61 : decode b_X_search 61 = .ok (.if_icmp .ge 33, 3) := by decide +kernel
theorem d_X_search_64 : decode b_X_search 64 = .ok (.aload_n 0, 1) := by decide +kernel
theorem d_X_search_65 : decode b_X_search 65 = .ok (.getfield 22, 3) := by decide +kernel
theorem d_X_search_68 : decode b_X_search 68 = .ok (.iload_n 1, 1) := by decide +kernel
theorem d_X_search_69 : decode b_X_search 69 = .ok (.baload, 1) := by decide +kernel
theorem d_X_search_70 : decode b_X_search 70 = .ok (.ifCond .ne 18, 3) := by decide +kernel
theorem d_X_search_73 : decode b_X_search 73 = .ok (.aload_n 0, 1) := by decide +kernel
theorem d_X_search_74 : decode b_X_search 74 = .ok (.iload_n 1, 1) := by decide +kernel
theorem d_X_search_75 : decode b_X_search 75 = .ok (.invokevirtual 100, 3) := by decide +kernel
theorem d_X_search_78 : decode b_X_search 78 = .ok (.istore_n 2, 1) := by decide +kernel
theorem d_X_search_79 : decode b_X_search 79 = .ok (.iload_n 2, 1) := by decide +kernel
theorem d_X_search_80 : decode b_X_search 80 = .ok (.ifCond .eq 8, 3) := by decide +kernel
theorem d_X_search_83 : decode b_X_search 83 = .ok (.aload_n 0, 1) := by decide +kernel
theorem d_X_search_84 : decode b_X_search 84 = .ok (.iload_n 1, 1) := by decide +kernel
theorem d_X_search_85 : decode b_X_search 85 = .ok (.invokevirtual 96, 3) := by decide +kernel
theorem d_X_search_88 : decode b_X_search 88 = .ok (.iinc 1 1, 3) := by decide +kernel
theorem d_X_search_91 : decode b_X_search 91 = .ok (.goto (-35), 3) := by decide +kernel
theorem d_X_search_94 : decode b_X_search 94 = .ok (.return_, 1) := by decide +kernel
theorem d_X_searchSuffixes_0 : decode b_X_searchSuffixes 0 = .ok (.iconst 0, 1) := by decide +kernel
theorem d_X_searchSuffixes_1 : decode b_X_searchSuffixes 1 = .ok (.istore_n 2, 1) := by decide +kernel
theorem d_X_searchSuffixes_2 : decode b_X_searchSuffixes 2 = .ok (.iload_n 2, 1) := by decide +kernel
theorem d_X_searchSuffixes_3 : decode b_X_searchSuffixes 3 = .ok (.aload_n 0, 1) := by decide +kernel
theorem d_X_searchSuffixes_4 : decode b_X_searchSuffixes 4 = .ok (.getfield 87, 3) := by decide +kernel
theorem d_X_searchSuffixes_7 : decode b_X_searchSuffixes 7 = .ok (.if_icmp .ge 21, 3) := by decide +kernel
theorem d_X_searchSuffixes_10 : decode b_X_searchSuffixes 10 = .ok (.aload_n 0, 1) := by decide +kernel
theorem d_X_searchSuffixes_11 : decode b_X_searchSuffixes 11 = .ok (.getfield 53, 3) := by decide +kernel
theorem d_X_searchSuffixes_14 : decode b_X_searchSuffixes 14 = .ok (.iload_n 2, 1) := by decide +kernel
theorem d_X_searchSuffixes_15 : decode b_X_searchSuffixes 15 = .ok (.aload_n 0, 1) := by decide +kernel
theorem d_X_searchSuffixes_16 : decode b_X_searchSuffixes 16 = .ok (.getfield 50, 3) := by decide +kernel
theorem d_X_searchSuffixes_19 : decode b_X_searchSuffixes 19 = .ok (.iload_n 2, 1) := by decide +kernel
theorem d_X_searchSuffixes_20 : decode b_X_searchSuffixes 20 = .ok (.iaload, 1) := by decide +kernel
theorem d_X_searchSuffixes_21 : decode b_X_searchSuffixes 21 = .ok (.iastore, 1) := by decide +kernel
theorem d_X_searchSuffixes_22 : decode b_X_searchSuffixes 22 = .ok (.iinc 2 1, 3) := by decide +kernel
theorem d_X_searchSuffixes_25 : decode b_X_searchSuffixes 25 = .ok (.goto (-23), 3) := by decide +kernel
theorem d_X_searchSuffixes_28 : decode b_X_searchSuffixes 28 = .ok (.aload_n 0, 1) := by decide +kernel
theorem d_X_searchSuffixes_29 : decode b_X_searchSuffixes 29 = .ok (.aload_n 0, 1) := by decide +kernel
theorem d_X_searchSuffixes_30 : decode b_X_searchSuffixes 30 = .ok (.getfield 87, 3) := by decide +kernel
theorem d_X_searchSuffixes_33 : decode b_X_searchSuffixes 33 = .ok (.putfield 90, 3) := by decide +kernel
theorem d_X_searchSuffixes_36 : decode b_X_searchSuffixes 36 = .ok (.aload_n 0, 1) := by decide +kernel
theorem d_X_searchSuffixes_37 : decode b_X_searchSuffixes 37 = .ok (.iconst (-1), 1) := by decide +kernel
theorem d_X_searchSuffixes_38 : decode b_X_searchSuffixes 38 = .ok (.iload_n 1, 1) := by decide +kernel
theorem d_X_searchSuffixes_39 : decode b_X_searchSuffixes 39 = .ok (.invokevirtual 104, 3) := by decide +kernel
theorem d_X_searchSuffixes_42 : decode b_X_searchSuffixes 42 = .ok (.iconst 0, 1) := by decide +kernel
theorem d_X_searchSuffixes_43 : decode b_X_searchSuffixes 43 = .ok (.istore_n 2, 1) := by decide +kernel
theorem d_X_searchSuffixes_44 : decode b_X_searchSuffixes 44 = .ok (.iload_n 2, 1) := by decide +kernel
theorem d_X_searchSuffixes_45 : decode b_X_searchSuffixes 45 = .ok (.aload_n 0, 1) := by decide +kernel
theorem d_X_searchSuffixes_46 : decode b_X_searchSuffixes 46 = .ok (.getfield 70, 3) := by decide +kernel
theorem d_X_searchSuffixes_49 : decode b_X_searchSuffixes 49 = .ok (.if_icmp .ge 56, 3) := by decide +kernel
theorem d_X_searchSuffixes_52 : decode b_X_searchSuffixes 52 = .ok (.aload_n 0, 1) := by decide +kernel
theorem d_X_searchSuffixes_53 : decode b_X_searchSuffixes 53 = .ok (.getfield 22, 3) := by decide +kernel
theorem d_X_searchSuffixes_56 : decode b_X_searchSuffixes 56 = .ok (.iload_n 2, 1) := by decide +kernel
theorem d_X_searchSuffixes_57 : decode b_X_searchSuffixes 57 = .ok (.baload, 1) := by decide +kernel
theorem d_X_searchSuffixes_58 : decode b_X_searchSuffixes 58 = .ok (.ifCond .eq 41, 3) := by decide +kernel
theorem d_X_searchSuffixes_61 : decode b_X_searchSuffixes 61 = .ok (.iload_n 1, 1) := by decide +kernel
theorem d_X_searchSuffixes_62 : decode b_X_searchSuffixes 62 = .ok (.ifCond .lt 21, 3) := by decide +kernel
theorem d_X_searchSuffixes_65 : decode b_X_searchSuffixes 65 = .ok (.aload_n 0, 1) := by decide +kernel
theorem d_X_searchSuffixes_66 : decode b_X_searchSuffixes 66 = .ok (.getfield 26, 3) := by decide +kernel
theorem d_X_searchSuffixes_69 : decode b_X_searchSuffixes 69 = .ok (.iload_n 2, 1) := by decide +kernel
theorem d_X_searchSuffixes_70 : decode b_X_searchSuffixes 70 = .ok (.baload, 1) := by decide +kernel
theorem d_X_searchSuffixes_71 : decode b_X_searchSuffixes 71 = .ok (.ifCond .eq 28, 3) := by decide +kernel
theorem d_X_searchSuffixes_74 : decode b_X_searchSuffixes 74 = .ok (.aload_n 0, 1) := by decide +kernel
theorem d_X_searchSuffixes_75 : decode b_X_searchSuffixes 75 = .ok (.getfield 26, 3) := by decide +kernel
theorem d_X_searchSuffixes_78 : decode b_X_searchSuffixes 78 = .ok (.iload_n 1, 1) := by decide +kernel
theorem d_X_searchSuffixes_79 : decode b_X_searchSuffixes 79 = .ok (.baload, 1) := by decide +kernel
theorem d_X_searchSuffixes_80 : decode b_X_searchSuffixes 80 = .ok (.ifCond .eq 19, 3) := by decide +kernel
theorem d_X_searchSuffixes_83 : decode b_X_searchSuffixes 83 = .ok (.aload_n 0, 1) := by decide +kernel
theorem d_X_searchSuffixes_84 : decode b_X_searchSuffixes 84 = .ok (.iload_n 2, 1) := by decide +kernel
theorem d_X_searchSuffixes_85 : decode b_X_searchSuffixes 85 = .ok (.invokevirtual 107, 3) := by decide +kernel
theorem d_X_searchSuffixes_88 : decode b_X_searchSuffixes 88 = .ok (.istore_n 3, 1) := by decide +kernel
theorem d_X_searchSuffixes_89 : decode b_X_searchSuffixes 89 = .ok (.iload_n 3, 1) := by decide +kernel
theorem d_X_searchSuffixes_90 : decode b_X_searchSuffixes 90 = .ok (.ifCond .eq 9, 3) := by decide +kernel
theorem d_X_searchSuffixes_93 : decode b_X_searchSuffixes 93 = .ok (.aload_n 0, 1) := by decide +kernel
theorem d_X_searchSuffixes_94 : decode b_X_searchSuffixes 94 = .ok (.iload_n 2, 1) := by decide +kernel
theorem d_X_searchSuffixes_95 : decode b_X_searchSuffixes 95 = .ok (.iload_n 1, 1) := by decide +kernel
theorem d_X_searchSuffixes_96 : decode b_X_searchSuffixes 96 = .ok (.invokevirtual 104, 3) := by decide +kernel
theorem d_X_searchSuffixes_99 : decode b_X_searchSuffixes 99 = .ok (.iinc 2 1, 3) := by decide +kernel
theorem d_X_searchSuffixes_102 : decode b_X_searchSuffixes 102 = .ok (.goto (-58), 3) := by decide +kernel
theorem d_X_searchSuffixes_105 : decode b_X_searchSuffixes 105 = .ok (.return_, 1) := by decide +kernel
theorem d_X_allows_0 : decode b_X_allows 0 = .ok (.iload_n 2, 1) := by decide +kernel
theorem d_X_allows_1 : decode b_X_allows 1 = .ok (.ifCond .lt 22, 3) := by decide +kernel
theorem d_X_allows_4 : decode b_X_allows 4 = .ok (.aload_n 0, 1) := by decide +kernel
theorem d_X_allows_5 : decode b_X_allows 5 = .ok (.getfield 35, 3) := by decide +kernel
theorem d_X_allows_8 : decode b_X_allows 8 = .ok (.iload_n 1, 1) := by decide +kernel
theorem d_X_allows_9 : decode b_X_allows 9 = .ok (.iaload, 1) := by decide +kernel
theorem d_X_allows_10 : decode b_X_allows 10 = .ok (.aload_n 0, 1) := by decide +kernel
theorem d_X_allows_11 : decode b_X_allows 11 = .ok (.getfield 19, 3) := by decide +kernel
theorem d_X_allows_14 : decode b_X_allows 14 = .ok (.iload_n 2, 1) := by decide +kernel
theorem d_X_allows_15 : decode b_X_allows 15 = .ok (.iaload, 1) := by decide +kernel
theorem d_X_allows_16 : decode b_X_allows 16 = .ok (.ishr, 1) := by decide +kernel
theorem d_X_allows_17 : decode b_X_allows 17 = .ok (.iconst 1, 1) := by decide +kernel
theorem d_X_allows_18 : decode b_X_allows 18 = .ok (.iand, 1) := by decide +kernel
theorem d_X_allows_19 : decode b_X_allows 19 = .ok (.iconst 1, 1) := by decide +kernel
theorem d_X_allows_20 : decode b_X_allows 20 = .ok (.if_icmp .ne 7, 3) := by decide +kernel
theorem d_X_allows_23 : decode b_X_allows 23 = .ok (.iconst 1, 1) := by decide +kernel
theorem d_X_allows_24 : decode b_X_allows 24 = .ok (.goto 4, 3) := by decide +kernel
theorem d_X_allows_27 : decode b_X_allows 27 = .ok (.iconst 0, 1) := by decide +kernel
theorem d_X_allows_28 : decode b_X_allows 28 = .ok (.ireturn, 1) := by decide +kernel
theorem d_X_takeStems_0 : decode b_X_takeStems 0 = .ok (.aload_n 0, 1) := by decide +kernel
theorem d_X_takeStems_1 : decode b_X_takeStems 1 = .ok (.invokevirtual 110, 3) := by decide +kernel
theorem d_X_takeStems_4 : decode b_X_takeStems 4 = .ok (.istore_n 3, 1) := by decide +kernel
theorem d_X_takeStems_5 : decode b_X_takeStems 5 = .ok (.iload_n 3, 1) := by decide +kernel
theorem d_X_takeStems_6 : decode b_X_takeStems 6 = .ok (.ifCond .ge 4, 3) := by decide +kernel
theorem d_X_takeStems_9 : decode b_X_takeStems 9 = .ok (.return_, 1) := by decide +kernel
theorem d_X_takeStems_10 : decode b_X_takeStems 10 = .ok (.aload_n 0, 1) := by decide +kernel
theorem d_X_takeStems_11 : decode b_X_takeStems 11 = .ok (.getfield 41, 3) := by decide +kernel
theorem d_X_takeStems_14 : decode b_X_takeStems 14 = .ok (.iload_n 3, 1) := by decide +kernel
theorem d_X_takeStems_15 : decode b_X_takeStems 15 = .ok (.iaload, 1) := by decide +kernel
theorem d_X_takeStems_16 : decode b_X_takeStems 16 = .ok (.istore 4, 2) := by decide +kernel
theorem d_X_takeStems_18 : decode b_X_takeStems 18 = .ok (.iconst 0, 1) := by decide +kernel
theorem d_X_takeStems_19 : decode b_X_takeStems 19 = .ok (.istore 5, 2) := by decide +kernel
theorem d_X_takeStems_21 : decode b_X_takeStems 21 = .ok (.iload 5, 2) := by decide +kernel
theorem d_X_takeStems_23 : decode b_X_takeStems 23 = .ok (.bipush 12, 2) := by decide +kernel
theorem d_X_takeStems_25 : decode b_X_takeStems 25 = .ok (.if_icmp .ge 71, 3) := by decide +kernel
theorem d_X_takeStems_28 : decode b_X_takeStems 28 = .ok (.iload 4, 2) := by decide +kernel
theorem d_X_takeStems_30 : decode b_X_takeStems 30 = .ok (.ifCond .lt 66, 3) := by decide +kernel
theorem d_X_takeStems_33 : decode b_X_takeStems 33 = .ok (.aload_n 0, 1) := by decide +kernel
theorem d_X_takeStems_34 : decode b_X_takeStems 34 = .ok (.iload 4, 2) := by decide +kernel
theorem d_X_takeStems_36 : decode b_X_takeStems 36 = .ok (.iload_n 1, 1) := by decide +kernel
theorem d_X_takeStems_37 : decode b_X_takeStems 37 = .ok (.invokevirtual 114, 3) := by decide +kernel
theorem d_X_takeStems_40 : decode b_X_takeStems 40 = .ok (.istore 6, 2) := by decide +kernel
theorem d_X_takeStems_42 : decode b_X_takeStems 42 = .ok (.iload 6, 2) := by decide +kernel
theorem d_X_takeStems_44 : decode b_X_takeStems 44 = .ok (.ifCond .eq 12, 3) := by decide +kernel
theorem d_X_takeStems_47 : decode b_X_takeStems 47 = .ok (.aload_n 0, 1) := by decide +kernel
theorem d_X_takeStems_48 : decode b_X_takeStems 48 = .ok (.iload 4, 2) := by decide +kernel
theorem d_X_takeStems_50 : decode b_X_takeStems 50 = .ok (.iload_n 2, 1) := by decide +kernel
theorem d_X_takeStems_51 : decode b_X_takeStems 51 = .ok (.invokevirtual 114, 3) := by decide +kernel
theorem d_X_takeStems_54 : decode b_X_takeStems 54 = .ok (.istore 6, 2) := by decide +kernel
theorem d_X_takeStems_56 : decode b_X_takeStems 56 = .ok (.iload 6, 2) := by decide +kernel
theorem d_X_takeStems_58 : decode b_X_takeStems 58 = .ok (.ifCond .eq 23, 3) := by decide +kernel
theorem d_X_takeStems_61 : decode b_X_takeStems 61 = .ok (.aload_n 0, 1) := by decide +kernel
theorem d_X_takeStems_62 : decode b_X_takeStems 62 = .ok (.iload 4, 2) := by decide +kernel
theorem d_X_takeStems_64 : decode b_X_takeStems 64 = .ok (.bipush 121, 2) := by decide +kernel
theorem d_X_takeStems_66 : decode b_X_takeStems 66 = .ok (.imul, 1) := by decide +kernel
theorem d_X_takeStems_67 : decode b_X_takeStems 67 = .ok (.iload_n 1, 1) := by decide +kernel
theorem d_X_takeStems_68 : decode b_X_takeStems 68 = .ok (.iconst 1, 1) := by decide +kernel
theorem d_X_takeStems_69 : decode b_X_takeStems 69 = .ok (.iadd, 1) := by decide +kernel
theorem d_X_takeStems_70 : decode b_X_takeStems 70 = .ok (.bipush 11, 2) := by decide +kernel
theorem d_X_takeStems_72 : decode b_X_takeStems 72 = .ok (.imul, 1) := by decide +kernel
theorem d_X_takeStems_73 : decode b_X_takeStems 73 = .ok (.iadd, 1) := by decide +kernel
theorem d_X_takeStems_74 : decode b_X_takeStems 74 = .ok (.iload_n 2, 1) := by decide +kernel
theorem d_X_takeStems_75 : decode b_X_takeStems 75 = .ok (.iadd, 1) := by decide +kernel
theorem d_X_takeStems_76 : decode b_X_takeStems 76 = .ok (.iconst 1, 1) := by decide +kernel
theorem d_X_takeStems_77 : decode b_X_takeStems 77 = .ok (.iadd, 1) := by decide +kernel
theorem d_X_takeStems_78 : decode b_X_takeStems 78 = .ok (.invokevirtual 118, 3) := by decide +kernel
theorem d_X_takeStems_81 : decode b_X_takeStems 81 = .ok (.aload_n 0, 1) := by decide +kernel
theorem d_X_takeStems_82 : decode b_X_takeStems 82 = .ok (.getfield 44, 3) := by decide +kernel
theorem d_X_takeStems_85 : decode b_X_takeStems 85 = .ok (.iload 4, 2) := by decide +kernel
theorem d_X_takeStems_87 : decode b_X_takeStems 87 = .ok (.iaload, 1) := by decide +kernel
theorem d_X_takeStems_88 : decode b_X_takeStems 88 = .ok (.istore 4, 2) := by decide +kernel
theorem d_X_takeStems_90 : decode b_X_takeStems 90 = .ok (.iinc 5 1, 3) := by decide +kernel
theorem d_X_takeStems_93 : decode b_X_takeStems 93 = .ok (.goto (-72), 3) := by decide +kernel
theorem d_X_takeStems_96 : decode b_X_takeStems 96 = .ok (.return_, 1) := by decide +kernel
theorem d_X_addFound_0 : decode b_X_addFound 0 = .ok (.aload_n 0, 1) := by decide +kernel
theorem d_X_addFound_1 : decode b_X_addFound 1 = .ok (.getfield 93, 3) := by decide +kernel
theorem d_X_addFound_4 : decode b_X_addFound 4 = .ok (.sipush 440, 3) := by decide +kernel
theorem d_X_addFound_7 : decode b_X_addFound 7 = .ok (.if_icmp .lt 4, 3) := by decide +kernel
theorem d_X_addFound_10 : decode b_X_addFound 10 = .ok (.return_, 1) := by decide +kernel
theorem d_X_addFound_11 : decode b_X_addFound 11 = .ok (.aload_n 0, 1) := by decide +kernel
theorem d_X_addFound_12 : decode b_X_addFound 12 = .ok (.getfield 93, 3) := by decide +kernel
theorem d_X_addFound_15 : decode b_X_addFound 15 = .ok (.istore_n 2, 1) := by decide +kernel
theorem d_X_addFound_16 : decode b_X_addFound 16 = .ok (.iload_n 2, 1) := by decide +kernel
theorem d_X_addFound_17 : decode b_X_addFound 17 = .ok (.ifCond .le 35, 3) := by decide +kernel
theorem d_X_addFound_20 : decode b_X_addFound 20 = .ok (.aload_n 0, 1) := by decide +kernel
theorem d_X_addFound_21 : decode b_X_addFound 21 = .ok (.getfield 56, 3) := by decide +kernel
theorem d_X_addFound_24 : decode b_X_addFound 24 = .ok (.iload_n 2, 1) := by decide +kernel
theorem d_X_addFound_25 : decode b_X_addFound 25 = .ok (.iconst 1, 1) := by decide +kernel
theorem d_X_addFound_26 : decode b_X_addFound 26 = .ok (.isub, 1) := by decide +kernel
theorem d_X_addFound_27 : decode b_X_addFound 27 = .ok (.iaload, 1) := by decide +kernel
theorem d_X_addFound_28 : decode b_X_addFound 28 = .ok (.iload_n 1, 1) := by decide +kernel
theorem d_X_addFound_29 : decode b_X_addFound 29 = .ok (.if_icmp .le 23, 3) := by decide +kernel
theorem d_X_addFound_32 : decode b_X_addFound 32 = .ok (.aload_n 0, 1) := by decide +kernel
theorem d_X_addFound_33 : decode b_X_addFound 33 = .ok (.getfield 56, 3) := by decide +kernel
theorem d_X_addFound_36 : decode b_X_addFound 36 = .ok (.iload_n 2, 1) := by decide +kernel
theorem d_X_addFound_37 : decode b_X_addFound 37 = .ok (.aload_n 0, 1) := by decide +kernel
theorem d_X_addFound_38 : decode b_X_addFound 38 = .ok (.getfield 56, 3) := by decide +kernel
theorem d_X_addFound_41 : decode b_X_addFound 41 = .ok (.iload_n 2, 1) := by decide +kernel
theorem d_X_addFound_42 : decode b_X_addFound 42 = .ok (.iconst 1, 1) := by decide +kernel
theorem d_X_addFound_43 : decode b_X_addFound 43 = .ok (.isub, 1) := by decide +kernel
theorem d_X_addFound_44 : decode b_X_addFound 44 = .ok (.iaload, 1) := by decide +kernel
theorem d_X_addFound_45 : decode b_X_addFound 45 = .ok (.iastore, 1) := by decide +kernel
theorem d_X_addFound_46 : decode b_X_addFound 46 = .ok (.iinc 2 (-1), 3) := by decide +kernel
theorem d_X_addFound_49 : decode b_X_addFound 49 = .ok (.goto (-33), 3) := by decide +kernel
theorem d_X_addFound_52 : decode b_X_addFound 52 = .ok (.aload_n 0, 1) := by decide +kernel
theorem d_X_addFound_53 : decode b_X_addFound 53 = .ok (.getfield 56, 3) := by decide +kernel
theorem d_X_addFound_56 : decode b_X_addFound 56 = .ok (.iload_n 2, 1) := by decide +kernel
theorem d_X_addFound_57 : decode b_X_addFound 57 = .ok (.iload_n 1, 1) := by decide +kernel
theorem d_X_addFound_58 : decode b_X_addFound 58 = .ok (.iastore, 1) := by decide +kernel
theorem d_X_addFound_59 : decode b_X_addFound 59 = .ok (.aload_n 0, 1) := by decide +kernel
theorem d_X_addFound_60 : decode b_X_addFound 60 = .ok (.dup, 1) := by decide +kernel
theorem d_X_addFound_61 : decode b_X_addFound 61 = .ok (.getfield 93, 3) := by decide +kernel
theorem d_X_addFound_64 : decode b_X_addFound 64 = .ok (.iconst 1, 1) := by decide +kernel
theorem d_X_addFound_65 : decode b_X_addFound 65 = .ok (.iadd, 1) := by decide +kernel
theorem d_X_addFound_66 : decode b_X_addFound 66 = .ok (.putfield 93, 3) := by decide +kernel
theorem d_X_addFound_69 : decode b_X_addFound 69 = .ok (.return_, 1) := by decide +kernel
theorem d_X_searchTyped_0 : decode b_X_searchTyped 0 = .ok (.aload_n 0, 1) := by decide +kernel
theorem d_X_searchTyped_1 : decode b_X_searchTyped 1 = .ok (.invokevirtual 66, 3) := by decide +kernel
theorem d_X_searchTyped_4 : decode b_X_searchTyped 4 = .ok (.istore_n 1, 1) := by decide +kernel
theorem d_X_searchTyped_5 : decode b_X_searchTyped 5 = .ok (.aload_n 0, 1) := by decide +kernel
theorem d_X_searchTyped_6 : decode b_X_searchTyped 6 = .ok (.iload_n 1, 1) := by decide +kernel
theorem d_X_searchTyped_7 : decode b_X_searchTyped 7 = .ok (.ifCond .eq 7, 3) := by decide +kernel
theorem d_X_searchTyped_10 : decode b_X_searchTyped 10 = .ok (.iconst 0, 1) := by decide +kernel
theorem d_X_searchTyped_11 : decode b_X_searchTyped 11 = .ok (.goto 7, 3) := by decide +kernel
theorem d_X_searchTyped_14 : decode b_X_searchTyped 14 = .ok (.aload_n 0, 1) := by decide +kernel
theorem d_X_searchTyped_15 : decode b_X_searchTyped 15 = .ok (.getfield 63, 3) := by decide +kernel
theorem d_X_searchTyped_18 : decode b_X_searchTyped 18 = .ok (.putfield 84, 3) := by decide +kernel
theorem d_X_searchTyped_21 : decode b_X_searchTyped 21 = .ok (.iconst 0, 1) := by decide +kernel
theorem d_X_searchTyped_22 : decode b_X_searchTyped 22 = .ok (.istore_n 2, 1) := by decide +kernel
theorem d_X_searchTyped_23 : decode b_X_searchTyped 23 = .ok (.iload_n 2, 1) := by decide +kernel
theorem d_X_searchTyped_24 : decode b_X_searchTyped 24 = .ok (.aload_n 0, 1) := by decide +kernel
theorem d_X_searchTyped_25 : decode b_X_searchTyped 25 = .ok (.getfield 84, 3) := by decide +kernel
theorem d_X_searchTyped_28 : decode b_X_searchTyped 28 = .ok (.if_icmp .ge 21, 3) := by decide +kernel
theorem d_X_searchTyped_31 : decode b_X_searchTyped 31 = .ok (.aload_n 0, 1) := by decide +kernel
theorem d_X_searchTyped_32 : decode b_X_searchTyped 32 = .ok (.getfield 47, 3) := by decide +kernel
theorem d_X_searchTyped_35 : decode b_X_searchTyped 35 = .ok (.iload_n 2, 1) := by decide +kernel
theorem d_X_searchTyped_36 : decode b_X_searchTyped 36 = .ok (.aload_n 0, 1) := by decide +kernel
theorem d_X_searchTyped_37 : decode b_X_searchTyped 37 = .ok (.getfield 7, 3) := by decide +kernel
theorem d_X_searchTyped_40 : decode b_X_searchTyped 40 = .ok (.iload_n 2, 1) := by decide +kernel
theorem d_X_searchTyped_41 : decode b_X_searchTyped 41 = .ok (.iaload, 1) := by decide +kernel
theorem d_X_searchTyped_42 : decode b_X_searchTyped 42 = .ok (.iastore, 1) := by decide +kernel
theorem d_X_searchTyped_43 : decode b_X_searchTyped 43 = .ok (.iinc 2 1, 3) := by decide +kernel
theorem d_X_searchTyped_46 : decode b_X_searchTyped 46 = .ok (.goto (-23), 3) := by decide +kernel
theorem d_X_searchTyped_49 : decode b_X_searchTyped 49 = .ok (.aload_n 0, 1) := by decide +kernel
theorem d_X_searchTyped_50 : decode b_X_searchTyped 50 = .ok (.invokevirtual 121, 3) := by decide +kernel
theorem d_X_searchTyped_53 : decode b_X_searchTyped 53 = .ok (.return_, 1) := by decide +kernel
theorem d_X_length_0 : decode b_X_length 0 = .ok (.aload_n 0, 1) := by decide +kernel
theorem d_X_length_1 : decode b_X_length 1 = .ok (.getfield 63, 3) := by decide +kernel
theorem d_X_length_4 : decode b_X_length 4 = .ok (.ireturn, 1) := by decide +kernel
theorem d_X_derivations_0 : decode b_X_derivations 0 = .ok (.aload_n 0, 1) := by decide +kernel
theorem d_X_derivations_1 : decode b_X_derivations 1 = .ok (.invokevirtual 124, 3) := by decide +kernel
theorem d_X_derivations_4 : decode b_X_derivations 4 = .ok (.aload_n 0, 1) := by decide +kernel
theorem d_X_derivations_5 : decode b_X_derivations 5 = .ok (.getfield 93, 3) := by decide +kernel
theorem d_X_derivations_8 : decode b_X_derivations 8 = .ok (.ireturn, 1) := by decide +kernel
theorem d_X_stemOf_0 : decode b_X_stemOf 0 = .ok (.aload_n 0, 1) := by decide +kernel
theorem d_X_stemOf_1 : decode b_X_stemOf 1 = .ok (.invokevirtual 124, 3) := by decide +kernel
theorem d_X_stemOf_4 : decode b_X_stemOf 4 = .ok (.iload_n 1, 1) := by decide +kernel
theorem d_X_stemOf_5 : decode b_X_stemOf 5 = .ok (.ifCond .lt 11, 3) := by decide +kernel
theorem d_X_stemOf_8 : decode b_X_stemOf 8 = .ok (.iload_n 1, 1) := by decide +kernel
theorem d_X_stemOf_9 : decode b_X_stemOf 9 = .ok (.aload_n 0, 1) := by decide +kernel
theorem d_X_stemOf_10 : decode b_X_stemOf 10 = .ok (.getfield 93, 3) := by decide +kernel
theorem d_X_stemOf_13 : decode b_X_stemOf 13 = .ok (.if_icmp .lt 6, 3) := by decide +kernel
theorem d_X_stemOf_16 : decode b_X_stemOf 16 = .ok (.bipush (-6), 2) := by decide +kernel
theorem d_X_stemOf_18 : decode b_X_stemOf 18 = .ok (.ireturn, 1) := by decide +kernel
theorem d_X_stemOf_19 : decode b_X_stemOf 19 = .ok (.aload_n 0, 1) := by decide +kernel
theorem d_X_stemOf_20 : decode b_X_stemOf 20 = .ok (.getfield 56, 3) := by decide +kernel
theorem d_X_stemOf_23 : decode b_X_stemOf 23 = .ok (.iload_n 1, 1) := by decide +kernel
theorem d_X_stemOf_24 : decode b_X_stemOf 24 = .ok (.iaload, 1) := by decide +kernel
theorem d_X_stemOf_25 : decode b_X_stemOf 25 = .ok (.bipush 121, 2) := by decide +kernel
theorem d_X_stemOf_27 : decode b_X_stemOf 27 = .ok (.idiv, 1) := by decide +kernel
theorem d_X_stemOf_28 : decode b_X_stemOf 28 = .ok (.ireturn, 1) := by decide +kernel
theorem d_X_suffixOf_0 : decode b_X_suffixOf 0 = .ok (.aload_n 0, 1) := by decide +kernel
theorem d_X_suffixOf_1 : decode b_X_suffixOf 1 = .ok (.invokevirtual 124, 3) := by decide +kernel
theorem d_X_suffixOf_4 : decode b_X_suffixOf 4 = .ok (.iload_n 1, 1) := by decide +kernel
theorem d_X_suffixOf_5 : decode b_X_suffixOf 5 = .ok (.ifCond .lt 11, 3) := by decide +kernel
theorem d_X_suffixOf_8 : decode b_X_suffixOf 8 = .ok (.iload_n 1, 1) := by decide +kernel
theorem d_X_suffixOf_9 : decode b_X_suffixOf 9 = .ok (.aload_n 0, 1) := by decide +kernel
theorem d_X_suffixOf_10 : decode b_X_suffixOf 10 = .ok (.getfield 93, 3) := by decide +kernel
theorem d_X_suffixOf_13 : decode b_X_suffixOf 13 = .ok (.if_icmp .lt 6, 3) := by decide +kernel
theorem d_X_suffixOf_16 : decode b_X_suffixOf 16 = .ok (.bipush (-6), 2) := by decide +kernel
theorem d_X_suffixOf_18 : decode b_X_suffixOf 18 = .ok (.ireturn, 1) := by decide +kernel
theorem d_X_suffixOf_19 : decode b_X_suffixOf 19 = .ok (.aload_n 0, 1) := by decide +kernel
theorem d_X_suffixOf_20 : decode b_X_suffixOf 20 = .ok (.getfield 56, 3) := by decide +kernel
theorem d_X_suffixOf_23 : decode b_X_suffixOf 23 = .ok (.iload_n 1, 1) := by decide +kernel
theorem d_X_suffixOf_24 : decode b_X_suffixOf 24 = .ok (.iaload, 1) := by decide +kernel
theorem d_X_suffixOf_25 : decode b_X_suffixOf 25 = .ok (.bipush 11, 2) := by decide +kernel
theorem d_X_suffixOf_27 : decode b_X_suffixOf 27 = .ok (.idiv, 1) := by decide +kernel
theorem d_X_suffixOf_28 : decode b_X_suffixOf 28 = .ok (.bipush 11, 2) := by decide +kernel
theorem d_X_suffixOf_30 : decode b_X_suffixOf 30 = .ok (.irem, 1) := by decide +kernel
theorem d_X_suffixOf_31 : decode b_X_suffixOf 31 = .ok (.iconst 1, 1) := by decide +kernel
theorem d_X_suffixOf_32 : decode b_X_suffixOf 32 = .ok (.isub, 1) := by decide +kernel
theorem d_X_suffixOf_33 : decode b_X_suffixOf 33 = .ok (.istore_n 2, 1) := by decide +kernel
theorem d_X_suffixOf_34 : decode b_X_suffixOf 34 = .ok (.iload_n 2, 1) := by decide +kernel
theorem d_X_suffixOf_35 : decode b_X_suffixOf 35 = .ok (.ifCond .ge 8, 3) := by decide +kernel
theorem d_X_suffixOf_38 : decode b_X_suffixOf 38 = .ok (.bipush (-6), 2) := by decide +kernel
theorem d_X_suffixOf_40 : decode b_X_suffixOf 40 = .ok (.goto 4, 3) := by decide +kernel
theorem d_X_suffixOf_43 : decode b_X_suffixOf 43 = .ok (.iload_n 2, 1) := by decide +kernel
theorem d_X_suffixOf_44 : decode b_X_suffixOf 44 = .ok (.ireturn, 1) := by decide +kernel
theorem d_X_prefixOf_0 : decode b_X_prefixOf 0 = .ok (.aload_n 0, 1) := by decide +kernel
theorem d_X_prefixOf_1 : decode b_X_prefixOf 1 = .ok (.invokevirtual 124, 3) := by decide +kernel
theorem d_X_prefixOf_4 : decode b_X_prefixOf 4 = .ok (.iload_n 1, 1) := by decide +kernel
theorem d_X_prefixOf_5 : decode b_X_prefixOf 5 = .ok (.ifCond .lt 11, 3) := by decide +kernel
theorem d_X_prefixOf_8 : decode b_X_prefixOf 8 = .ok (.iload_n 1, 1) := by decide +kernel
theorem d_X_prefixOf_9 : decode b_X_prefixOf 9 = .ok (.aload_n 0, 1) := by decide +kernel
theorem d_X_prefixOf_10 : decode b_X_prefixOf 10 = .ok (.getfield 93, 3) := by decide +kernel
theorem d_X_prefixOf_13 : decode b_X_prefixOf 13 = .ok (.if_icmp .lt 6, 3) := by decide +kernel
theorem d_X_prefixOf_16 : decode b_X_prefixOf 16 = .ok (.bipush (-6), 2) := by decide +kernel
theorem d_X_prefixOf_18 : decode b_X_prefixOf 18 = .ok (.ireturn, 1) := by decide +kernel
theorem d_X_prefixOf_19 : decode b_X_prefixOf 19 = .ok (.aload_n 0, 1) := by decide +kernel
theorem d_X_prefixOf_20 : decode b_X_prefixOf 20 = .ok (.getfield 56, 3) := by decide +kernel
theorem d_X_prefixOf_23 : decode b_X_prefixOf 23 = .ok (.iload_n 1, 1) := by decide +kernel
theorem d_X_prefixOf_24 : decode b_X_prefixOf 24 = .ok (.iaload, 1) := by decide +kernel
theorem d_X_prefixOf_25 : decode b_X_prefixOf 25 = .ok (.bipush 11, 2) := by decide +kernel
theorem d_X_prefixOf_27 : decode b_X_prefixOf 27 = .ok (.irem, 1) := by decide +kernel
theorem d_X_prefixOf_28 : decode b_X_prefixOf 28 = .ok (.iconst 1, 1) := by decide +kernel
theorem d_X_prefixOf_29 : decode b_X_prefixOf 29 = .ok (.isub, 1) := by decide +kernel
theorem d_X_prefixOf_30 : decode b_X_prefixOf 30 = .ok (.istore_n 2, 1) := by decide +kernel
theorem d_X_prefixOf_31 : decode b_X_prefixOf 31 = .ok (.iload_n 2, 1) := by decide +kernel
theorem d_X_prefixOf_32 : decode b_X_prefixOf 32 = .ok (.ifCond .ge 8, 3) := by decide +kernel
theorem d_X_prefixOf_35 : decode b_X_prefixOf 35 = .ok (.bipush (-6), 2) := by decide +kernel
theorem d_X_prefixOf_37 : decode b_X_prefixOf 37 = .ok (.goto 4, 3) := by decide +kernel
theorem d_X_prefixOf_40 : decode b_X_prefixOf 40 = .ok (.iload_n 2, 1) := by decide +kernel
theorem d_X_prefixOf_41 : decode b_X_prefixOf 41 = .ok (.ireturn, 1) := by decide +kernel
theorem d_X_continuations_0 : decode b_X_continuations 0 = .ok (.aload_n 0, 1) := by decide +kernel
theorem d_X_continuations_1 : decode b_X_continuations 1 = .ok (.invokevirtual 66, 3) := by decide +kernel
theorem d_X_continuations_4 : decode b_X_continuations 4 = .ok (.istore_n 1, 1) := by decide +kernel
theorem d_X_continuations_5 : decode b_X_continuations 5 = .ok (.iload_n 1, 1) := by decide +kernel
theorem d_X_continuations_6 : decode b_X_continuations 6 = .ok (.ifCond .ne 12, 3) := by decide +kernel
theorem d_X_continuations_9 : decode b_X_continuations 9 = .ok (.aload_n 0, 1) := by decide +kernel
theorem d_X_continuations_10 : decode b_X_continuations 10 = .ok (.getfield 63, 3) := by decide +kernel
theorem d_X_continuations_13 : decode b_X_continuations 13 = .ok (.bipush 12, 2) := by decide +kernel
theorem d_X_continuations_15 : decode b_X_continuations 15 = .ok (.if_icmp .lt 5, 3) := by decide +kernel
theorem d_X_continuations_18 : decode b_X_continuations 18 = .ok (.iconst 0, 1) := by decide +kernel
theorem d_X_continuations_19 : decode b_X_continuations 19 = .ok (.ireturn, 1) := by decide +kernel
theorem d_X_continuations_20 : decode b_X_continuations 20 = .ok (.iconst 0, 1) := by decide +kernel
theorem d_X_continuations_21 : decode b_X_continuations 21 = .ok (.istore_n 2, 1) := by decide +kernel
theorem d_X_continuations_22 : decode b_X_continuations 22 = .ok (.iconst 1, 1) := by decide +kernel
theorem d_X_continuations_23 : decode b_X_continuations 23 = .ok (.istore_n 3, 1) := by decide +kernel
theorem d_X_continuations_24 : decode b_X_continuations 24 = .ok (.iload_n 3, 1) := by decide +kernel
theorem d_X_continuations_25 : decode b_X_continuations 25 = .ok (.bipush 8, 2) := by decide +kernel
theorem d_X_continuations_27 : decode b_X_continuations 27 = .ok (.if_icmp .gt 75, 3) := by decide +kernel
theorem d_X_continuations_30 : decode b_X_continuations 30 = .ok (.iconst 0, 1) := by decide +kernel
theorem d_X_continuations_31 : decode b_X_continuations 31 = .ok (.istore 4, 2) := by decide +kernel
theorem d_X_continuations_33 : decode b_X_continuations 33 = .ok (.iload 4, 2) := by decide +kernel
theorem d_X_continuations_35 : decode b_X_continuations 35 = .ok (.aload_n 0, 1) := by decide +kernel
theorem d_X_continuations_36 : decode b_X_continuations 36 = .ok (.getfield 63, 3) := by decide +kernel
theorem d_X_continuations_39 : decode b_X_continuations 39 = .ok (.if_icmp .ge 23, 3) := by decide +kernel
theorem d_X_continuations_42 : decode b_X_continuations 42 = .ok (.aload_n 0, 1) := by decide +kernel
theorem d_X_continuations_43 : decode b_X_continuations 43 = .ok (.getfield 47, 3) := by decide +kernel
theorem d_X_continuations_46 : decode b_X_continuations 46 = .ok (.iload 4, 2) := by decide +kernel
theorem d_X_continuations_48 : decode b_X_continuations 48 = .ok (.aload_n 0, 1) := by decide +kernel
theorem d_X_continuations_49 : decode b_X_continuations 49 = .ok (.getfield 7, 3) := by decide +kernel
theorem d_X_continuations_52 : decode b_X_continuations 52 = .ok (.iload 4, 2) := by decide +kernel
theorem d_X_continuations_54 : decode b_X_continuations 54 = .ok (.iaload, 1) := by decide +kernel
theorem d_X_continuations_55 : decode b_X_continuations 55 = .ok (.iastore, 1) := by decide +kernel
theorem d_X_continuations_56 : decode b_X_continuations 56 = .ok (.iinc 4 1, 3) := by decide +kernel
theorem d_X_continuations_59 : decode b_X_continuations 59 = .ok (.goto (-26), 3) := by decide +kernel
theorem d_X_continuations_62 : decode b_X_continuations 62 = .ok (.aload_n 0, 1) := by decide +kernel
theorem d_X_continuations_63 : decode b_X_continuations 63 = .ok (.getfield 47, 3) := by decide +kernel
theorem d_X_continuations_66 : decode b_X_continuations 66 = .ok (.aload_n 0, 1) := by decide +kernel
theorem d_X_continuations_67 : decode b_X_continuations 67 = .ok (.getfield 63, 3) := by decide +kernel
theorem d_X_continuations_70 : decode b_X_continuations 70 = .ok (.iload_n 3, 1) := by decide +kernel
theorem d_X_continuations_71 : decode b_X_continuations 71 = .ok (.iastore, 1) := by decide +kernel
theorem d_X_continuations_72 : decode b_X_continuations 72 = .ok (.aload_n 0, 1) := by decide +kernel
theorem d_X_continuations_73 : decode b_X_continuations 73 = .ok (.aload_n 0, 1) := by decide +kernel
theorem d_X_continuations_74 : decode b_X_continuations 74 = .ok (.getfield 63, 3) := by decide +kernel
theorem d_X_continuations_77 : decode b_X_continuations 77 = .ok (.iconst 1, 1) := by decide +kernel
theorem d_X_continuations_78 : decode b_X_continuations 78 = .ok (.iadd, 1) := by decide +kernel
theorem d_X_continuations_79 : decode b_X_continuations 79 = .ok (.putfield 84, 3) := by decide +kernel
theorem d_X_continuations_82 : decode b_X_continuations 82 = .ok (.aload_n 0, 1) := by decide +kernel
theorem d_X_continuations_83 : decode b_X_continuations 83 = .ok (.invokevirtual 121, 3) := by decide +kernel
theorem d_X_continuations_86 : decode b_X_continuations 86 = .ok (.aload_n 0, 1) := by decide +kernel
theorem d_X_continuations_87 : decode b_X_continuations 87 = .ok (.getfield 93, 3) := by decide +kernel
theorem d_X_continuations_90 : decode b_X_continuations 90 = .ok (.ifCond .le 6, 3) := by decide +kernel
theorem d_X_continuations_93 : decode b_X_continuations 93 = .ok (.iinc 2 1, 3) := by decide +kernel
theorem d_X_continuations_96 : decode b_X_continuations 96 = .ok (.iinc 3 1, 3) := by decide +kernel
theorem d_X_continuations_99 : decode b_X_continuations 99 = .ok (.goto (-75), 3) := by decide +kernel
theorem d_X_continuations_102 : decode b_X_continuations 102 = .ok (.iload_n 2, 1) := by decide +kernel
theorem d_X_continuations_103 : decode b_X_continuations 103 = .ok (.ireturn, 1) := by decide +kernel
end
section
/-! decode rows, printed by tools/names.py -/
theorem d_M_init_0 : decode b_M_init 0 = .ok (.aload_n 0, 1) := by decide +kernel
theorem d_M_init_1 : decode b_M_init 1 = .ok (.invokespecial 1, 3) := by decide +kernel
theorem d_M_init_4 : decode b_M_init 4 = .ok (.aload_n 0, 1) := by decide +kernel
theorem d_M_init_5 : decode b_M_init 5 = .ok (.bipush 12, 2) := by decide +kernel
theorem d_M_init_7 : decode b_M_init 7 = .ok (.newarray .int, 2) := by decide +kernel
theorem d_M_init_9 : decode b_M_init 9 = .ok (.putfield 7, 3) := by decide +kernel
theorem d_M_init_12 : decode b_M_init 12 = .ok (.aload_n 0, 1) := by decide +kernel
theorem d_M_init_13 : decode b_M_init 13 = .ok (.bipush 9, 2) := by decide +kernel
theorem d_M_init_15 : decode b_M_init 15 = .ok (.newarray .int, 2) := by decide +kernel
theorem d_M_init_17 : decode b_M_init 17 = .ok (.putfield 13, 3) := by decide +kernel
theorem d_M_init_20 : decode b_M_init 20 = .ok (.aload_n 0, 1) := by decide +kernel
theorem d_M_init_21 : decode b_M_init 21 = .ok (.iconst 3, 1) := by decide +kernel
theorem d_M_init_22 : decode b_M_init 22 = .ok (.newarray .int, 2) := by decide +kernel
theorem d_M_init_24 : decode b_M_init 24 = .ok (.putfield 16, 3) := by decide +kernel
theorem d_M_init_27 : decode b_M_init 27 = .ok (.aload_n 0, 1) := by decide +kernel
theorem d_M_init_28 : decode b_M_init 28 = .ok (.bipush 10, 2) := by decide +kernel
theorem d_M_init_30 : decode b_M_init 30 = .ok (.newarray .int, 2) := by decide +kernel
theorem d_M_init_32 : decode b_M_init 32 = .ok (.putfield 19, 3) := by decide +kernel
theorem d_M_init_35 : decode b_M_init 35 = .ok (.aload_n 0, 1) := by decide +kernel
theorem d_M_init_36 : decode b_M_init 36 = .ok (.bipush 10, 2) := by decide +kernel
theorem d_M_init_38 : decode b_M_init 38 = .ok (.newarray .boolean, 2) := by decide +kernel
theorem d_M_init_40 : decode b_M_init 40 = .ok (.putfield 22, 3) := by decide +kernel
theorem d_M_init_43 : decode b_M_init 43 = .ok (.aload_n 0, 1) := by decide +kernel
theorem d_M_init_44 : decode b_M_init 44 = .ok (.bipush 10, 2) := by decide +kernel
theorem d_M_init_46 : decode b_M_init 46 = .ok (.newarray .boolean, 2) := by decide +kernel
theorem d_M_init_48 : decode b_M_init 48 = .ok (.putfield 26, 3) := by decide +kernel
theorem d_M_init_51 : decode b_M_init 51 = .ok (.aload_n 0, 1) := by decide +kernel
theorem d_M_init_52 : decode b_M_init 52 = .ok (.bipush 90, 2) := by decide +kernel
theorem d_M_init_54 : decode b_M_init 54 = .ok (.newarray .int, 2) := by decide +kernel
theorem d_M_init_56 : decode b_M_init 56 = .ok (.putfield 29, 3) := by decide +kernel
theorem d_M_init_59 : decode b_M_init 59 = .ok (.aload_n 0, 1) := by decide +kernel
theorem d_M_init_60 : decode b_M_init 60 = .ok (.bipush 30, 2) := by decide +kernel
theorem d_M_init_62 : decode b_M_init 62 = .ok (.newarray .int, 2) := by decide +kernel
theorem d_M_init_64 : decode b_M_init 64 = .ok (.putfield 32, 3) := by decide +kernel
theorem d_M_init_67 : decode b_M_init 67 = .ok (.aload_n 0, 1) := by decide +kernel
theorem d_M_init_68 : decode b_M_init 68 = .ok (.bipush 12, 2) := by decide +kernel
theorem d_M_init_70 : decode b_M_init 70 = .ok (.newarray .int, 2) := by decide +kernel
theorem d_M_init_72 : decode b_M_init 72 = .ok (.putfield 35, 3) := by decide +kernel
theorem d_M_init_75 : decode b_M_init 75 = .ok (.aload_n 0, 1) := by decide +kernel
theorem d_M_init_76 : decode b_M_init 76 = .ok (.bipush 12, 2) := by decide +kernel
theorem d_M_init_78 : decode b_M_init 78 = .ok (.newarray .int, 2) := by decide +kernel
theorem d_M_init_80 : decode b_M_init 80 = .ok (.putfield 38, 3) := by decide +kernel
theorem d_M_init_83 : decode b_M_init 83 = .ok (.aload_n 0, 1) := by decide +kernel
theorem d_M_init_84 : decode b_M_init 84 = .ok (.sipush 144, 3) := by decide +kernel
theorem d_M_init_87 : decode b_M_init 87 = .ok (.newarray .int, 2) := by decide +kernel
theorem d_M_init_89 : decode b_M_init 89 = .ok (.putfield 41, 3) := by decide +kernel
theorem d_M_init_92 : decode b_M_init 92 = .ok (.aload_n 0, 1) := by decide +kernel
theorem d_M_init_93 : decode b_M_init 93 = .ok (.bipush 24, 2) := by decide +kernel
theorem d_M_init_95 : decode b_M_init 95 = .ok (.newarray .int, 2) := by decide +kernel
theorem d_M_init_97 : decode b_M_init 97 = .ok (.putfield 44, 3) := by decide +kernel
theorem d_M_init_100 : decode b_M_init 100 = .ok (.aload_n 0, 1) := by decide +kernel
theorem d_M_init_101 : decode b_M_init 101 = .ok (.bipush 24, 2) := by decide +kernel
theorem d_M_init_103 : decode b_M_init 103 = .ok (.newarray .int, 2) := by decide +kernel
theorem d_M_init_105 : decode b_M_init 105 = .ok (.putfield 47, 3) := by decide +kernel
theorem d_M_init_108 : decode b_M_init 108 = .ok (.return_, 1) := by decide +kernel
theorem d_M_type_0 : decode b_M_type 0 = .ok (.iload_n 1, 1) := by decide +kernel
theorem d_M_type_1 : decode b_M_type 1 = .ok (.iconst 1, 1) := by decide +kernel
theorem d_M_type_2 : decode b_M_type 2 = .ok (.if_icmp .lt 9, 3) := by decide +kernel
theorem d_M_type_5 : decode b_M_type 5 = .ok (.iload_n 1, 1) := by decide +kernel
theorem d_M_type_6 : decode b_M_type 6 = .ok (.bipush 9, 2) := by decide +kernel
theorem d_M_type_8 : decode b_M_type 8 = .ok (.if_icmp .le 5, 3) := by decide +kernel
theorem d_M_type_11 : decode b_M_type 11 = .ok (.iconst (-1), 1) := by decide +kernel
theorem d_M_type_12 : decode b_M_type 12 = .ok (.ireturn, 1) := by decide +kernel
theorem d_M_type_13 : decode b_M_type 13 = .ok (.aload_n 0, 1) := by decide +kernel
theorem d_M_type_14 : decode b_M_type 14 = .ok (.getfield 50, 3) := by decide +kernel
theorem d_M_type_17 : decode b_M_type 17 = .ok (.bipush 12, 2) := by decide +kernel
theorem d_M_type_19 : decode b_M_type 19 = .ok (.if_icmp .ne 6, 3) := by decide +kernel
theorem d_M_type_22 : decode b_M_type 22 = .ok (.bipush (-2), 2) := by decide +kernel
theorem d_M_type_24 : decode b_M_type 24 = .ok (.ireturn, 1) := by decide +kernel
theorem d_M_type_25 : decode b_M_type 25 = .ok (.aload_n 0, 1) := by decide +kernel
theorem d_M_type_26 : decode b_M_type 26 = .ok (.getfield 7, 3) := by decide +kernel
theorem d_M_type_29 : decode b_M_type 29 = .ok (.aload_n 0, 1) := by decide +kernel
theorem d_M_type_30 : decode b_M_type 30 = .ok (.getfield 50, 3) := by decide +kernel
theorem d_M_type_33 : decode b_M_type 33 = .ok (.iload_n 1, 1) := by decide +kernel
theorem d_M_type_34 : decode b_M_type 34 = .ok (.iastore, 1) := by decide +kernel
theorem d_M_type_35 : decode b_M_type 35 = .ok (.aload_n 0, 1) := by decide +kernel
theorem d_M_type_36 : decode b_M_type 36 = .ok (.aload_n 0, 1) := by decide +kernel
theorem d_M_type_37 : decode b_M_type 37 = .ok (.getfield 50, 3) := by decide +kernel
theorem d_M_type_40 : decode b_M_type 40 = .ok (.iconst 1, 1) := by decide +kernel
theorem d_M_type_41 : decode b_M_type 41 = .ok (.iadd, 1) := by decide +kernel
theorem d_M_type_42 : decode b_M_type 42 = .ok (.putfield 50, 3) := by decide +kernel
theorem d_M_type_45 : decode b_M_type 45 = .ok (.aload_n 0, 1) := by decide +kernel
theorem d_M_type_46 : decode b_M_type 46 = .ok (.getfield 50, 3) := by decide +kernel
theorem d_M_type_49 : decode b_M_type 49 = .ok (.ireturn, 1) := by decide +kernel
theorem d_M_erase_0 : decode b_M_erase 0 = .ok (.aload_n 0, 1) := by decide +kernel
theorem d_M_erase_1 : decode b_M_erase 1 = .ok (.iconst 0, 1) := by decide +kernel
theorem d_M_erase_2 : decode b_M_erase 2 = .ok (.putfield 50, 3) := by decide +kernel
theorem d_M_erase_5 : decode b_M_erase 5 = .ok (.return_, 1) := by decide +kernel
theorem d_M_nine_0 : decode b_M_nine 0 = .ok (.iconst 0, 1) := by decide +kernel
theorem d_M_nine_1 : decode b_M_nine 1 = .ok (.istore_n 1, 1) := by decide +kernel
theorem d_M_nine_2 : decode b_M_nine 2 = .ok (.iload_n 1, 1) := by decide +kernel
theorem d_M_nine_3 : decode b_M_nine 3 = .ok (.aload_n 0, 1) := by decide +kernel
theorem d_M_nine_4 : decode b_M_nine 4 = .ok (.getfield 50, 3) := by decide +kernel
theorem d_M_nine_7 : decode b_M_nine 7 = .ok (.if_icmp .ge 22, 3) := by decide +kernel
theorem d_M_nine_10 : decode b_M_nine 10 = .ok (.aload_n 0, 1) := by decide +kernel
theorem d_M_nine_11 : decode b_M_nine 11 = .ok (.getfield 7, 3) := by decide +kernel
theorem d_M_nine_14 : decode b_M_nine 14 = .ok (.iload_n 1, 1) := by decide +kernel
theorem d_M_nine_15 : decode b_M_nine 15 = .ok (.iaload, 1) := by decide +kernel
theorem d_M_nine_16 : decode b_M_nine 16 = .ok (.bipush 9, 2) := by decide +kernel
theorem d_M_nine_18 : decode b_M_nine 18 = .ok (.if_icmp .ne 5, 3) := by decide +kernel
theorem d_M_nine_21 : decode b_M_nine 21 = .ok (.iconst 1, 1) := by decide +kernel
theorem d_M_nine_22 : decode b_M_nine 22 = .ok (.ireturn, 1) := by decide +kernel
theorem d_M_nine_23 : decode b_M_nine 23 = .ok (.iinc 1 1, 3) := by decide +kernel
theorem d_M_nine_26 : decode b_M_nine 26 = .ok (.goto (-24), 3) := by decide +kernel
theorem d_M_nine_29 : decode b_M_nine 29 = .ok (.iconst 0, 1) := by decide +kernel
theorem d_M_nine_30 : decode b_M_nine 30 = .ok (.ireturn, 1) := by decide +kernel
theorem d_M_keep_0 : decode b_M_keep 0 = .ok (.iload_n 1, 1) := by decide +kernel
theorem d_M_keep_1 : decode b_M_keep 1 = .ok (.ifCond .lt 8, 3) := by decide +kernel
theorem d_M_keep_4 : decode b_M_keep 4 = .ok (.iload_n 1, 1) := by decide +kernel
theorem d_M_keep_5 : decode b_M_keep 5 = .ok (.iconst 2, 1) := by decide +kernel
theorem d_M_keep_6 : decode b_M_keep 6 = .ok (.if_icmp .le 6, 3) := by decide +kernel
theorem d_M_keep_9 : decode b_M_keep 9 = .ok (.bipush (-4), 2) := by decide +kernel
theorem d_M_keep_11 : decode b_M_keep 11 = .ok (.ireturn, 1) := by decide +kernel
theorem d_M_keep_12 : decode b_M_keep 12 = .ok (.aload_n 0, 1) := by decide +kernel
theorem d_M_keep_13 : decode b_M_keep 13 = .ok (.getfield 50, 3) := by decide +kernel
theorem d_M_keep_16 : decode b_M_keep 16 = .ok (.iconst 3, 1) := by decide +kernel
theorem d_M_keep_17 : decode b_M_keep 17 = .ok (.if_icmp .gt 15, 3) := by decide +kernel
theorem d_M_keep_20 : decode b_M_keep 20 = .ok (.iload_n 1, 1) := by decide +kernel
theorem d_M_keep_21 : decode b_M_keep 21 = .ok (.iconst 2, 1) := by decide +kernel
theorem d_M_keep_22 : decode b_M_keep 22 = .ok (.if_icmp .eq 13, 3) := by decide +kernel
theorem d_M_keep_25 : decode b_M_keep 25 = .ok (.aload_n 0, 1) := by decide +kernel
theorem d_M_keep_26 : decode b_M_keep 26 = .ok (.invokevirtual 54, 3) := by decide +kernel
theorem d_M_keep_29 : decode b_M_keep 29 = .ok (.ifCond .eq 6, 3) := by decide +kernel
theorem d_M_keep_32 : decode b_M_keep 32 = .ok (.bipush (-3), 2) := by decide +kernel
theorem d_M_keep_34 : decode b_M_keep 34 = .ok (.ireturn, 1) := by decide +kernel
theorem d_M_keep_35 : decode b_M_keep 35 = .ok (.iconst 0, 1) := by decide +kernel
theorem d_M_keep_36 : decode b_M_keep 36 = .ok (.istore_n 2, 1) := by decide +kernel
theorem d_M_keep_37 : decode b_M_keep 37 = .ok (.iload_n 2, 1) := by decide +kernel
theorem d_M_keep_38 : decode b_M_keep 38 = .ok (.aload_n 0, 1) := by decide +kernel
theorem d_M_keep_39 : decode b_M_keep 39 = .ok (.getfield 50, 3) := by decide +kernel
theorem d_M_keep_42 : decode b_M_keep 42 = .ok (.if_icmp .ge 25, 3) := by decide +kernel
theorem d_M_keep_45 : decode b_M_keep 45 = .ok (.aload_n 0, 1) := by decide +kernel
theorem d_M_keep_46 : decode b_M_keep 46 = .ok (.getfield 13, 3) := by decide +kernel
theorem d_M_keep_49 : decode b_M_keep 49 = .ok (.iload_n 1, 1) := by decide +kernel
theorem d_M_keep_50 : decode b_M_keep 50 = .ok (.iconst 3, 1) := by decide +kernel
theorem d_M_keep_51 : decode b_M_keep 51 = .ok (.imul, 1) := by decide +kernel
theorem d_M_keep_52 : decode b_M_keep 52 = .ok (.iload_n 2, 1) := by decide +kernel
theorem d_M_keep_53 : decode b_M_keep 53 = .ok (.iadd, 1) := by decide +kernel
theorem d_M_keep_54 : decode b_M_keep 54 = .ok (.aload_n 0, 1) := by decide +kernel
theorem d_M_keep_55 : decode b_M_keep 55 = .ok (.getfield 7, 3) := by decide +kernel
theorem d_M_keep_58 : decode b_M_keep 58 = .ok (.iload_n 2, 1) := by decide +kernel
theorem d_M_keep_59 : decode b_M_keep 59 = .ok (.iaload, 1) := by decide +kernel
theorem d_M_keep_60 : decode b_M_keep 60 = .ok (.iastore, 1) := by decide +kernel
theorem d_M_keep_61 : decode b_M_keep 61 = .ok (.iinc 2 1, 3) := by decide +kernel
theorem d_M_keep_64 : decode b_M_keep 64 = .ok (.goto (-27), 3) := by decide +kernel
theorem d_M_keep_67 : decode b_M_keep 67 = .ok (.aload_n 0, 1) := by decide +kernel
theorem d_M_keep_68 : decode b_M_keep 68 = .ok (.getfield 16, 3) := by decide +kernel
theorem d_M_keep_71 : decode b_M_keep 71 = .ok (.iload_n 1, 1) := by decide +kernel
theorem d_M_keep_72 : decode b_M_keep 72 = .ok (.aload_n 0, 1) := by decide +kernel
theorem d_M_keep_73 : decode b_M_keep 73 = .ok (.getfield 50, 3) := by decide +kernel
theorem d_M_keep_76 : decode b_M_keep 76 = .ok (.iastore, 1) := by decide +kernel
theorem d_M_keep_77 : decode b_M_keep 77 = .ok (.aload_n 0, 1) := by decide +kernel
theorem d_M_keep_78 : decode b_M_keep 78 = .ok (.iconst 0, 1) := by decide +kernel
theorem d_M_keep_79 : decode b_M_keep 79 = .ok (.putfield 50, 3) := by decide +kernel
theorem d_M_keep_82 : decode b_M_keep 82 = .ok (.aload_n 0, 1) := by decide +kernel
theorem d_M_keep_83 : decode b_M_keep 83 = .ok (.getfield 16, 3) := by decide +kernel
theorem d_M_keep_86 : decode b_M_keep 86 = .ok (.iload_n 1, 1) := by decide +kernel
theorem d_M_keep_87 : decode b_M_keep 87 = .ok (.iaload, 1) := by decide +kernel
theorem d_M_keep_88 : decode b_M_keep 88 = .ok (.ireturn, 1) := by decide +kernel
theorem d_M_rule_0 : decode b_M_rule 0 = .ok (.iload_n 1, 1) := by decide +kernel
theorem d_M_rule_1 : decode b_M_rule 1 = .ok (.ifCond .lt 9, 3) := by decide +kernel
theorem d_M_rule_4 : decode b_M_rule 4 = .ok (.iload_n 1, 1) := by decide +kernel
theorem d_M_rule_5 : decode b_M_rule 5 = .ok (.bipush 7, 2) := by decide +kernel
theorem d_M_rule_7 : decode b_M_rule 7 = .ok (.if_icmp .le 6, 3) := by decide +kernel
theorem d_M_rule_10 : decode b_M_rule 10 = .ok (.bipush (-5), 2) := by decide +kernel
theorem d_M_rule_12 : decode b_M_rule 12 = .ok (.ireturn, 1) := by decide +kernel
theorem d_M_rule_13 : decode b_M_rule 13 = .ok (.aload_n 0, 1) := by decide +kernel
theorem d_M_rule_14 : decode b_M_rule 14 = .ok (.getfield 58, 3) := by decide +kernel
theorem d_M_rule_17 : decode b_M_rule 17 = .ok (.bipush 10, 2) := by decide +kernel
theorem d_M_rule_19 : decode b_M_rule 19 = .ok (.if_icmp .ne 6, 3) := by decide +kernel
theorem d_M_rule_22 : decode b_M_rule 22 = .ok (.bipush (-2), 2) := by decide +kernel
theorem d_M_rule_24 : decode b_M_rule 24 = .ok (.ireturn, 1) := by decide +kernel
theorem d_M_rule_25 : decode b_M_rule 25 = .ok (.aload_n 0, 1) := by decide +kernel
theorem d_M_rule_26 : decode b_M_rule 26 = .ok (.getfield 19, 3) := by decide +kernel
theorem d_M_rule_29 : decode b_M_rule 29 = .ok (.aload_n 0, 1) := by decide +kernel
theorem d_M_rule_30 : decode b_M_rule 30 = .ok (.getfield 58, 3) := by decide +kernel
theorem d_M_rule_33 : decode b_M_rule 33 = .ok (.iload_n 1, 1) := by decide +kernel
theorem d_M_rule_34 : decode b_M_rule 34 = .ok (.iastore, 1) := by decide +kernel
theorem d_M_rule_35 : decode b_M_rule 35 = .ok (.aload_n 0, 1) := by decide +kernel
theorem d_M_rule_36 : decode b_M_rule 36 = .ok (.getfield 22, 3) := by decide +kernel
theorem d_M_rule_39 : decode b_M_rule 39 = .ok (.aload_n 0, 1) := by decide +kernel
theorem d_M_rule_40 : decode b_M_rule 40 = .ok (.getfield 58, 3) := by decide +kernel
theorem d_M_rule_43 : decode b_M_rule 43 = .ok (.iload_n 2, 1) := by decide +kernel
theorem d_M_rule_44 : decode b_M_rule 44 = .ok (.bastore, 1) := by decide +kernel
theorem d_M_rule_45 : decode b_M_rule 45 = .ok (.aload_n 0, 1) := by decide +kernel
theorem d_M_rule_46 : decode b_M_rule 46 = .ok (.getfield 26, 3) := by decide +kernel
theorem d_M_rule_49 : decode b_M_rule 49 = .ok (.aload_n 0, 1) := by decide +kernel
theorem d_M_rule_50 : decode b_M_rule 50 = .ok (.getfield 58, 3) := by decide +kernel
theorem d_M_rule_53 : decode b_M_rule 53 = .ok (.iload_n 3, 1) := by decide +kernel
theorem d_M_rule_54 : decode b_M_rule 54 = .ok (.bastore, 1) := by decide +kernel
theorem d_M_rule_55 : decode b_M_rule 55 = .ok (.iconst 0, 1) := by decide +kernel
theorem d_M_rule_56 : decode b_M_rule 56 = .ok (.istore 4, 2) := by decide +kernel
theorem d_M_rule_58 : decode b_M_rule 58 = .ok (.iload 4, 2) := by decide +kernel
theorem d_M_rule_60 : decode b_M_rule 60 = .ok (.bipush 9, 2) := by decide +kernel
theorem d_M_rule_62 : decode b_M_rule 62 = .ok (.if_icmp .ge 31, 3) := by decide +kernel
theorem d_M_rule_65 : decode b_M_rule 65 = .ok (.aload_n 0, 1) := by decide +kernel
theorem d_M_rule_66 : decode b_M_rule 66 = .ok (.getfield 29, 3) := by decide +kernel
theorem d_M_rule_69 : decode b_M_rule 69 = .ok (.aload_n 0, 1) := by decide +kernel
theorem d_M_rule_70 : decode b_M_rule 70 = .ok (.getfield 58, 3) := by decide +kernel
theorem d_M_rule_73 : decode b_M_rule 73 = .ok (.bipush 9, 2) := by decide +kernel
theorem d_M_rule_75 : decode b_M_rule 75 = .ok (.imul, 1) := by decide +kernel
theorem d_M_rule_76 : decode b_M_rule 76 = .ok (.iload 4, 2) := by decide +kernel
theorem d_M_rule_78 : decode b_M_rule 78 = .ok (.iadd, 1) := by decide +kernel
theorem d_M_rule_79 : decode b_M_rule 79 = .ok (.aload_n 0, 1) := by decide +kernel
theorem d_M_rule_80 : decode b_M_rule 80 = .ok (.getfield 13, 3) := by decide +kernel
theorem d_M_rule_83 : decode b_M_rule 83 = .ok (.iload 4, 2) := by decide +kernel
theorem d_M_rule_85 : decode b_M_rule 85 = .ok (.iaload, 1) := by decide +kernel
theorem d_M_rule_86 : decode b_M_rule 86 = .ok (.iastore, 1) := by decide +kernel
theorem d_M_rule_87 : decode b_M_rule 87 = .ok (.iinc 4 1, 3) := by decide +kernel
theorem d_M_rule_90 : decode b_M_rule 90 = .ok (.goto (-32), 3) := by decide +kernel
theorem d_M_rule_93 : decode b_M_rule 93 = .ok (.iconst 0, 1) := by decide +kernel
theorem d_M_rule_94 : decode b_M_rule 94 = .ok (.istore 4, 2) := by decide +kernel
theorem d_M_rule_96 : decode b_M_rule 96 = .ok (.iload 4, 2) := by decide +kernel
theorem d_M_rule_98 : decode b_M_rule 98 = .ok (.iconst 3, 1) := by decide +kernel
theorem d_M_rule_99 : decode b_M_rule 99 = .ok (.if_icmp .ge 30, 3) := by decide +kernel
theorem d_M_rule_102 : decode b_M_rule 102 = .ok (.aload_n 0, 1) := by decide +kernel
theorem d_M_rule_103 : decode b_M_rule 103 = .ok (.getfield 32, 3) := by decide +kernel
theorem d_M_rule_106 : decode b_M_rule 106 = .ok (.aload_n 0, 1) := by decide +kernel
theorem d_M_rule_107 : decode b_M_rule 107 = .ok (.getfield 58, 3) := by decide +kernel
theorem d_M_rule_110 : decode b_M_rule 110 = .ok (.iconst 3, 1) := by decide +kernel
theorem d_M_rule_111 : decode b_M_rule 111 = .ok (.imul, 1) := by decide +kernel
theorem d_M_rule_112 : decode b_M_rule 112 = .ok (.iload 4, 2) := by decide +kernel
theorem d_M_rule_114 : decode b_M_rule 114 = .ok (.iadd, 1) := by decide +kernel
theorem d_M_rule_115 : decode b_M_rule 115 = .ok (.aload_n 0, 1) := by decide +kernel
theorem d_M_rule_116 : decode b_M_rule 116 = .ok (.getfield 16, 3) := by decide +kernel
theorem d_M_rule_119 : decode b_M_rule 119 = .ok (.iload 4, 2) := by decide +kernel
theorem d_M_rule_121 : decode b_M_rule 121 = .ok (.iaload, 1) := by decide +kernel
theorem d_M_rule_122 : decode b_M_rule 122 = .ok (.iastore, 1) := by decide +kernel
theorem d_M_rule_123 : decode b_M_rule 123 = .ok (.iinc 4 1, 3) := by decide +kernel
theorem d_M_rule_126 : decode b_M_rule 126 = .ok (.goto (-30), 3) := by decide +kernel
theorem d_M_rule_129 : decode b_M_rule 129 = .ok (.aload_n 0, 1) := by decide +kernel
theorem d_M_rule_130 : decode b_M_rule 130 = .ok (.aload_n 0, 1) := by decide +kernel
theorem d_M_rule_131 : decode b_M_rule 131 = .ok (.getfield 58, 3) := by decide +kernel
theorem d_M_rule_134 : decode b_M_rule 134 = .ok (.iconst 1, 1) := by decide +kernel
theorem d_M_rule_135 : decode b_M_rule 135 = .ok (.iadd, 1) := by decide +kernel
theorem d_M_rule_136 : decode b_M_rule 136 = .ok (.putfield 58, 3) := by decide +kernel
theorem d_M_rule_139 : decode b_M_rule 139 = .ok (.aload_n 0, 1) := by decide +kernel
theorem d_M_rule_140 : decode b_M_rule 140 = .ok (.getfield 58, 3) := by decide +kernel
theorem d_M_rule_143 : decode b_M_rule 143 = .ok (.iconst 1, 1) := by decide +kernel
theorem d_M_rule_144 : decode b_M_rule 144 = .ok (.isub, 1) := by decide +kernel
theorem d_M_rule_145 : decode b_M_rule 145 = .ok (.ireturn, 1) := by decide +kernel
theorem d_M_stem_0 : decode b_M_stem 0 = .ok (.aload_n 0, 1) := by decide +kernel
theorem d_M_stem_1 : decode b_M_stem 1 = .ok (.getfield 50, 3) := by decide +kernel
theorem d_M_stem_4 : decode b_M_stem 4 = .ok (.ifCond .eq 10, 3) := by decide +kernel
theorem d_M_stem_7 : decode b_M_stem 7 = .ok (.aload_n 0, 1) := by decide +kernel
theorem d_M_stem_8 : decode b_M_stem 8 = .ok (.invokevirtual 54, 3) := by decide +kernel
theorem d_M_stem_11 : decode b_M_stem 11 = .ok (.ifCond .eq 6, 3) := by decide +kernel
theorem d_M_stem_14 : decode b_M_stem 14 = .ok (.bipush (-3), 2) := by decide +kernel
theorem d_M_stem_16 : decode b_M_stem 16 = .ok (.ireturn, 1) := by decide +kernel
theorem d_M_stem_17 : decode b_M_stem 17 = .ok (.aload_n 0, 1) := by decide +kernel
theorem d_M_stem_18 : decode b_M_stem 18 = .ok (.getfield 61, 3) := by decide +kernel
theorem d_M_stem_21 : decode b_M_stem 21 = .ok (.bipush 12, 2) := by decide +kernel
theorem d_M_stem_23 : decode b_M_stem 23 = .ok (.if_icmp .ne 6, 3) := by decide +kernel
theorem d_M_stem_26 : decode b_M_stem 26 = .ok (.bipush (-2), 2) := by decide +kernel
theorem d_M_stem_28 : decode b_M_stem 28 = .ok (.ireturn, 1) := by decide +kernel
theorem d_M_stem_29 : decode b_M_stem 29 = .ok (.iconst 0, 1) := by decide +kernel
theorem d_M_stem_30 : decode b_M_stem 30 = .ok (.istore_n 2, 1) := by decide +kernel
theorem d_M_stem_31 : decode b_M_stem 31 = .ok (.iload_n 2, 1) := by decide +kernel
theorem d_M_stem_32 : decode b_M_stem 32 = .ok (.aload_n 0, 1) := by decide +kernel
theorem d_M_stem_33 : decode b_M_stem 33 = .ok (.getfield 50, 3) := by decide +kernel
theorem d_M_stem_36 : decode b_M_stem 36 = .ok (.if_icmp .ge 29, 3) := by decide +kernel
theorem d_M_stem_39 : decode b_M_stem 39 = .ok (.aload_n 0, 1) := by decide +kernel
theorem d_M_stem_40 : decode b_M_stem 40 = .ok (.getfield 41, 3) := by decide +kernel
theorem d_M_stem_43 : decode b_M_stem 43 = .ok (.aload_n 0, 1) := by decide +kernel
theorem d_M_stem_44 : decode b_M_stem 44 = .ok (.getfield 61, 3) := by decide +kernel
theorem d_M_stem_47 : decode b_M_stem 47 = .ok (.bipush 12, 2) := by decide +kernel
theorem d_M_stem_49 : decode b_M_stem 49 = .ok (.imul, 1) := by decide +kernel
theorem d_M_stem_50 : decode b_M_stem 50 = .ok (.iload_n 2, 1) := by decide +kernel
theorem d_M_stem_51 : decode b_M_stem 51 = .ok (.iadd, 1) := by decide +kernel
theorem d_M_stem_52 : decode b_M_stem 52 = .ok (.aload_n 0, 1) := by decide +kernel
theorem d_M_stem_53 : decode b_M_stem 53 = .ok (.getfield 7, 3) := by decide +kernel
theorem d_M_stem_56 : decode b_M_stem 56 = .ok (.iload_n 2, 1) := by decide +kernel
theorem d_M_stem_57 : decode b_M_stem 57 = .ok (.iaload, 1) := by decide +kernel
theorem d_M_stem_58 : decode b_M_stem 58 = .ok (.iastore, 1) := by decide +kernel
theorem d_M_stem_59 : decode b_M_stem 59 = .ok (.iinc 2 1, 3) := by decide +kernel
theorem d_M_stem_62 : decode b_M_stem 62 = .ok (.goto (-31), 3) := by decide +kernel
theorem d_M_stem_65 : decode b_M_stem 65 = .ok (.aload_n 0, 1) := by decide +kernel
theorem d_M_stem_66 : decode b_M_stem 66 = .ok (.getfield 38, 3) := by decide +kernel
theorem d_M_stem_69 : decode b_M_stem 69 = .ok (.aload_n 0, 1) := by decide +kernel
theorem d_M_stem_70 : decode b_M_stem 70 = .ok (.getfield 61, 3) := by decide +kernel
theorem d_M_stem_73 : decode b_M_stem 73 = .ok (.aload_n 0, 1) := by decide +kernel
theorem d_M_stem_74 : decode b_M_stem 74 = .ok (.getfield 50, 3) := by decide +kernel
theorem d_M_stem_77 : decode b_M_stem 77 = .ok (.iastore, 1) := by decide +kernel
theorem d_M_stem_78 : decode b_M_stem 78 = .ok (.aload_n 0, 1) := by decide +kernel
theorem d_M_stem_79 : decode b_M_stem 79 = .ok (.getfield 35, 3) := by decide +kernel
theorem d_M_stem_82 : decode b_M_stem 82 = .ok (.aload_n 0, 1) := by decide +kernel
theorem d_M_stem_83 : decode b_M_stem 83 = .ok (.getfield 61, 3) := by decide +kernel
theorem d_M_stem_86 : decode b_M_stem 86 = .ok (.iload_n 1, 1) := by decide +kernel
theorem d_M_stem_87 : decode b_M_stem 87 = .ok (.sipush 255, 3) := by decide +kernel
theorem d_M_stem_90 : decode b_M_stem 90 = .ok (.iand, 1) := by decide +kernel
theorem d_M_stem_91 : decode b_M_stem 91 = .ok (.iastore, 1) := by decide +kernel
theorem d_M_stem_92 : decode b_M_stem 92 = .ok (.aload_n 0, 1) := by decide +kernel
theorem d_M_stem_93 : decode b_M_stem 93 = .ok (.iconst 0, 1) := by decide +kernel
theorem d_M_stem_94 : decode b_M_stem 94 = .ok (.putfield 50, 3) := by decide +kernel
theorem d_M_stem_97 : decode b_M_stem 97 = .ok (.aload_n 0, 1) := by decide +kernel
theorem d_M_stem_98 : decode b_M_stem 98 = .ok (.aload_n 0, 1) := by decide +kernel
theorem d_M_stem_99 : decode b_M_stem 99 = .ok (.getfield 61, 3) := by decide +kernel
theorem d_M_stem_102 : decode b_M_stem 102 = .ok (.iconst 1, 1) := by decide +kernel
theorem d_M_stem_103 : decode b_M_stem 103 = .ok (.iadd, 1) := by decide +kernel
theorem d_M_stem_104 : decode b_M_stem 104 = .ok (.putfield 61, 3) := by decide +kernel
theorem d_M_stem_107 : decode b_M_stem 107 = .ok (.aload_n 0, 1) := by decide +kernel
theorem d_M_stem_108 : decode b_M_stem 108 = .ok (.getfield 61, 3) := by decide +kernel
theorem d_M_stem_111 : decode b_M_stem 111 = .ok (.iconst 1, 1) := by decide +kernel
theorem d_M_stem_112 : decode b_M_stem 112 = .ok (.isub, 1) := by decide +kernel
theorem d_M_stem_113 : decode b_M_stem 113 = .ok (.ireturn, 1) := by decide +kernel
theorem d_M_reflag_0 : decode b_M_reflag 0 = .ok (.iload_n 1, 1) := by decide +kernel
theorem d_M_reflag_1 : decode b_M_reflag 1 = .ok (.ifCond .lt 11, 3) := by decide +kernel
theorem d_M_reflag_4 : decode b_M_reflag 4 = .ok (.iload_n 1, 1) := by decide +kernel
theorem d_M_reflag_5 : decode b_M_reflag 5 = .ok (.aload_n 0, 1) := by decide +kernel
theorem d_M_reflag_6 : decode b_M_reflag 6 = .ok (.getfield 61, 3) := by decide +kernel
theorem d_M_reflag_9 : decode b_M_reflag 9 = .ok (.if_icmp .lt 6, 3) := by decide +kernel
theorem d_M_reflag_12 : decode b_M_reflag 12 = .ok (.bipush (-6), 2) := by decide +kernel
theorem d_M_reflag_14 : decode b_M_reflag 14 = .ok (.ireturn, 1) := by decide +kernel
theorem d_M_reflag_15 : decode b_M_reflag 15 = .ok (.aload_n 0, 1) := by decide +kernel
theorem d_M_reflag_16 : decode b_M_reflag 16 = .ok (.getfield 35, 3) := by decide +kernel
theorem d_M_reflag_19 : decode b_M_reflag 19 = .ok (.iload_n 1, 1) := by decide +kernel
theorem d_M_reflag_20 : decode b_M_reflag 20 = .ok (.iaload, 1) := by decide +kernel
theorem d_M_reflag_21 : decode b_M_reflag 21 = .ok (.istore_n 3, 1) := by decide +kernel
theorem d_M_reflag_22 : decode b_M_reflag 22 = .ok (.aload_n 0, 1) := by decide +kernel
theorem d_M_reflag_23 : decode b_M_reflag 23 = .ok (.getfield 35, 3) := by decide +kernel
theorem d_M_reflag_26 : decode b_M_reflag 26 = .ok (.iload_n 1, 1) := by decide +kernel
theorem d_M_reflag_27 : decode b_M_reflag 27 = .ok (.iload_n 2, 1) := by decide +kernel
theorem d_M_reflag_28 : decode b_M_reflag 28 = .ok (.sipush 255, 3) := by decide +kernel
theorem d_M_reflag_31 : decode b_M_reflag 31 = .ok (.iand, 1) := by decide +kernel
theorem d_M_reflag_32 : decode b_M_reflag 32 = .ok (.iastore, 1) := by decide +kernel
theorem d_M_reflag_33 : decode b_M_reflag 33 = .ok (.iload_n 3, 1) := by decide +kernel
theorem d_M_reflag_34 : decode b_M_reflag 34 = .ok (.ireturn, 1) := by decide +kernel
theorem d_M_stands_0 : decode b_M_stands 0 = .ok (.aload_n 0, 1) := by decide +kernel
theorem d_M_stands_1 : decode b_M_stands 1 = .ok (.getfield 32, 3) := by decide +kernel
theorem d_M_stands_4 : decode b_M_stands 4 = .ok (.iload_n 1, 1) := by decide +kernel
theorem d_M_stands_5 : decode b_M_stands 5 = .ok (.iconst 3, 1) := by decide +kernel
theorem d_M_stands_6 : decode b_M_stands 6 = .ok (.imul, 1) := by decide +kernel
theorem d_M_stands_7 : decode b_M_stands 7 = .ok (.iload_n 2, 1) := by decide +kernel
theorem d_M_stands_8 : decode b_M_stands 8 = .ok (.iadd, 1) := by decide +kernel
theorem d_M_stands_9 : decode b_M_stands 9 = .ok (.iaload, 1) := by decide +kernel
theorem d_M_stands_10 : decode b_M_stands 10 = .ok (.istore 4, 2) := by decide +kernel
theorem d_M_stands_12 : decode b_M_stands 12 = .ok (.iload 4, 2) := by decide +kernel
theorem d_M_stands_14 : decode b_M_stands 14 = .ok (.aload_n 0, 1) := by decide +kernel
theorem d_M_stands_15 : decode b_M_stands 15 = .ok (.getfield 64, 3) := by decide +kernel
theorem d_M_stands_18 : decode b_M_stands 18 = .ok (.if_icmp .le 5, 3) := by decide +kernel
theorem d_M_stands_21 : decode b_M_stands 21 = .ok (.iconst 0, 1) := by decide +kernel
theorem d_M_stands_22 : decode b_M_stands 22 = .ok (.ireturn, 1) := by decide +kernel
theorem d_M_stands_23 : decode b_M_stands 23 = .ok (.iload_n 3, 1) := by decide +kernel
theorem d_M_stands_24 : decode b_M_stands 24 = .ok (.ifCond .eq 13, 3) := by decide +kernel
theorem d_M_stands_27 : decode b_M_stands 27 = .ok (.aload_n 0, 1) := by decide +kernel
theorem d_M_stands_28 : decode b_M_stands 28 = .ok (.getfield 64, 3) := by decide +kernel
theorem d_M_stands_31 : decode b_M_stands 31 = .ok (.iload 4, 2) := by decide +kernel
theorem d_M_stands_33 : decode b_M_stands 33 = .ok (.isub, 1) := by decide +kernel
theorem d_M_stands_34 : decode b_M_stands 34 = .ok (.goto 4, 3) := by decide +kernel
theorem d_M_stands_37 : decode b_M_stands 37 = .ok (.iconst 0, 1) := by decide +kernel
theorem d_M_stands_38 : decode b_M_stands 38 = .ok (.istore 5, 2) := by decide +kernel
theorem d_M_stands_40 : decode b_M_stands 40 = .ok (.iconst 0, 1) := by decide +kernel
theorem d_M_stands_41 : decode b_M_stands 41 = .ok (.istore 6, 2) := by decide +kernel
theorem d_M_stands_43 : decode b_M_stands 43 = .ok (.iload 6, 2) := by decide +kernel
theorem d_M_stands_45 : decode b_M_stands 45 = .ok (.iload 4, 2) := by decide +kernel
theorem d_M_stands_47 : decode b_M_stands 47 = .ok (.if_icmp .ge 51, 3) := by decide +kernel
theorem d_M_stands_50 : decode b_M_stands 50 = .ok (.aload_n 0, 1) := by decide +kernel
theorem d_M_stands_51 : decode b_M_stands 51 = .ok (.getfield 29, 3) := by decide +kernel
theorem d_M_stands_54 : decode b_M_stands 54 = .ok (.iload_n 1, 1) := by decide +kernel
theorem d_M_stands_55 : decode b_M_stands 55 = .ok (.bipush 9, 2) := by decide +kernel
theorem d_M_stands_57 : decode b_M_stands 57 = .ok (.imul, 1) := by decide +kernel
theorem d_M_stands_58 : decode b_M_stands 58 = .ok (.iload_n 2, 1) := by decide +kernel
theorem d_M_stands_59 : decode b_M_stands 59 = .ok (.iconst 3, 1) := by decide +kernel
theorem d_M_stands_60 : decode b_M_stands 60 = .ok (.imul, 1) := by decide +kernel
theorem d_M_stands_61 : decode b_M_stands 61 = .ok (.iadd, 1) := by decide +kernel
theorem d_M_stands_62 : decode b_M_stands 62 = .ok (.iload 6, 2) := by decide +kernel
theorem d_M_stands_64 : decode b_M_stands 64 = .ok (.iadd, 1) := by decide +kernel
theorem d_M_stands_65 : decode b_M_stands 65 = .ok (.iaload, 1) := by decide +kernel
theorem d_M_stands_66 : decode b_M_stands 66 = .ok (.istore 7, 2) := by decide +kernel
theorem d_M_stands_68 : decode b_M_stands 68 = .ok (.iload 7, 2) := by decide +kernel
theorem d_M_stands_70 : decode b_M_stands 70 = .ok (.bipush 9, 2) := by decide +kernel
theorem d_M_stands_72 : decode b_M_stands 72 = .ok (.if_icmp .eq 20, 3) := by decide +kernel
theorem d_M_stands_75 : decode b_M_stands 75 = .ok (.iload 7, 2) := by decide +kernel
theorem d_M_stands_77 : decode b_M_stands 77 = .ok (.aload_n 0, 1) := by decide +kernel
theorem d_M_stands_78 : decode b_M_stands 78 = .ok (.getfield 44, 3) := by decide +kernel
theorem d_M_stands_81 : decode b_M_stands 81 = .ok (.iload 5, 2) := by decide +kernel
theorem d_M_stands_83 : decode b_M_stands 83 = .ok (.iload 6, 2) := by decide +kernel
theorem d_M_stands_85 : decode b_M_stands 85 = .ok (.iadd, 1) := by decide +kernel
theorem d_M_stands_86 : decode b_M_stands 86 = .ok (.iaload, 1) := by decide +kernel
theorem d_M_stands_87 : decode b_M_stands 87 = .ok (.if_icmp .eq 5, 3) := by decide +kernel
theorem d_M_stands_90 : decode b_M_stands 90 = .ok (.iconst 0, 1) := by decide +kernel
theorem d_M_stands_91 : decode b_M_stands 91 = .ok (.ireturn, 1) := by decide +kernel
theorem d_M_stands_92 : decode b_M_stands 92 = .ok (.iinc 6 1, 3) := by decide +kernel
theorem d_M_stands_95 : decode b_M_stands 95 = .ok (.goto (-52), 3) := by decide +kernel
theorem d_M_stands_98 : decode b_M_stands 98 = .ok (.iconst 1, 1) := by decide +kernel
theorem d_M_stands_99 : decode b_M_stands 99 = .ok (.ireturn, 1) := by decide +kernel
theorem d_M_apply_0 : decode b_M_apply 0 = .ok (.aload_n 0, 1) := by decide +kernel
theorem d_M_apply_1 : decode b_M_apply 1 = .ok (.getfield 22, 3) := by decide +kernel
theorem d_M_apply_4 : decode b_M_apply 4 = .ok (.iload_n 1, 1) := by decide +kernel
theorem d_M_apply_5 : decode b_M_apply 5 = .ok (.baload, 1) := by decide +kernel
theorem d_M_apply_6 : decode b_M_apply 6 = .ok (.istore_n 2, 1) := by decide +kernel
theorem d_M_apply_7 : decode b_M_apply 7 = .ok (.aload_n 0, 1) := by decide +kernel
theorem d_M_apply_8 : decode b_M_apply 8 = .ok (.iload_n 1, 1) := by decide +kernel
theorem d_M_apply_9 : decode b_M_apply 9 = .ok (.iconst 0, 1) := by decide +kernel
theorem d_M_apply_10 : decode b_M_apply 10 = .ok (.iload_n 2, 1) := by decide +kernel
theorem d_M_apply_11 : decode b_M_apply 11 = .ok (.invokevirtual 67, 3) := by decide +kernel
theorem d_M_apply_14 : decode b_M_apply 14 = .ok (.ifCond .eq 13, 3) := by decide +kernel
theorem d_M_apply_17 : decode b_M_apply 17 = .ok (.aload_n 0, 1) := by decide +kernel
theorem d_M_apply_18 : decode b_M_apply 18 = .ok (.iload_n 1, 1) := by decide +kernel
theorem d_M_apply_19 : decode b_M_apply 19 = .ok (.iconst 2, 1) := by decide +kernel
theorem d_M_apply_20 : decode b_M_apply 20 = .ok (.iload_n 2, 1) := by decide +kernel
theorem d_M_apply_21 : decode b_M_apply 21 = .ok (.invokevirtual 67, 3) := by decide +kernel
theorem d_M_apply_24 : decode b_M_apply 24 = .ok (.ifCond .ne 5, 3) := by decide +kernel
theorem d_M_apply_27 : decode b_M_apply 27 = .ok (.iconst 0, 1) := by decide +kernel
theorem d_M_apply_28 : decode b_M_apply 28 = .ok (.ireturn, 1) := by decide +kernel
theorem d_M_apply_29 : decode b_M_apply 29 = .ok (.aload_n 0, 1) := by decide +kernel
theorem d_M_apply_30 : decode b_M_apply 30 = .ok (.getfield 32, 3) := by decide +kernel
theorem d_M_apply_33 : decode b_M_apply 33 = .ok (.iload_n 1, 1) := by decide +kernel
theorem d_M_apply_34 : decode b_M_apply 34 = .ok (.iconst 3, 1) := by decide +kernel
theorem d_M_apply_35 : decode b_M_apply 35 = .ok (.imul, 1) := by decide +kernel
theorem d_M_apply_36 : decode b_M_apply 36 = .ok (.iaload, 1) := by decide +kernel
theorem d_M_apply_37 : decode b_M_apply 37 = .ok (.istore_n 3, 1) := by decide +kernel
theorem d_M_apply_38 : decode b_M_apply 38 = .ok (.aload_n 0, 1) := by decide +kernel
theorem d_M_apply_39 : decode b_M_apply 39 = .ok (.getfield 32, 3) := by decide +kernel
theorem d_M_apply_42 : decode b_M_apply 42 = .ok (.iload_n 1, 1) := by decide +kernel
theorem d_M_apply_43 : decode b_M_apply 43 = .ok (.iconst 3, 1) := by decide +kernel
theorem d_M_apply_44 : decode b_M_apply 44 = .ok (.imul, 1) := by decide +kernel
theorem d_M_apply_45 : decode b_M_apply 45 = .ok (.iconst 1, 1) := by decide +kernel
theorem d_M_apply_46 : decode b_M_apply 46 = .ok (.iadd, 1) := by decide +kernel
theorem d_M_apply_47 : decode b_M_apply 47 = .ok (.iaload, 1) := by decide +kernel
theorem d_M_apply_48 : decode b_M_apply 48 = .ok (.istore 4, 2) := by decide +kernel
theorem d_M_apply_50 : decode b_M_apply 50 = .ok (.aload_n 0, 1) := by decide +kernel
theorem d_M_apply_51 : decode b_M_apply 51 = .ok (.getfield 64, 3) := by decide +kernel
theorem d_M_apply_54 : decode b_M_apply 54 = .ok (.iload_n 3, 1) := by decide +kernel
theorem d_M_apply_55 : decode b_M_apply 55 = .ok (.isub, 1) := by decide +kernel
theorem d_M_apply_56 : decode b_M_apply 56 = .ok (.istore 5, 2) := by decide +kernel
theorem d_M_apply_58 : decode b_M_apply 58 = .ok (.iconst 0, 1) := by decide +kernel
theorem d_M_apply_59 : decode b_M_apply 59 = .ok (.istore 6, 2) := by decide +kernel
theorem d_M_apply_61 : decode b_M_apply 61 = .ok (.iload 6, 2) := by decide +kernel
theorem d_M_apply_63 : decode b_M_apply 63 = .ok (.iload 5, 2) := by decide +kernel
theorem d_M_apply_65 : decode b_M_apply 65 = .ok (.if_icmp .ge 44, 3) := by decide +kernel
theorem d_M_apply_68 : decode b_M_apply 68 = .ok (.aload_n 0, 1) := by decide +kernel
theorem d_M_apply_69 : decode b_M_apply 69 = .ok (.getfield 47, 3) := by decide +kernel
theorem d_M_apply_72 : decode b_M_apply 72 = .ok (.iload_n 2, 1) := by decide +kernel
theorem d_M_apply_73 : decode b_M_apply 73 = .ok (.ifCond .eq 7, 3) := by decide +kernel
theorem d_M_apply_76 : decode b_M_apply 76 = .ok (.iconst 0, 1) := by decide +kernel
theorem d_M_apply_77 : decode b_M_apply 77 = .ok (.goto 5, 3) := by decide +kernel
theorem d_M_apply_80 : decode b_M_apply 80 = .ok (.iload 4, 2) := by decide +kernel
theorem d_M_apply_82 : decode b_M_apply 82 = .ok (.iload 6, 2) := by decide +kernel
theorem d_M_apply_84 : decode b_M_apply 84 = .ok (.iadd, 1) := by decide +kernel
theorem d_M_apply_85 : decode b_M_apply 85 = .ok (.aload_n 0, 1) := by decide +kernel
theorem d_M_apply_86 : decode b_M_apply 86 = .ok (.getfield 44, 3) := by decide +kernel
theorem d_M_apply_89 : decode b_M_apply 89 = .ok (.iload_n 2, 1) := by decide +kernel
theorem d_M_apply_90 : decode b_M_apply 90 = .ok (.ifCond .eq 7, 3) := by decide +kernel
theorem d_M_apply_93 : decode b_M_apply 93 = .ok (.iconst 0, 1) := by decide +kernel
theorem d_M_apply_94 : decode b_M_apply 94 = .ok (.goto 4, 3) := by decide +kernel
theorem d_M_apply_97 : decode b_M_apply 97 = .ok (.iload_n 3, 1) := by decide +kernel
theorem d_M_apply_98 : decode b_M_apply 98 = .ok (.iload 6, 2) := by decide +kernel
theorem d_M_apply_100 : decode b_M_apply 100 = .ok (.iadd, 1) := by decide +kernel
theorem d_M_apply_101 : decode b_M_apply 101 = .ok (.iaload, 1) := by decide +kernel
theorem d_M_apply_102 : decode b_M_apply 102 = .ok (.iastore, 1) := by decide +kernel
theorem d_M_apply_103 : decode b_M_apply 103 = .ok (.iinc 6 1, 3) := by decide +kernel
theorem d_M_apply_106 : decode b_M_apply 106 = .ok (.goto (-45), 3) := by decide +kernel
theorem d_M_apply_109 : decode b_M_apply 109 = .ok (.iconst 0, 1) := by decide +kernel
theorem d_M_apply_110 : decode b_M_apply 110 = .ok (.istore 6, 2) := by decide +kernel
theorem d_M_apply_112 : decode b_M_apply 112 = .ok (.iload 6, 2) := by decide +kernel
theorem d_M_apply_114 : decode b_M_apply 114 = .ok (.iload 4, 2) := by decide +kernel
theorem d_M_apply_116 : decode b_M_apply 116 = .ok (.if_icmp .ge 41, 3) := by decide +kernel
theorem d_M_apply_119 : decode b_M_apply 119 = .ok (.aload_n 0, 1) := by decide +kernel
theorem d_M_apply_120 : decode b_M_apply 120 = .ok (.getfield 47, 3) := by decide +kernel
theorem d_M_apply_123 : decode b_M_apply 123 = .ok (.iload_n 2, 1) := by decide +kernel
theorem d_M_apply_124 : decode b_M_apply 124 = .ok (.ifCond .eq 8, 3) := by decide +kernel
theorem d_M_apply_127 : decode b_M_apply 127 = .ok (.iload 5, 2) := by decide +kernel
theorem d_M_apply_129 : decode b_M_apply 129 = .ok (.goto 4, 3) := by decide +kernel
theorem d_M_apply_132 : decode b_M_apply 132 = .ok (.iconst 0, 1) := by decide +kernel
theorem d_M_apply_133 : decode b_M_apply 133 = .ok (.iload 6, 2) := by decide +kernel
theorem d_M_apply_135 : decode b_M_apply 135 = .ok (.iadd, 1) := by decide +kernel
theorem d_M_apply_136 : decode b_M_apply 136 = .ok (.aload_n 0, 1) := by decide +kernel
theorem d_M_apply_137 : decode b_M_apply 137 = .ok (.getfield 29, 3) := by decide +kernel
theorem d_M_apply_140 : decode b_M_apply 140 = .ok (.iload_n 1, 1) := by decide +kernel
theorem d_M_apply_141 : decode b_M_apply 141 = .ok (.bipush 9, 2) := by decide +kernel
theorem d_M_apply_143 : decode b_M_apply 143 = .ok (.imul, 1) := by decide +kernel
theorem d_M_apply_144 : decode b_M_apply 144 = .ok (.iconst 3, 1) := by decide +kernel
theorem d_M_apply_145 : decode b_M_apply 145 = .ok (.iadd, 1) := by decide +kernel
theorem d_M_apply_146 : decode b_M_apply 146 = .ok (.iload 6, 2) := by decide +kernel
theorem d_M_apply_148 : decode b_M_apply 148 = .ok (.iadd, 1) := by decide +kernel
theorem d_M_apply_149 : decode b_M_apply 149 = .ok (.iaload, 1) := by decide +kernel
theorem d_M_apply_150 : decode b_M_apply 150 = .ok (.iastore, 1) := by decide +kernel
theorem d_M_apply_151 : decode b_M_apply 151 = .ok (.iinc 6 1, 3) := by decide +kernel
theorem d_M_apply_154 : decode b_M_apply 154 = .ok (.goto (-42), 3) := by decide +kernel
theorem d_M_apply_157 : decode b_M_apply 157 = .ok (.aload_n 0, 1) := by decide +kernel
theorem d_M_apply_158 : decode b_M_apply 158 = .ok (.iload 5, 2) := by decide +kernel
theorem d_M_apply_160 : decode b_M_apply 160 = .ok (.iload 4, 2) := by decide +kernel
theorem d_M_apply_162 : decode b_M_apply 162 = .ok (.iadd, 1) := by decide +kernel
theorem d_M_apply_163 : decode b_M_apply 163 = .ok (.putfield 64, 3) := by decide +kernel
theorem d_M_apply_166 : decode b_M_apply 166 = .ok (.iconst 0, 1) := by decide +kernel
theorem d_M_apply_167 : decode b_M_apply 167 = .ok (.istore 6, 2) := by decide +kernel
theorem d_M_apply_169 : decode b_M_apply 169 = .ok (.iload 6, 2) := by decide +kernel
theorem d_M_apply_171 : decode b_M_apply 171 = .ok (.aload_n 0, 1) := by decide +kernel
theorem d_M_apply_172 : decode b_M_apply 172 = .ok (.getfield 64, 3) := by decide +kernel
theorem d_M_apply_175 : decode b_M_apply 175 = .ok (.if_icmp .ge 23, 3) := by decide +kernel
theorem d_M_apply_178 : decode b_M_apply 178 = .ok (.aload_n 0, 1) := by decide +kernel
theorem d_M_apply_179 : decode b_M_apply 179 = .ok (.getfield 44, 3) := by decide +kernel
theorem d_M_apply_182 : decode b_M_apply 182 = .ok (.iload 6, 2) := by decide +kernel
theorem d_M_apply_184 : decode b_M_apply 184 = .ok (.aload_n 0, 1) := by decide +kernel
theorem d_M_apply_185 : decode b_M_apply 185 = .ok (.getfield 47, 3) := by decide +kernel
theorem d_M_apply_188 : decode b_M_apply 188 = .ok (.iload 6, 2) := by decide +kernel
theorem d_M_apply_190 : decode b_M_apply 190 = .ok (.iaload, 1) := by decide +kernel
theorem d_M_apply_191 : decode b_M_apply 191 = .ok (.iastore, 1) := by decide +kernel
theorem d_M_apply_192 : decode b_M_apply 192 = .ok (.iinc 6 1, 3) := by decide +kernel
theorem d_M_apply_195 : decode b_M_apply 195 = .ok (.goto (-26), 3) := by decide +kernel
theorem d_M_apply_198 : decode b_M_apply 198 = .ok (.iconst 1, 1) := by decide +kernel
theorem d_M_apply_199 : decode b_M_apply 199 = .ok (.ireturn, 1) := by decide +kernel
theorem d_M_gives_0 : decode b_M_gives 0 = .ok (.iload_n 2, 1) := by decide +kernel
theorem d_M_gives_1 : decode b_M_gives 1 = .ok (.ifCond .lt 31, 3) := by decide +kernel
theorem d_M_gives_4 : decode b_M_gives 4 = .ok (.aload_n 0, 1) := by decide +kernel
theorem d_M_gives_5 : decode b_M_gives 5 = .ok (.getfield 22, 3) := by decide +kernel
theorem d_M_gives_8 : decode b_M_gives 8 = .ok (.iload_n 2, 1) := by decide +kernel
theorem d_M_gives_9 : decode b_M_gives 9 = .ok (.baload, 1) := by decide +kernel
theorem d_M_gives_10 : decode b_M_gives 10 = .ok (.ifCond .eq 26, 3) := by decide +kernel
theorem d_M_gives_13 : decode b_M_gives 13 = .ok (.aload_n 0, 1) := by decide +kernel
theorem d_M_gives_14 : decode b_M_gives 14 = .ok (.getfield 35, 3) := by decide +kernel
theorem d_M_gives_17 : decode b_M_gives 17 = .ok (.iload_n 1, 1) := by decide +kernel
theorem d_M_gives_18 : decode b_M_gives 18 = .ok (.iaload, 1) := by decide +kernel
theorem d_M_gives_19 : decode b_M_gives 19 = .ok (.aload_n 0, 1) := by decide +kernel
theorem d_M_gives_20 : decode b_M_gives 20 = .ok (.getfield 19, 3) := by decide +kernel
theorem d_M_gives_23 : decode b_M_gives 23 = .ok (.iload_n 2, 1) := by decide +kernel
theorem d_M_gives_24 : decode b_M_gives 24 = .ok (.iaload, 1) := by decide +kernel
theorem d_M_gives_25 : decode b_M_gives 25 = .ok (.ishr, 1) := by decide +kernel
theorem d_M_gives_26 : decode b_M_gives 26 = .ok (.iconst 1, 1) := by decide +kernel
theorem d_M_gives_27 : decode b_M_gives 27 = .ok (.iand, 1) := by decide +kernel
theorem d_M_gives_28 : decode b_M_gives 28 = .ok (.iconst 1, 1) := by decide +kernel
theorem d_M_gives_29 : decode b_M_gives 29 = .ok (.if_icmp .ne 7, 3) := by decide +kernel
theorem d_M_gives_32 : decode b_M_gives 32 = .ok (.iconst 1, 1) := by decide +kernel
theorem d_M_gives_33 : decode b_M_gives 33 = .ok (.goto 4, 3) := by decide +kernel
theorem d_M_gives_36 : decode b_M_gives 36 = .ok (.iconst 0, 1) := by decide +kernel
theorem d_M_gives_37 : decode b_M_gives 37 = .ok (.istore 4, 2) := by decide +kernel
theorem d_M_gives_39 : decode b_M_gives 39 = .ok (.iload_n 3, 1) := by decide +kernel
theorem d_M_gives_40 : decode b_M_gives 40 = .ok (.ifCond .lt 31, 3) := by decide +kernel
theorem d_M_gives_43 : decode b_M_gives 43 = .ok (.aload_n 0, 1) := by decide +kernel
theorem d_M_gives_44 : decode b_M_gives 44 = .ok (.getfield 22, 3) := by decide +kernel
theorem d_M_gives_47 : decode b_M_gives 47 = .ok (.iload_n 3, 1) := by decide +kernel
theorem d_M_gives_48 : decode b_M_gives 48 = .ok (.baload, 1) := by decide +kernel
theorem d_M_gives_49 : decode b_M_gives 49 = .ok (.ifCond .ne 26, 3) := by decide +kernel
theorem d_M_gives_52 : decode b_M_gives 52 = .ok (.aload_n 0, 1) := by decide +kernel
theorem d_M_gives_53 : decode b_M_gives 53 = .ok (.getfield 35, 3) := by decide +kernel
theorem d_M_gives_56 : decode b_M_gives 56 = .ok (.iload_n 1, 1) := by decide +kernel
theorem d_M_gives_57 : decode b_M_gives 57 = .ok (.iaload, 1) := by decide +kernel
theorem d_M_gives_58 : decode b_M_gives 58 = .ok (.aload_n 0, 1) := by decide +kernel
theorem d_M_gives_59 : decode b_M_gives 59 = .ok (.getfield 19, 3) := by decide +kernel
theorem d_M_gives_62 : decode b_M_gives 62 = .ok (.iload_n 3, 1) := by decide +kernel
theorem d_M_gives_63 : decode b_M_gives 63 = .ok (.iaload, 1) := by decide +kernel
theorem d_M_gives_64 : decode b_M_gives 64 = .ok (.ishr, 1) := by decide +kernel
theorem d_M_gives_65 : decode b_M_gives 65 = .ok (.iconst 1, 1) := by decide +kernel
theorem d_M_gives_66 : decode b_M_gives 66 = .ok (.iand, 1) := by decide +kernel
theorem d_M_gives_67 : decode b_M_gives 67 = .ok (.iconst 1, 1) := by decide +kernel
theorem d_M_gives_68 : decode b_M_gives 68 = .ok (.if_icmp .ne 7, 3) := by decide +kernel
theorem d_M_gives_71 : decode b_M_gives 71 = .ok (.iconst 1, 1) := by decide +kernel
theorem d_M_gives_72 : decode b_M_gives 72 = .ok (.goto 4, 3) := by decide +kernel
theorem d_M_gives_75 : decode b_M_gives 75 = .ok (.iconst 0, 1) := by decide +kernel
theorem d_M_gives_76 : decode b_M_gives 76 = .ok (.istore 5, 2) := by decide +kernel
theorem d_M_gives_78 : decode b_M_gives 78 = .ok (.iload 4, 2) := by decide +kernel
theorem d_M_gives_80 : decode b_M_gives 80 = .ok (.ifCond .eq 34, 3) := by decide +kernel
theorem d_M_gives_83 : decode b_M_gives 83 = .ok (.iload 5, 2) := by decide +kernel
theorem d_M_gives_85 : decode b_M_gives 85 = .ok (.ifCond .eq 29, 3) := by decide +kernel
theorem d_M_gives_88 : decode b_M_gives 88 = .ok (.iload_n 2, 1) := by decide +kernel
theorem d_M_gives_89 : decode b_M_gives 89 = .ok (.ifCond .lt 27, 3) := by decide +kernel
theorem d_M_gives_92 : decode b_M_gives 92 = .ok (.iload_n 3, 1) := by decide +kernel
theorem d_M_gives_93 : decode b_M_gives 93 = .ok (.ifCond .lt 23, 3) := by decide +kernel
theorem d_M_gives_96 : decode b_M_gives 96 = .ok (.aload_n 0, 1) := by decide +kernel
theorem d_M_gives_97 : decode b_M_gives 97 = .ok (.getfield 26, 3) := by decide +kernel
theorem d_M_gives_100 : decode b_M_gives 100 = .ok (.iload_n 2, 1) := by decide +kernel
theorem d_M_gives_101 : decode b_M_gives 101 = .ok (.baload, 1) := by decide +kernel
theorem d_M_gives_102 : decode b_M_gives 102 = .ok (.ifCond .eq 12, 3) := by decide +kernel
theorem d_M_gives_105 : decode b_M_gives 105 = .ok (.aload_n 0, 1) := by decide +kernel
theorem d_M_gives_106 : decode b_M_gives 106 = .ok (.getfield 26, 3) := by decide +kernel
theorem d_M_gives_109 : decode b_M_gives 109 = .ok (.iload_n 3, 1) := by decide +kernel
theorem d_M_gives_110 : decode b_M_gives 110 = .ok (.baload, 1) := by decide +kernel
theorem d_M_gives_111 : decode b_M_gives 111 = .ok (.ifCond .ne 5, 3) := by decide +kernel
theorem d_M_gives_114 : decode b_M_gives 114 = .ok (.iconst 0, 1) := by decide +kernel
theorem d_M_gives_115 : decode b_M_gives 115 = .ok (.ireturn, 1) := by decide +kernel
theorem d_M_gives_116 : decode b_M_gives 116 = .ok (.aload_n 0, 1) := by decide +kernel
theorem d_M_gives_117 : decode b_M_gives 117 = .ok (.aload_n 0, 1) := by decide +kernel
theorem d_M_gives_118 : decode b_M_gives 118 = .ok (.getfield 38, 3) := by decide +kernel
theorem d_M_gives_121 : decode b_M_gives 121 = .ok (.iload_n 1, 1) := by decide +kernel
theorem d_M_gives_122 : decode b_M_gives 122 = .ok (.iaload, 1) := by decide +kernel
theorem d_M_gives_123 : decode b_M_gives 123 = .ok (.putfield 64, 3) := by decide +kernel
theorem d_M_gives_126 : decode b_M_gives 126 = .ok (.iconst 0, 1) := by decide +kernel
theorem d_M_gives_127 : decode b_M_gives 127 = .ok (.istore 6, 2) := by decide +kernel
theorem d_M_gives_129 : decode b_M_gives 129 = .ok (.iload 6, 2) := by decide +kernel
theorem d_M_gives_131 : decode b_M_gives 131 = .ok (.aload_n 0, 1) := by decide +kernel
theorem d_M_gives_132 : decode b_M_gives 132 = .ok (.getfield 64, 3) := by decide +kernel
theorem d_M_gives_135 : decode b_M_gives 135 = .ok (.if_icmp .ge 28, 3) := by decide +kernel
theorem d_M_gives_138 : decode b_M_gives 138 = .ok (.aload_n 0, 1) := by decide +kernel
theorem d_M_gives_139 : decode b_M_gives 139 = .ok (.getfield 44, 3) := by decide +kernel
theorem d_M_gives_142 : decode b_M_gives 142 = .ok (.iload 6, 2) := by decide +kernel
theorem d_M_gives_144 : decode b_M_gives 144 = .ok (.aload_n 0, 1) := by decide +kernel
theorem d_M_gives_145 : decode b_M_gives 145 = .ok (.getfield 41, 3) := by decide +kernel
theorem d_M_gives_148 : decode b_M_gives 148 = .ok (.iload_n 1, 1) := by decide +kernel
theorem d_M_gives_149 : decode b_M_gives 149 = .ok (.bipush 12, 2) := by decide +kernel
theorem d_M_gives_151 : decode b_M_gives 151 = .ok (.imul, 1) := by decide +kernel
theorem d_M_gives_152 : decode b_M_gives 152 = .ok (.iload 6, 2) := by decide +kernel
theorem d_M_gives_154 : decode b_M_gives 154 = .ok (.iadd, 1) := by decide +kernel
theorem d_M_gives_155 : decode b_M_gives 155 = .ok (.iaload, 1) := by decide +kernel
theorem d_M_gives_156 : decode b_M_gives 156 = .ok (.iastore, 1) := by decide +kernel
theorem d_M_gives_157 : decode b_M_gives 157 = .ok (.iinc 6 1, 3) := by decide +kernel
theorem d_M_gives_160 : decode b_M_gives 160 = .ok (.goto (-31), 3) := by decide +kernel
theorem d_M_gives_163 : decode b_M_gives 163 = .ok (.iload_n 2, 1) := by decide +kernel
theorem d_M_gives_164 : decode b_M_gives 164 = .ok (.ifCond .lt 13, 3) := by decide +kernel
theorem d_M_gives_167 : decode b_M_gives 167 = .ok (.aload_n 0, 1) := by decide +kernel
theorem d_M_gives_168 : decode b_M_gives 168 = .ok (.iload_n 2, 1) := by decide +kernel
theorem d_M_gives_169 : decode b_M_gives 169 = .ok (.invokevirtual 71, 3) := by decide +kernel
theorem d_M_gives_172 : decode b_M_gives 172 = .ok (.ifCond .ne 5, 3) := by decide +kernel
theorem d_M_gives_175 : decode b_M_gives 175 = .ok (.iconst 0, 1) := by decide +kernel
theorem d_M_gives_176 : decode b_M_gives 176 = .ok (.ireturn, 1) := by decide +kernel
theorem d_M_gives_177 : decode b_M_gives 177 = .ok (.iload_n 3, 1) := by decide +kernel
theorem d_M_gives_178 : decode b_M_gives 178 = .ok (.ifCond .lt 13, 3) := by decide +kernel
theorem d_M_gives_181 : decode b_M_gives 181 = .ok (.aload_n 0, 1) := by decide +kernel
theorem d_M_gives_182 : decode b_M_gives 182 = .ok (.iload_n 3, 1) := by decide +kernel
theorem d_M_gives_183 : decode b_M_gives 183 = .ok (.invokevirtual 71, 3) := by decide +kernel
theorem d_M_gives_186 : decode b_M_gives 186 = .ok (.ifCond .ne 5, 3) := by decide +kernel
theorem d_M_gives_189 : decode b_M_gives 189 = .ok (.iconst 0, 1) := by decide +kernel
theorem d_M_gives_190 : decode b_M_gives 190 = .ok (.ireturn, 1) := by decide +kernel
theorem d_M_gives_191 : decode b_M_gives 191 = .ok (.aload_n 0, 1) := by decide +kernel
theorem d_M_gives_192 : decode b_M_gives 192 = .ok (.getfield 64, 3) := by decide +kernel
theorem d_M_gives_195 : decode b_M_gives 195 = .ok (.aload_n 0, 1) := by decide +kernel
theorem d_M_gives_196 : decode b_M_gives 196 = .ok (.getfield 50, 3) := by decide +kernel
theorem d_M_gives_199 : decode b_M_gives 199 = .ok (.if_icmp .ne 10, 3) := by decide +kernel
theorem d_M_gives_202 : decode b_M_gives 202 = .ok (.aload_n 0, 1) := by decide +kernel
theorem d_M_gives_203 : decode b_M_gives 203 = .ok (.getfield 50, 3) := by decide +kernel
theorem d_M_gives_206 : decode b_M_gives 206 = .ok (.ifCond .ne 5, 3) := by decide +kernel
theorem d_M_gives_209 : decode b_M_gives 209 = .ok (.iconst 0, 1) := by decide +kernel
theorem d_M_gives_210 : decode b_M_gives 210 = .ok (.ireturn, 1) := by decide +kernel
theorem d_M_gives_211 : decode b_M_gives 211 = .ok (.iconst 0, 1) := by decide +kernel
theorem d_M_gives_212 : decode b_M_gives 212 = .ok (.istore 6, 2) := by decide +kernel
theorem d_M_gives_214 : decode b_M_gives 214 = .ok (.iload 6, 2) := by decide +kernel
theorem d_M_gives_216 : decode b_M_gives 216 = .ok (.aload_n 0, 1) := by decide +kernel
theorem d_M_gives_217 : decode b_M_gives 217 = .ok (.getfield 50, 3) := by decide +kernel
theorem d_M_gives_220 : decode b_M_gives 220 = .ok (.if_icmp .ge 28, 3) := by decide +kernel
theorem d_M_gives_223 : decode b_M_gives 223 = .ok (.aload_n 0, 1) := by decide +kernel
theorem d_M_gives_224 : decode b_M_gives 224 = .ok (.getfield 44, 3) := by decide +kernel
theorem d_M_gives_227 : decode b_M_gives 227 = .ok (.iload 6, 2) := by decide +kernel
theorem d_M_gives_229 : decode b_M_gives 229 = .ok (.iaload, 1) := by decide +kernel
theorem d_M_gives_230 : decode b_M_gives 230 = .ok (.aload_n 0, 1) := by decide +kernel
theorem d_M_gives_231 : decode b_M_gives 231 = .ok (.getfield 7, 3) := by decide +kernel
theorem d_M_gives_234 : decode b_M_gives 234 = .ok (.iload 6, 2) := by decide +kernel
theorem d_M_gives_236 : decode b_M_gives 236 = .ok (.iaload, 1) := by decide +kernel
theorem d_M_gives_237 : decode b_M_gives 237 = .ok (.if_icmp .eq 5, 3) := by decide +kernel
theorem d_M_gives_240 : decode b_M_gives 240 = .ok (.iconst 0, 1) := by decide +kernel
theorem d_M_gives_241 : decode b_M_gives 241 = .ok (.ireturn, 1) := by decide +kernel
theorem d_M_gives_242 : decode b_M_gives 242 = .ok (.iinc 6 1, 3) := by decide +kernel
theorem d_M_gives_245 : decode b_M_gives 245 = .ok (.goto (-31), 3) := by decide +kernel
theorem d_M_gives_248 : decode b_M_gives 248 = .ok (.iconst 1, 1) := by decide +kernel
theorem d_M_gives_249 : decode b_M_gives 249 = .ok (.ireturn, 1) := by decide +kernel
theorem d_M_ofStem_0 : decode b_M_ofStem 0 = .ok (.iconst 0, 1) := by decide +kernel
theorem d_M_ofStem_1 : decode b_M_ofStem 1 = .ok (.istore_n 3, 1) := by decide +kernel
theorem d_M_ofStem_2 : decode b_M_ofStem 2 = .ok (.iconst (-1), 1) := by decide +kernel
theorem d_M_ofStem_3 : decode b_M_ofStem 3 = .ok (.istore 4, 2) := by decide +kernel
theorem d_M_ofStem_5 : decode b_M_ofStem 5 = .ok (.iload 4, 2) := by decide +kernel
theorem d_M_ofStem_7 : decode b_M_ofStem 7 = .ok (.aload_n 0, 1) := by decide +kernel
theorem d_M_ofStem_8 : decode b_M_ofStem 8 = .ok (.getfield 58, 3) := by decide +kernel
theorem d_M_ofStem_11 : decode b_M_ofStem 11 = .ok (.if_icmp .ge 79, 3) := by decide +kernel
theorem d_M_ofStem_14 : decode b_M_ofStem 14 = .ok (.iconst (-1), 1) := by decide +kernel
theorem d_M_ofStem_15 : decode b_M_ofStem 15 = .ok (.istore 5, 2) := by decide +kernel
theorem d_M_ofStem_17 : decode b_M_ofStem 17 = .ok (.iload 5, 2) := by decide +kernel
theorem d_M_ofStem_19 : decode b_M_ofStem 19 = .ok (.aload_n 0, 1) := by decide +kernel
theorem d_M_ofStem_20 : decode b_M_ofStem 20 = .ok (.getfield 58, 3) := by decide +kernel
theorem d_M_ofStem_23 : decode b_M_ofStem 23 = .ok (.if_icmp .ge 61, 3) := by decide +kernel
theorem d_M_ofStem_26 : decode b_M_ofStem 26 = .ok (.aload_n 0, 1) := by decide +kernel
theorem d_M_ofStem_27 : decode b_M_ofStem 27 = .ok (.iload_n 1, 1) := by decide +kernel
theorem d_M_ofStem_28 : decode b_M_ofStem 28 = .ok (.iload 4, 2) := by decide +kernel
theorem d_M_ofStem_30 : decode b_M_ofStem 30 = .ok (.iload 5, 2) := by decide +kernel
theorem d_M_ofStem_32 : decode b_M_ofStem 32 = .ok (.invokevirtual 75, 3) := by decide +kernel
theorem d_M_ofStem_35 : decode b_M_ofStem 35 = .ok (.ifCond .eq 43, 3) := by decide +kernel
theorem d_M_ofStem_38 : decode b_M_ofStem 38 = .ok (.iload_n 3, 1) := by decide +kernel
theorem d_M_ofStem_39 : decode b_M_ofStem 39 = .ok (.iload_n 2, 1) := by decide +kernel
theorem d_M_ofStem_40 : decode b_M_ofStem 40 = .ok (.if_icmp .ne 35, 3) := by decide +kernel
theorem d_M_ofStem_43 : decode b_M_ofStem 43 = .ok (.aload_n 0, 1) := by decide +kernel
theorem d_M_ofStem_44 : decode b_M_ofStem 44 = .ok (.iload 4, 2) := by decide +kernel
theorem d_M_ofStem_46 : decode b_M_ofStem 46 = .ok (.ifCond .ge 8, 3) := by decide +kernel
theorem d_M_ofStem_49 : decode b_M_ofStem 49 = .ok (.bipush (-6), 2) := by decide +kernel
theorem d_M_ofStem_51 : decode b_M_ofStem 51 = .ok (.goto 5, 3) := by decide +kernel
theorem d_M_ofStem_54 : decode b_M_ofStem 54 = .ok (.iload 4, 2) := by decide +kernel
theorem d_M_ofStem_56 : decode b_M_ofStem 56 = .ok (.putfield 79, 3) := by decide +kernel
theorem d_M_ofStem_59 : decode b_M_ofStem 59 = .ok (.aload_n 0, 1) := by decide +kernel
theorem d_M_ofStem_60 : decode b_M_ofStem 60 = .ok (.iload 5, 2) := by decide +kernel
theorem d_M_ofStem_62 : decode b_M_ofStem 62 = .ok (.ifCond .ge 8, 3) := by decide +kernel
theorem d_M_ofStem_65 : decode b_M_ofStem 65 = .ok (.bipush (-6), 2) := by decide +kernel
theorem d_M_ofStem_67 : decode b_M_ofStem 67 = .ok (.goto 5, 3) := by decide +kernel
theorem d_M_ofStem_70 : decode b_M_ofStem 70 = .ok (.iload 5, 2) := by decide +kernel
theorem d_M_ofStem_72 : decode b_M_ofStem 72 = .ok (.putfield 82, 3) := by decide +kernel
theorem d_M_ofStem_75 : decode b_M_ofStem 75 = .ok (.iinc 3 1, 3) := by decide +kernel
theorem d_M_ofStem_78 : decode b_M_ofStem 78 = .ok (.iinc 5 1, 3) := by decide +kernel
theorem d_M_ofStem_81 : decode b_M_ofStem 81 = .ok (.goto (-64), 3) := by decide +kernel
theorem d_M_ofStem_84 : decode b_M_ofStem 84 = .ok (.iinc 4 1, 3) := by decide +kernel
theorem d_M_ofStem_87 : decode b_M_ofStem 87 = .ok (.goto (-82), 3) := by decide +kernel
theorem d_M_ofStem_90 : decode b_M_ofStem 90 = .ok (.iload_n 3, 1) := by decide +kernel
theorem d_M_ofStem_91 : decode b_M_ofStem 91 = .ok (.ireturn, 1) := by decide +kernel
theorem d_M_find_0 : decode b_M_find 0 = .ok (.iconst 0, 1) := by decide +kernel
theorem d_M_find_1 : decode b_M_find 1 = .ok (.istore_n 2, 1) := by decide +kernel
theorem d_M_find_2 : decode b_M_find 2 = .ok (.aload_n 0, 1) := by decide +kernel
theorem d_M_find_3 : decode b_M_find 3 = .ok (.bipush (-6), 2) := by decide +kernel
theorem d_M_find_5 : decode b_M_find 5 = .ok (.putfield 79, 3) := by decide +kernel
theorem d_M_find_8 : decode b_M_find 8 = .ok (.aload_n 0, 1) := by decide +kernel
theorem d_M_find_9 : decode b_M_find 9 = .ok (.bipush (-6), 2) := by decide +kernel
theorem d_M_find_11 : decode b_M_find 11 = .ok (.putfield 82, 3) := by decide +kernel
theorem d_M_find_14 : decode b_M_find 14 = .ok (.iconst 0, 1) := by decide +kernel
theorem d_M_find_15 : decode b_M_find 15 = .ok (.istore_n 3, 1) := by decide +kernel
theorem d_M_find_16 : decode b_M_find 16 = .ok (.iload_n 3, 1) := by decide +kernel
theorem d_M_find_17 : decode b_M_find 17 = .ok (.aload_n 0, 1) := by decide +kernel
theorem d_M_find_18 : decode b_M_find 18 = .ok (.getfield 61, 3) := by decide +kernel
theorem d_M_find_21 : decode b_M_find 21 = .ok (.if_icmp .ge 48, 3) := by decide +kernel
theorem d_M_find_24 : decode b_M_find 24 = .ok (.iload_n 1, 1) := by decide +kernel
theorem d_M_find_25 : decode b_M_find 25 = .ok (.iload_n 2, 1) := by decide +kernel
theorem d_M_find_26 : decode b_M_find 26 = .ok (.if_icmp .ge 7, 3) := by decide +kernel
theorem d_M_find_29 : decode b_M_find 29 = .ok (.iconst 0, 1) := by decide +kernel
theorem d_M_find_30 : decode b_M_find 30 = .ok (.goto 11, 3) := by decide +kernel
theorem d_M_find_33 : decode b_M_find 33 = .ok (.aload_n 0, 1) := by decide +kernel
theorem d_M_find_34 : decode b_M_find 34 = .ok (.iload_n 3, 1) := by decide +kernel
theorem d_M_find_35 : decode b_M_find 35 = .ok (.iload_n 1, 1) := by decide +kernel
theorem d_M_find_36 : decode b_M_find 36 = .ok (.iload_n 2, 1) := by decide +kernel
theorem d_M_find_37 : decode b_M_find 37 = .ok (.isub, 1) := by decide +kernel
theorem d_M_find_38 : decode b_M_find 38 = .ok (.invokevirtual 85, 3) := by decide +kernel
theorem d_M_find_41 : decode b_M_find 41 = .ok (.istore 4, 2) := by decide +kernel
theorem d_M_find_43 : decode b_M_find 43 = .ok (.iload_n 1, 1) := by decide +kernel
theorem d_M_find_44 : decode b_M_find 44 = .ok (.iload_n 2, 1) := by decide +kernel
theorem d_M_find_45 : decode b_M_find 45 = .ok (.if_icmp .lt 13, 3) := by decide +kernel
theorem d_M_find_48 : decode b_M_find 48 = .ok (.iload_n 1, 1) := by decide +kernel
theorem d_M_find_49 : decode b_M_find 49 = .ok (.iload_n 2, 1) := by decide +kernel
theorem d_M_find_50 : decode b_M_find 50 = .ok (.iload 4, 2) := by decide +kernel
theorem d_M_find_52 : decode b_M_find 52 = .ok (.iadd, 1) := by decide +kernel
theorem d_M_find_53 : decode b_M_find 53 = .ok (.if_icmp .ge 5, 3) := by decide +kernel
theorem d_M_find_56 : decode b_M_find 56 = .ok (.iload_n 3, 1) := by decide +kernel
theorem d_M_find_57 : decode b_M_find 57 = .ok (.ireturn, 1) := by decide +kernel
theorem d_M_find_58 : decode b_M_find 58 = .ok (.iload_n 2, 1) := by decide +kernel
theorem d_M_find_59 : decode b_M_find 59 = .ok (.iload 4, 2) := by decide +kernel
theorem d_M_find_61 : decode b_M_find 61 = .ok (.iadd, 1) := by decide +kernel
theorem d_M_find_62 : decode b_M_find 62 = .ok (.istore_n 2, 1) := by decide +kernel
theorem d_M_find_63 : decode b_M_find 63 = .ok (.iinc 3 1, 3) := by decide +kernel
theorem d_M_find_66 : decode b_M_find 66 = .ok (.goto (-50), 3) := by decide +kernel
theorem d_M_find_69 : decode b_M_find 69 = .ok (.bipush (-6), 2) := by decide +kernel
theorem d_M_find_71 : decode b_M_find 71 = .ok (.ireturn, 1) := by decide +kernel
theorem d_M_length_0 : decode b_M_length 0 = .ok (.aload_n 0, 1) := by decide +kernel
theorem d_M_length_1 : decode b_M_length 1 = .ok (.getfield 50, 3) := by decide +kernel
theorem d_M_length_4 : decode b_M_length 4 = .ok (.ireturn, 1) := by decide +kernel
theorem d_M_derivations_0 : decode b_M_derivations 0 = .ok (.iconst 0, 1) := by decide +kernel
theorem d_M_derivations_1 : decode b_M_derivations 1 = .ok (.istore_n 1, 1) := by decide +kernel
theorem d_M_derivations_2 : decode b_M_derivations 2 = .ok (.iconst 0, 1) := by decide +kernel
theorem d_M_derivations_3 : decode b_M_derivations 3 = .ok (.istore_n 2, 1) := by decide +kernel
theorem d_M_derivations_4 : decode b_M_derivations 4 = .ok (.iload_n 2, 1) := by decide +kernel
theorem d_M_derivations_5 : decode b_M_derivations 5 = .ok (.aload_n 0, 1) := by decide +kernel
theorem d_M_derivations_6 : decode b_M_derivations 6 = .ok (.getfield 61, 3) := by decide +kernel
theorem d_M_derivations_9 : decode b_M_derivations 9 = .ok (.if_icmp .ge 20, 3) := by decide +kernel
theorem d_M_derivations_12 : decode b_M_derivations 12 = .ok (.aload_n 0, 1) := by decide +kernel
theorem d_M_derivations_13 : decode b_M_derivations 13 = .ok (.iload_n 2, 1) := by decide +kernel
theorem d_M_derivations_14 : decode b_M_derivations 14 = .ok (.iconst (-1), 1) := by decide +kernel
theorem d_M_derivations_15 : decode b_M_derivations 15 = .ok (.invokevirtual 85, 3) := by decide +kernel
theorem d_M_derivations_18 : decode b_M_derivations 18 = .ok (.istore_n 3, 1) := by decide +kernel
theorem d_M_derivations_19 : decode b_M_derivations 19 = .ok (.iload_n 1, 1) := by decide +kernel
theorem d_M_derivations_20 : decode b_M_derivations 20 = .ok (.iload_n 3, 1) := by decide +kernel
theorem d_M_derivations_21 : decode b_M_derivations 21 = .ok (.iadd, 1) := by decide +kernel
theorem d_M_derivations_22 : decode b_M_derivations 22 = .ok (.istore_n 1, 1) := by decide +kernel
theorem d_M_derivations_23 : decode b_M_derivations 23 = .ok (.iinc 2 1, 3) := by decide +kernel
theorem d_M_derivations_26 : decode b_M_derivations 26 = .ok (.goto (-22), 3) := by decide +kernel
theorem d_M_derivations_29 : decode b_M_derivations 29 = .ok (.iload_n 1, 1) := by decide +kernel
theorem d_M_derivations_30 : decode b_M_derivations 30 = .ok (.ireturn, 1) := by decide +kernel
theorem d_M_stemOf_0 : decode b_M_stemOf 0 = .ok (.aload_n 0, 1) := by decide +kernel
theorem d_M_stemOf_1 : decode b_M_stemOf 1 = .ok (.iload_n 1, 1) := by decide +kernel
theorem d_M_stemOf_2 : decode b_M_stemOf 2 = .ok (.invokevirtual 89, 3) := by decide +kernel
theorem d_M_stemOf_5 : decode b_M_stemOf 5 = .ok (.ireturn, 1) := by decide +kernel
theorem d_M_suffixOf_0 : decode b_M_suffixOf 0 = .ok (.aload_n 0, 1) := by decide +kernel
theorem d_M_suffixOf_1 : decode b_M_suffixOf 1 = .ok (.iload_n 1, 1) := by decide +kernel
theorem d_M_suffixOf_2 : decode b_M_suffixOf 2 = .ok (.invokevirtual 89, 3) := by decide +kernel
theorem d_M_suffixOf_5 : decode b_M_suffixOf 5 = .ok (.bipush (-6), 2) := by decide +kernel
theorem d_M_suffixOf_7 : decode b_M_suffixOf 7 = .ok (.if_icmp .ne 8, 3) := by decide +kernel
theorem d_M_suffixOf_10 : decode b_M_suffixOf 10 = .ok (.bipush (-6), 2) := by decide +kernel
theorem d_M_suffixOf_12 : decode b_M_suffixOf 12 = .ok (.goto 7, 3) := by decide +kernel
theorem d_M_suffixOf_15 : decode b_M_suffixOf 15 = .ok (.aload_n 0, 1) := by decide +kernel
theorem d_M_suffixOf_16 : decode b_M_suffixOf 16 = .ok (.getfield 79, 3) := by decide +kernel
theorem d_M_suffixOf_19 : decode b_M_suffixOf 19 = .ok (.ireturn, 1) := by decide +kernel
theorem d_M_prefixOf_0 : decode b_M_prefixOf 0 = .ok (.aload_n 0, 1) := by decide +kernel
theorem d_M_prefixOf_1 : decode b_M_prefixOf 1 = .ok (.iload_n 1, 1) := by decide +kernel
theorem d_M_prefixOf_2 : decode b_M_prefixOf 2 = .ok (.invokevirtual 89, 3) := by decide +kernel
theorem d_M_prefixOf_5 : decode b_M_prefixOf 5 = .ok (.bipush (-6), 2) := by decide +kernel
theorem d_M_prefixOf_7 : decode b_M_prefixOf 7 = .ok (.if_icmp .ne 8, 3) := by decide +kernel
theorem d_M_prefixOf_10 : decode b_M_prefixOf 10 = .ok (.bipush (-6), 2) := by decide +kernel
theorem d_M_prefixOf_12 : decode b_M_prefixOf 12 = .ok (.goto 7, 3) := by decide +kernel
theorem d_M_prefixOf_15 : decode b_M_prefixOf 15 = .ok (.aload_n 0, 1) := by decide +kernel
theorem d_M_prefixOf_16 : decode b_M_prefixOf 16 = .ok (.getfield 82, 3) := by decide +kernel
theorem d_M_prefixOf_19 : decode b_M_prefixOf 19 = .ok (.ireturn, 1) := by decide +kernel
theorem d_M_continuations_0 : decode b_M_continuations 0 = .ok (.aload_n 0, 1) := by decide +kernel
theorem d_M_continuations_1 : decode b_M_continuations 1 = .ok (.getfield 50, 3) := by decide +kernel
theorem d_M_continuations_4 : decode b_M_continuations 4 = .ok (.bipush 12, 2) := by decide +kernel
theorem d_M_continuations_6 : decode b_M_continuations 6 = .ok (.if_icmp .eq 10, 3) := by decide +kernel
theorem d_M_continuations_9 : decode b_M_continuations 9 = .ok (.aload_n 0, 1) := by decide +kernel
theorem d_M_continuations_10 : decode b_M_continuations 10 = .ok (.invokevirtual 54, 3) := by decide +kernel
theorem d_M_continuations_13 : decode b_M_continuations 13 = .ok (.ifCond .eq 5, 3) := by decide +kernel
theorem d_M_continuations_16 : decode b_M_continuations 16 = .ok (.iconst 0, 1) := by decide +kernel
theorem d_M_continuations_17 : decode b_M_continuations 17 = .ok (.ireturn, 1) := by decide +kernel
theorem d_M_continuations_18 : decode b_M_continuations 18 = .ok (.iconst 0, 1) := by decide +kernel
theorem d_M_continuations_19 : decode b_M_continuations 19 = .ok (.istore_n 1, 1) := by decide +kernel
theorem d_M_continuations_20 : decode b_M_continuations 20 = .ok (.aload_n 0, 1) := by decide +kernel
theorem d_M_continuations_21 : decode b_M_continuations 21 = .ok (.aload_n 0, 1) := by decide +kernel
theorem d_M_continuations_22 : decode b_M_continuations 22 = .ok (.getfield 50, 3) := by decide +kernel
theorem d_M_continuations_25 : decode b_M_continuations 25 = .ok (.iconst 1, 1) := by decide +kernel
theorem d_M_continuations_26 : decode b_M_continuations 26 = .ok (.iadd, 1) := by decide +kernel
theorem d_M_continuations_27 : decode b_M_continuations 27 = .ok (.putfield 50, 3) := by decide +kernel
theorem d_M_continuations_30 : decode b_M_continuations 30 = .ok (.iconst 1, 1) := by decide +kernel
theorem d_M_continuations_31 : decode b_M_continuations 31 = .ok (.istore_n 2, 1) := by decide +kernel
theorem d_M_continuations_32 : decode b_M_continuations 32 = .ok (.iload_n 2, 1) := by decide +kernel
theorem d_M_continuations_33 : decode b_M_continuations 33 = .ok (.bipush 9, 2) := by decide +kernel
theorem d_M_continuations_35 : decode b_M_continuations 35 = .ok (.if_icmp .ge 31, 3) := by decide +kernel
theorem d_M_continuations_38 : decode b_M_continuations 38 = .ok (.aload_n 0, 1) := by decide +kernel
theorem d_M_continuations_39 : decode b_M_continuations 39 = .ok (.getfield 7, 3) := by decide +kernel
theorem d_M_continuations_42 : decode b_M_continuations 42 = .ok (.aload_n 0, 1) := by decide +kernel
theorem d_M_continuations_43 : decode b_M_continuations 43 = .ok (.getfield 50, 3) := by decide +kernel
theorem d_M_continuations_46 : decode b_M_continuations 46 = .ok (.iconst 1, 1) := by decide +kernel
theorem d_M_continuations_47 : decode b_M_continuations 47 = .ok (.isub, 1) := by decide +kernel
theorem d_M_continuations_48 : decode b_M_continuations 48 = .ok (.iload_n 2, 1) := by decide +kernel
theorem d_M_continuations_49 : decode b_M_continuations 49 = .ok (.iastore, 1) := by decide +kernel
theorem d_M_continuations_50 : decode b_M_continuations 50 = .ok (.aload_n 0, 1) := by decide +kernel
theorem d_M_continuations_51 : decode b_M_continuations 51 = .ok (.invokevirtual 93, 3) := by decide +kernel
theorem d_M_continuations_54 : decode b_M_continuations 54 = .ok (.ifCond .le 6, 3) := by decide +kernel
theorem d_M_continuations_57 : decode b_M_continuations 57 = .ok (.iinc 1 1, 3) := by decide +kernel
theorem d_M_continuations_60 : decode b_M_continuations 60 = .ok (.iinc 2 1, 3) := by decide +kernel
theorem d_M_continuations_63 : decode b_M_continuations 63 = .ok (.goto (-31), 3) := by decide +kernel
theorem d_M_continuations_66 : decode b_M_continuations 66 = .ok (.aload_n 0, 1) := by decide +kernel
theorem d_M_continuations_67 : decode b_M_continuations 67 = .ok (.aload_n 0, 1) := by decide +kernel
theorem d_M_continuations_68 : decode b_M_continuations 68 = .ok (.getfield 50, 3) := by decide +kernel
theorem d_M_continuations_71 : decode b_M_continuations 71 = .ok (.iconst 1, 1) := by decide +kernel
theorem d_M_continuations_72 : decode b_M_continuations 72 = .ok (.isub, 1) := by decide +kernel
theorem d_M_continuations_73 : decode b_M_continuations 73 = .ok (.putfield 50, 3) := by decide +kernel
theorem d_M_continuations_76 : decode b_M_continuations 76 = .ok (.iload_n 1, 1) := by decide +kernel
theorem d_M_continuations_77 : decode b_M_continuations 77 = .ok (.ireturn, 1) := by decide +kernel
end
section
/-! decode rows, printed by tools/names.py -/
theorem d_law_0 : decode code 0 = .ok (.new 7, 3) := by decide +kernel
theorem d_law_3 : decode code 3 = .ok (.dup, 1) := by decide +kernel
theorem d_law_4 : decode code 4 = .ok (.invokespecial 9, 3) := by decide +kernel
theorem d_law_7 : decode code 7 = .ok (.astore_n 1, 1) := by decide +kernel
theorem d_law_8 : decode code 8 = .ok (.new 10, 3) := by decide +kernel
theorem d_law_11 : decode code 11 = .ok (.dup, 1) := by decide +kernel
theorem d_law_12 : decode code 12 = .ok (.invokespecial 12, 3) := by decide +kernel
theorem d_law_15 : decode code 15 = .ok (.astore_n 2, 1) := by decide +kernel
theorem d_law_16 : decode code 16 = .ok (.iconst 0, 1) := by decide +kernel
theorem d_law_17 : decode code 17 = .ok (.istore_n 3, 1) := by decide +kernel
theorem d_law_18 : decode code 18 = .ok (.iload_n 3, 1) := by decide +kernel
theorem d_law_19 : decode code 19 = .ok (.aload_n 0, 1) := by decide +kernel
theorem d_law_20 : decode code 20 = .ok (.arraylength, 1) := by decide +kernel
theorem d_law_21 : decode code 21 = .ok (.iconst 4, 1) := by decide +kernel
theorem d_law_22 : decode code 22 = .ok (.isub, 1) := by decide +kernel
theorem d_law_23 : decode code 23 = .ok (.if_icmp .gt 375, 3) := by decide +kernel
theorem d_law_26 : decode code 26 = .ok (.aload_n 0, 1) := by decide +kernel
theorem d_law_27 : decode code 27 = .ok (.iload_n 3, 1) := by decide +kernel
theorem d_law_28 : decode code 28 = .ok (.iaload, 1) := by decide +kernel
theorem d_law_29 : decode code 29 = .ok (.bipush 15, 2) := by decide +kernel
theorem d_law_31 : decode code 31 = .ok (.iand, 1) := by decide +kernel
theorem d_law_32 : decode code 32 = .ok (.tableswitch 360 0 11 #[64, 87, 98, 121, 196, 219, 252, 265, 278, 301, 324, 347], 64) := by decide +kernel
theorem d_law_96 : decode code 96 = .ok (.aload_n 1, 1) := by decide +kernel
theorem d_law_97 : decode code 97 = .ok (.aload_n 0, 1) := by decide +kernel
theorem d_law_98 : decode code 98 = .ok (.iload_n 3, 1) := by decide +kernel
theorem d_law_99 : decode code 99 = .ok (.iconst 1, 1) := by decide +kernel
theorem d_law_100 : decode code 100 = .ok (.iadd, 1) := by decide +kernel
theorem d_law_101 : decode code 101 = .ok (.iaload, 1) := by decide +kernel
theorem d_law_102 : decode code 102 = .ok (.invokevirtual 13, 3) := by decide +kernel
theorem d_law_105 : decode code 105 = .ok (.aload_n 2, 1) := by decide +kernel
theorem d_law_106 : decode code 106 = .ok (.aload_n 0, 1) := by decide +kernel
theorem d_law_107 : decode code 107 = .ok (.iload_n 3, 1) := by decide +kernel
theorem d_law_108 : decode code 108 = .ok (.iconst 1, 1) := by decide +kernel
theorem d_law_109 : decode code 109 = .ok (.iadd, 1) := by decide +kernel
theorem d_law_110 : decode code 110 = .ok (.iaload, 1) := by decide +kernel
theorem d_law_111 : decode code 111 = .ok (.invokevirtual 17, 3) := by decide +kernel
theorem d_law_114 : decode code 114 = .ok (.if_icmp .eq 278, 3) := by decide +kernel
theorem d_law_117 : decode code 117 = .ok (.iconst 0, 1) := by decide +kernel
theorem d_law_118 : decode code 118 = .ok (.ireturn, 1) := by decide +kernel
theorem d_law_119 : decode code 119 = .ok (.aload_n 1, 1) := by decide +kernel
theorem d_law_120 : decode code 120 = .ok (.invokevirtual 18, 3) := by decide +kernel
theorem d_law_123 : decode code 123 = .ok (.aload_n 2, 1) := by decide +kernel
theorem d_law_124 : decode code 124 = .ok (.invokevirtual 21, 3) := by decide +kernel
theorem d_law_127 : decode code 127 = .ok (.goto 265, 3) := by decide +kernel
theorem d_law_130 : decode code 130 = .ok (.aload_n 1, 1) := by decide +kernel
theorem d_law_131 : decode code 131 = .ok (.aload_n 0, 1) := by decide +kernel
theorem d_law_132 : decode code 132 = .ok (.iload_n 3, 1) := by decide +kernel
theorem d_law_133 : decode code 133 = .ok (.iconst 1, 1) := by decide +kernel
theorem d_law_134 : decode code 134 = .ok (.iadd, 1) := by decide +kernel
theorem d_law_135 : decode code 135 = .ok (.iaload, 1) := by decide +kernel
theorem d_law_136 : decode code 136 = .ok (.invokevirtual 22, 3) := by decide +kernel
theorem d_law_139 : decode code 139 = .ok (.aload_n 2, 1) := by decide +kernel
theorem d_law_140 : decode code 140 = .ok (.aload_n 0, 1) := by decide +kernel
theorem d_law_141 : decode code 141 = .ok (.iload_n 3, 1) := by decide +kernel
theorem d_law_142 : decode code 142 = .ok (.iconst 1, 1) := by decide +kernel
theorem d_law_143 : decode code 143 = .ok (.iadd, 1) := by decide +kernel
theorem d_law_144 : decode code 144 = .ok (.iaload, 1) := by decide +kernel
theorem d_law_145 : decode code 145 = .ok (.invokevirtual 25, 3) := by decide +kernel
theorem d_law_148 : decode code 148 = .ok (.if_icmp .eq 244, 3) := by decide +kernel
theorem d_law_151 : decode code 151 = .ok (.iconst 0, 1) := by decide +kernel
theorem d_law_152 : decode code 152 = .ok (.ireturn, 1) := by decide +kernel
theorem d_law_153 : decode code 153 = .ok (.aload_n 1, 1) := by decide +kernel
theorem d_law_154 : decode code 154 = .ok (.aload_n 0, 1) := by decide +kernel
theorem d_law_155 : decode code 155 = .ok (.iload_n 3, 1) := by decide +kernel
theorem d_law_156 : decode code 156 = .ok (.iconst 1, 1) := by decide +kernel
theorem d_law_157 : decode code 157 = .ok (.iadd, 1) := by decide +kernel
theorem d_law_158 : decode code 158 = .ok (.iaload, 1) := by decide +kernel
theorem d_law_159 : decode code 159 = .ok (.aload_n 0, 1) := by decide +kernel
theorem d_law_160 : decode code 160 = .ok (.iload_n 3, 1) := by decide +kernel
theorem d_law_161 : decode code 161 = .ok (.iconst 2, 1) := by decide +kernel
theorem d_law_162 : decode code 162 = .ok (.iadd, 1) := by decide +kernel
theorem d_law_163 : decode code 163 = .ok (.iaload, 1) := by decide +kernel
theorem d_law_164 : decode code 164 = .ok (.ifCond .eq 7, 3) := by decide +kernel
theorem d_law_167 : decode code 167 = .ok (.iconst 1, 1) := by decide +kernel
theorem d_law_168 : decode code 168 = .ok (.goto 4, 3) := by decide +kernel
theorem d_law_171 : decode code 171 = .ok (.iconst 0, 1) := by decide +kernel
theorem d_law_172 : decode code 172 = .ok (.aload_n 0, 1) := by decide +kernel
theorem d_law_173 : decode code 173 = .ok (.iload_n 3, 1) := by decide +kernel
theorem d_law_174 : decode code 174 = .ok (.iconst 3, 1) := by decide +kernel
theorem d_law_175 : decode code 175 = .ok (.iadd, 1) := by decide +kernel
theorem d_law_176 : decode code 176 = .ok (.iaload, 1) := by decide +kernel
theorem d_law_177 : decode code 177 = .ok (.ifCond .eq 7, 3) := by decide +kernel
theorem d_law_180 : decode code 180 = .ok (.iconst 1, 1) := by decide +kernel
theorem d_law_181 : decode code 181 = .ok (.goto 4, 3) := by decide +kernel
theorem d_law_184 : decode code 184 = .ok (.iconst 0, 1) := by decide +kernel
theorem d_law_185 : decode code 185 = .ok (.invokevirtual 26, 3) := by decide +kernel
theorem d_law_188 : decode code 188 = .ok (.aload_n 2, 1) := by decide +kernel
theorem d_law_189 : decode code 189 = .ok (.aload_n 0, 1) := by decide +kernel
theorem d_law_190 : decode code 190 = .ok (.iload_n 3, 1) := by decide +kernel
theorem d_law_191 : decode code 191 = .ok (.iconst 1, 1) := by decide +kernel
theorem d_law_192 : decode code 192 = .ok (.iadd, 1) := by decide +kernel
theorem d_law_193 : decode code 193 = .ok (.iaload, 1) := by decide +kernel
theorem d_law_194 : decode code 194 = .ok (.aload_n 0, 1) := by decide +kernel
theorem d_law_195 : decode code 195 = .ok (.iload_n 3, 1) := by decide +kernel
theorem d_law_196 : decode code 196 = .ok (.iconst 2, 1) := by decide +kernel
theorem d_law_197 : decode code 197 = .ok (.iadd, 1) := by decide +kernel
theorem d_law_198 : decode code 198 = .ok (.iaload, 1) := by decide +kernel
theorem d_law_199 : decode code 199 = .ok (.ifCond .eq 7, 3) := by decide +kernel
theorem d_law_202 : decode code 202 = .ok (.iconst 1, 1) := by decide +kernel
theorem d_law_203 : decode code 203 = .ok (.goto 4, 3) := by decide +kernel
theorem d_law_206 : decode code 206 = .ok (.iconst 0, 1) := by decide +kernel
theorem d_law_207 : decode code 207 = .ok (.aload_n 0, 1) := by decide +kernel
theorem d_law_208 : decode code 208 = .ok (.iload_n 3, 1) := by decide +kernel
theorem d_law_209 : decode code 209 = .ok (.iconst 3, 1) := by decide +kernel
theorem d_law_210 : decode code 210 = .ok (.iadd, 1) := by decide +kernel
theorem d_law_211 : decode code 211 = .ok (.iaload, 1) := by decide +kernel
theorem d_law_212 : decode code 212 = .ok (.ifCond .eq 7, 3) := by decide +kernel
theorem d_law_215 : decode code 215 = .ok (.iconst 1, 1) := by decide +kernel
theorem d_law_216 : decode code 216 = .ok (.goto 4, 3) := by decide +kernel
theorem d_law_219 : decode code 219 = .ok (.iconst 0, 1) := by decide +kernel
theorem d_law_220 : decode code 220 = .ok (.invokevirtual 30, 3) := by decide +kernel
theorem d_law_223 : decode code 223 = .ok (.if_icmp .eq 169, 3) := by decide +kernel
theorem d_law_226 : decode code 226 = .ok (.iconst 0, 1) := by decide +kernel
theorem d_law_227 : decode code 227 = .ok (.ireturn, 1) := by decide +kernel
theorem d_law_228 : decode code 228 = .ok (.aload_n 1, 1) := by decide +kernel
theorem d_law_229 : decode code 229 = .ok (.aload_n 0, 1) := by decide +kernel
theorem d_law_230 : decode code 230 = .ok (.iload_n 3, 1) := by decide +kernel
theorem d_law_231 : decode code 231 = .ok (.iconst 1, 1) := by decide +kernel
theorem d_law_232 : decode code 232 = .ok (.iadd, 1) := by decide +kernel
theorem d_law_233 : decode code 233 = .ok (.iaload, 1) := by decide +kernel
theorem d_law_234 : decode code 234 = .ok (.invokevirtual 31, 3) := by decide +kernel
theorem d_law_237 : decode code 237 = .ok (.aload_n 2, 1) := by decide +kernel
theorem d_law_238 : decode code 238 = .ok (.aload_n 0, 1) := by decide +kernel
theorem d_law_239 : decode code 239 = .ok (.iload_n 3, 1) := by decide +kernel
theorem d_law_240 : decode code 240 = .ok (.iconst 1, 1) := by decide +kernel
theorem d_law_241 : decode code 241 = .ok (.iadd, 1) := by decide +kernel
theorem d_law_242 : decode code 242 = .ok (.iaload, 1) := by decide +kernel
theorem d_law_243 : decode code 243 = .ok (.invokevirtual 34, 3) := by decide +kernel
theorem d_law_246 : decode code 246 = .ok (.if_icmp .eq 146, 3) := by decide +kernel
theorem d_law_249 : decode code 249 = .ok (.iconst 0, 1) := by decide +kernel
theorem d_law_250 : decode code 250 = .ok (.ireturn, 1) := by decide +kernel
theorem d_law_251 : decode code 251 = .ok (.aload_n 1, 1) := by decide +kernel
theorem d_law_252 : decode code 252 = .ok (.aload_n 0, 1) := by decide +kernel
theorem d_law_253 : decode code 253 = .ok (.iload_n 3, 1) := by decide +kernel
theorem d_law_254 : decode code 254 = .ok (.iconst 1, 1) := by decide +kernel
theorem d_law_255 : decode code 255 = .ok (.iadd, 1) := by decide +kernel
theorem d_law_256 : decode code 256 = .ok (.iaload, 1) := by decide +kernel
theorem d_law_257 : decode code 257 = .ok (.aload_n 0, 1) := by decide +kernel
theorem d_law_258 : decode code 258 = .ok (.iload_n 3, 1) := by decide +kernel
theorem d_law_259 : decode code 259 = .ok (.iconst 2, 1) := by decide +kernel
theorem d_law_260 : decode code 260 = .ok (.iadd, 1) := by decide +kernel
theorem d_law_261 : decode code 261 = .ok (.iaload, 1) := by decide +kernel
theorem d_law_262 : decode code 262 = .ok (.invokevirtual 35, 3) := by decide +kernel
theorem d_law_265 : decode code 265 = .ok (.aload_n 2, 1) := by decide +kernel
theorem d_law_266 : decode code 266 = .ok (.aload_n 0, 1) := by decide +kernel
theorem d_law_267 : decode code 267 = .ok (.iload_n 3, 1) := by decide +kernel
theorem d_law_268 : decode code 268 = .ok (.iconst 1, 1) := by decide +kernel
theorem d_law_269 : decode code 269 = .ok (.iadd, 1) := by decide +kernel
theorem d_law_270 : decode code 270 = .ok (.iaload, 1) := by decide +kernel
theorem d_law_271 : decode code 271 = .ok (.aload_n 0, 1) := by decide +kernel
theorem d_law_272 : decode code 272 = .ok (.iload_n 3, 1) := by decide +kernel
theorem d_law_273 : decode code 273 = .ok (.iconst 2, 1) := by decide +kernel
theorem d_law_274 : decode code 274 = .ok (.iadd, 1) := by decide +kernel
theorem d_law_275 : decode code 275 = .ok (.iaload, 1) := by decide +kernel
theorem d_law_276 : decode code 276 = .ok (.invokevirtual 39, 3) := by decide +kernel
theorem d_law_279 : decode code 279 = .ok (.if_icmp .eq 113, 3) := by decide +kernel
theorem d_law_282 : decode code 282 = .ok (.iconst 0, 1) := by decide +kernel
theorem d_law_283 : decode code 283 = .ok (.ireturn, 1) := by decide +kernel
theorem d_law_284 : decode code 284 = .ok (.aload_n 1, 1) := by decide +kernel
theorem d_law_285 : decode code 285 = .ok (.invokevirtual 40, 3) := by decide +kernel
theorem d_law_288 : decode code 288 = .ok (.aload_n 2, 1) := by decide +kernel
theorem d_law_289 : decode code 289 = .ok (.invokevirtual 44, 3) := by decide +kernel
theorem d_law_292 : decode code 292 = .ok (.if_icmp .eq 100, 3) := by decide +kernel
theorem d_law_295 : decode code 295 = .ok (.iconst 0, 1) := by decide +kernel
theorem d_law_296 : decode code 296 = .ok (.ireturn, 1) := by decide +kernel
theorem d_law_297 : decode code 297 = .ok (.aload_n 1, 1) := by decide +kernel
theorem d_law_298 : decode code 298 = .ok (.invokevirtual 45, 3) := by decide +kernel
theorem d_law_301 : decode code 301 = .ok (.aload_n 2, 1) := by decide +kernel
theorem d_law_302 : decode code 302 = .ok (.invokevirtual 48, 3) := by decide +kernel
theorem d_law_305 : decode code 305 = .ok (.if_icmp .eq 87, 3) := by decide +kernel
theorem d_law_308 : decode code 308 = .ok (.iconst 0, 1) := by decide +kernel
theorem d_law_309 : decode code 309 = .ok (.ireturn, 1) := by decide +kernel
theorem d_law_310 : decode code 310 = .ok (.aload_n 1, 1) := by decide +kernel
theorem d_law_311 : decode code 311 = .ok (.aload_n 0, 1) := by decide +kernel
theorem d_law_312 : decode code 312 = .ok (.iload_n 3, 1) := by decide +kernel
theorem d_law_313 : decode code 313 = .ok (.iconst 1, 1) := by decide +kernel
theorem d_law_314 : decode code 314 = .ok (.iadd, 1) := by decide +kernel
theorem d_law_315 : decode code 315 = .ok (.iaload, 1) := by decide +kernel
theorem d_law_316 : decode code 316 = .ok (.invokevirtual 49, 3) := by decide +kernel
theorem d_law_319 : decode code 319 = .ok (.aload_n 2, 1) := by decide +kernel
theorem d_law_320 : decode code 320 = .ok (.aload_n 0, 1) := by decide +kernel
theorem d_law_321 : decode code 321 = .ok (.iload_n 3, 1) := by decide +kernel
theorem d_law_322 : decode code 322 = .ok (.iconst 1, 1) := by decide +kernel
theorem d_law_323 : decode code 323 = .ok (.iadd, 1) := by decide +kernel
theorem d_law_324 : decode code 324 = .ok (.iaload, 1) := by decide +kernel
theorem d_law_325 : decode code 325 = .ok (.invokevirtual 52, 3) := by decide +kernel
theorem d_law_328 : decode code 328 = .ok (.if_icmp .eq 64, 3) := by decide +kernel
theorem d_law_331 : decode code 331 = .ok (.iconst 0, 1) := by decide +kernel
theorem d_law_332 : decode code 332 = .ok (.ireturn, 1) := by decide +kernel
theorem d_law_333 : decode code 333 = .ok (.aload_n 1, 1) := by decide +kernel
theorem d_law_334 : decode code 334 = .ok (.aload_n 0, 1) := by decide +kernel
theorem d_law_335 : decode code 335 = .ok (.iload_n 3, 1) := by decide +kernel
theorem d_law_336 : decode code 336 = .ok (.iconst 1, 1) := by decide +kernel
theorem d_law_337 : decode code 337 = .ok (.iadd, 1) := by decide +kernel
theorem d_law_338 : decode code 338 = .ok (.iaload, 1) := by decide +kernel
theorem d_law_339 : decode code 339 = .ok (.invokevirtual 53, 3) := by decide +kernel
theorem d_law_342 : decode code 342 = .ok (.aload_n 2, 1) := by decide +kernel
theorem d_law_343 : decode code 343 = .ok (.aload_n 0, 1) := by decide +kernel
theorem d_law_344 : decode code 344 = .ok (.iload_n 3, 1) := by decide +kernel
theorem d_law_345 : decode code 345 = .ok (.iconst 1, 1) := by decide +kernel
theorem d_law_346 : decode code 346 = .ok (.iadd, 1) := by decide +kernel
theorem d_law_347 : decode code 347 = .ok (.iaload, 1) := by decide +kernel
theorem d_law_348 : decode code 348 = .ok (.invokevirtual 56, 3) := by decide +kernel
theorem d_law_351 : decode code 351 = .ok (.if_icmp .eq 41, 3) := by decide +kernel
theorem d_law_354 : decode code 354 = .ok (.iconst 0, 1) := by decide +kernel
theorem d_law_355 : decode code 355 = .ok (.ireturn, 1) := by decide +kernel
theorem d_law_356 : decode code 356 = .ok (.aload_n 1, 1) := by decide +kernel
theorem d_law_357 : decode code 357 = .ok (.aload_n 0, 1) := by decide +kernel
theorem d_law_358 : decode code 358 = .ok (.iload_n 3, 1) := by decide +kernel
theorem d_law_359 : decode code 359 = .ok (.iconst 1, 1) := by decide +kernel
theorem d_law_360 : decode code 360 = .ok (.iadd, 1) := by decide +kernel
theorem d_law_361 : decode code 361 = .ok (.iaload, 1) := by decide +kernel
theorem d_law_362 : decode code 362 = .ok (.invokevirtual 57, 3) := by decide +kernel
theorem d_law_365 : decode code 365 = .ok (.aload_n 2, 1) := by decide +kernel
theorem d_law_366 : decode code 366 = .ok (.aload_n 0, 1) := by decide +kernel
theorem d_law_367 : decode code 367 = .ok (.iload_n 3, 1) := by decide +kernel
theorem d_law_368 : decode code 368 = .ok (.iconst 1, 1) := by decide +kernel
theorem d_law_369 : decode code 369 = .ok (.iadd, 1) := by decide +kernel
theorem d_law_370 : decode code 370 = .ok (.iaload, 1) := by decide +kernel
theorem d_law_371 : decode code 371 = .ok (.invokevirtual 60, 3) := by decide +kernel
theorem d_law_374 : decode code 374 = .ok (.if_icmp .eq 18, 3) := by decide +kernel
theorem d_law_377 : decode code 377 = .ok (.iconst 0, 1) := by decide +kernel
theorem d_law_378 : decode code 378 = .ok (.ireturn, 1) := by decide +kernel
theorem d_law_379 : decode code 379 = .ok (.aload_n 1, 1) := by decide +kernel
theorem d_law_380 : decode code 380 = .ok (.invokevirtual 61, 3) := by decide +kernel
theorem d_law_383 : decode code 383 = .ok (.aload_n 2, 1) := by decide +kernel
theorem d_law_384 : decode code 384 = .ok (.invokevirtual 64, 3) := by decide +kernel
theorem d_law_387 : decode code 387 = .ok (.if_icmp .eq 5, 3) := by decide +kernel
theorem d_law_390 : decode code 390 = .ok (.iconst 0, 1) := by decide +kernel
theorem d_law_391 : decode code 391 = .ok (.ireturn, 1) := by decide +kernel
theorem d_law_392 : decode code 392 = .ok (.iinc 3 4, 3) := by decide +kernel
theorem d_law_395 : decode code 395 = .ok (.goto (-377), 3) := by decide +kernel
theorem d_law_398 : decode code 398 = .ok (.iconst 1, 1) := by decide +kernel
theorem d_law_399 : decode code 399 = .ok (.ireturn, 1) := by decide +kernel
end
section
/-! the walk with heap and locals hidden; printed by tools/frame.py -/
abbrev Kt (S : Type) : Type := S → Nat → List (Nat × Value) → List Value → Prop
def lvg : List (Nat × Value) → Nat → Option Value
  | [], _ => none
  | q :: r, i => if q.1 = i then some q.2 else lvg r i
theorem lvg_mem {i : Nat} {v : Value} : ∀ {lv : List (Nat × Value)}, lvg lv i = some v → (i, v) ∈ lv
  | [], h => by cases h
  | q :: r, h => by
    unfold lvg at h
    split at h
    · rename_i hq
      cases h
      subst hq
      exact List.mem_cons_self
    · exact List.mem_cons_of_mem _ (lvg_mem h)
def bOk {S : Type} (cc : ByteArray) (nL : Nat) (K : Kt S) : Prop :=
  ∃ (p : Program) (l : Launch) (e : Env) (R : Room) (s : State) (m : MethodId) (args : Array Value) (below : List Frame) (meth : Method) (c : Code) (cells slots : Nat) (Q : State → Prop) (Φ : S → Heap → List Loc → Prop),
    p.tables.exec = Jvm.exec ∧ c.code = cc ∧ ∀ (g : S) (pc : Nat) (lv : List (Nat × Value)) (st : List Value), K g pc lv st ↔ ∀ (H : Heap) (locs : List Loc) (ls : Array Slot), Φ g H locs → lv_has ls nL lv → W p l e R s m args below meth c H locs cells slots Q (F0 m pc ls st)
section BROWS
variable {S : Type} {cc : ByteArray} {nL : Nat} {K : Kt S} {g : S} {pc : Nat} {lv : List (Nat × Value)} {st : List Value}
theorem b_iconst (h : bOk cc nL K) {n : Int} {v : Int32} (hd : decode cc pc = .ok (.iconst n, 1)) (hv : Int32.ofInt n = v) (k : K g (pc + 1) lv (.int v :: st)) : K g pc lv st := by
  obtain ⟨p, l, e, R, s, m, args, below, meth, c, cells, slots, Q, Φ, hx, hb, hK⟩ := h
  exact (hK _ _ _ _).2 fun H locs ls hF hl => lv_iconst hx hb hd hv ((hK _ _ _ _).1 k H locs ls hF hl)
theorem b_bipush (h : bOk cc nL K) {n : Int} {v : Int32} (hd : decode cc pc = .ok (.bipush n, 2)) (hv : (Int8.ofInt n).toInt32 = v) (k : K g (pc + 2) lv (.int v :: st)) : K g pc lv st := by
  obtain ⟨p, l, e, R, s, m, args, below, meth, c, cells, slots, Q, Φ, hx, hb, hK⟩ := h
  exact (hK _ _ _ _).2 fun H locs ls hF hl => lv_bipush hx hb hd hv ((hK _ _ _ _).1 k H locs ls hF hl)
theorem b_sipush (h : bOk cc nL K) {n : Int} {v : Int32} (hd : decode cc pc = .ok (.sipush n, 3)) (hv : (Int16.ofInt n).toInt32 = v) (k : K g (pc + 3) lv (.int v :: st)) : K g pc lv st := by
  obtain ⟨p, l, e, R, s, m, args, below, meth, c, cells, slots, Q, Φ, hx, hb, hK⟩ := h
  exact (hK _ _ _ _).2 fun H locs ls hF hl => lv_sipush hx hb hd hv ((hK _ _ _ _).1 k H locs ls hF hl)
theorem b_iload_n (h : bOk cc nL K) {k0 : Fin 4} {i : Nat} {x : Int32} (hd : decode cc pc = .ok (.iload_n k0, 1)) (hi : (k0 : Nat) = i) (hg : lvg lv i = some (.int x)) (k : K g (pc + 1) lv (.int x :: st)) : K g pc lv st := by
  obtain ⟨p, l, e, R, s, m, args, below, meth, c, cells, slots, Q, Φ, hx, hb, hK⟩ := h
  exact (hK _ _ _ _).2 fun H locs ls hF hl => lv_iload_n hx hb hd hi (hl.2.2 _ (lvg_mem hg)) ((hK _ _ _ _).1 k H locs ls hF hl)
theorem b_aload_n (h : bOk cc nL K) {k0 : Fin 4} {i : Nat} {x : Nat} (hd : decode cc pc = .ok (.aload_n k0, 1)) (hi : (k0 : Nat) = i) (hg : lvg lv i = some (.ref x)) (k : K g (pc + 1) lv (.ref x :: st)) : K g pc lv st := by
  obtain ⟨p, l, e, R, s, m, args, below, meth, c, cells, slots, Q, Φ, hx, hb, hK⟩ := h
  exact (hK _ _ _ _).2 fun H locs ls hF hl => lv_aload_n hx hb hd hi (hl.2.2 _ (lvg_mem hg)) ((hK _ _ _ _).1 k H locs ls hF hl)
theorem b_iload (h : bOk cc nL K) {i : Nat} {x : Int32} (hd : decode cc pc = .ok (.iload i, 2)) (hg : lvg lv i = some (.int x)) (k : K g (pc + 2) lv (.int x :: st)) : K g pc lv st := by
  obtain ⟨p, l, e, R, s, m, args, below, meth, c, cells, slots, Q, Φ, hx, hb, hK⟩ := h
  exact (hK _ _ _ _).2 fun H locs ls hF hl => lv_iload hx hb hd (hl.2.2 _ (lvg_mem hg)) ((hK _ _ _ _).1 k H locs ls hF hl)
theorem b_istore_n (h : bOk cc nL K) {k0 : Fin 4} {i : Nat} {x : Int32} {lv' : List (Nat × Value)} (hd : decode cc pc = .ok (.istore_n k0, 1)) (hi : (k0 : Nat) = i) (hn : i < nL) (he : (i, Value.int x) :: lv.filter (fun q => !(q.1 == i) && !(q.1 + 1 == i && q.2.category == 2)) = lv') (k : K g (pc + 1) lv' st) : K g pc lv (.int x :: st) := by
  obtain ⟨p, l, e, R, s, m, args, below, meth, c, cells, slots, Q, Φ, hx, hb, hK⟩ := h
  exact (hK _ _ _ _).2 fun H locs ls hF hl => lv_istore_n hx hb hd hi hl hn he (fun ls hl => (hK _ _ _ _).1 k H locs ls hF hl)
theorem b_astore_n (h : bOk cc nL K) {k0 : Fin 4} {i : Nat} {x : Nat} {lv' : List (Nat × Value)} (hd : decode cc pc = .ok (.astore_n k0, 1)) (hi : (k0 : Nat) = i) (hn : i < nL) (he : (i, Value.ref x) :: lv.filter (fun q => !(q.1 == i) && !(q.1 + 1 == i && q.2.category == 2)) = lv') (k : K g (pc + 1) lv' st) : K g pc lv (.ref x :: st) := by
  obtain ⟨p, l, e, R, s, m, args, below, meth, c, cells, slots, Q, Φ, hx, hb, hK⟩ := h
  exact (hK _ _ _ _).2 fun H locs ls hF hl => lv_astore_n hx hb hd hi hl hn he (fun ls hl => (hK _ _ _ _).1 k H locs ls hF hl)
theorem b_istore (h : bOk cc nL K) {i : Nat} {x : Int32} {lv' : List (Nat × Value)} (hd : decode cc pc = .ok (.istore i, 2)) (hn : i < nL) (he : (i, Value.int x) :: lv.filter (fun q => !(q.1 == i) && !(q.1 + 1 == i && q.2.category == 2)) = lv') (k : K g (pc + 2) lv' st) : K g pc lv (.int x :: st) := by
  obtain ⟨p, l, e, R, s, m, args, below, meth, c, cells, slots, Q, Φ, hx, hb, hK⟩ := h
  exact (hK _ _ _ _).2 fun H locs ls hF hl => lv_istore hx hb hd hl hn he (fun ls hl => (hK _ _ _ _).1 k H locs ls hF hl)
theorem b_iinc (h : bOk cc nL K) {i : Nat} {n : Int} {x v : Int32} {lv' : List (Nat × Value)} (hd : decode cc pc = .ok (.iinc i n, 3)) (hg : lvg lv i = some (.int x)) (hv : x + Int32.ofInt n = v) (hn : i < nL) (he : (i, Value.int v) :: lv.filter (fun q => !(q.1 == i) && !(q.1 + 1 == i && q.2.category == 2)) = lv') (k : K g (pc + 3) lv' st) : K g pc lv st := by
  obtain ⟨p, l, e, R, s, m, args, below, meth, c, cells, slots, Q, Φ, hx, hb, hK⟩ := h
  obtain ⟨j, hj⟩ := List.getElem?_of_mem (lvg_mem hg)
  exact (hK _ _ _ _).2 fun H locs ls hF hl => lv_iinc hx hb hd hl hj hv hn he (fun ls hl => (hK _ _ _ _).1 k H locs ls hF hl)
theorem b_iadd (h : bOk cc nL K) {x y : Int32} (hd : decode cc pc = .ok (.iadd, 1)) (k : K g (pc + 1) lv (.int (x + y) :: st)) : K g pc lv (.int y :: .int x :: st) := by
  obtain ⟨p, l, e, R, s, m, args, below, meth, c, cells, slots, Q, Φ, hx, hb, hK⟩ := h
  exact (hK _ _ _ _).2 fun H locs ls hF hl => lv_iadd hx hb hd ((hK _ _ _ _).1 k H locs ls hF hl)
theorem b_isub (h : bOk cc nL K) {x y : Int32} (hd : decode cc pc = .ok (.isub, 1)) (k : K g (pc + 1) lv (.int (x - y) :: st)) : K g pc lv (.int y :: .int x :: st) := by
  obtain ⟨p, l, e, R, s, m, args, below, meth, c, cells, slots, Q, Φ, hx, hb, hK⟩ := h
  exact (hK _ _ _ _).2 fun H locs ls hF hl => lv_isub hx hb hd ((hK _ _ _ _).1 k H locs ls hF hl)
theorem b_imul (h : bOk cc nL K) {x y : Int32} (hd : decode cc pc = .ok (.imul, 1)) (k : K g (pc + 1) lv (.int (x * y) :: st)) : K g pc lv (.int y :: .int x :: st) := by
  obtain ⟨p, l, e, R, s, m, args, below, meth, c, cells, slots, Q, Φ, hx, hb, hK⟩ := h
  exact (hK _ _ _ _).2 fun H locs ls hF hl => lv_imul hx hb hd ((hK _ _ _ _).1 k H locs ls hF hl)
theorem b_iand (h : bOk cc nL K) {x y : Int32} (hd : decode cc pc = .ok (.iand, 1)) (k : K g (pc + 1) lv (.int (x &&& y) :: st)) : K g pc lv (.int y :: .int x :: st) := by
  obtain ⟨p, l, e, R, s, m, args, below, meth, c, cells, slots, Q, Φ, hx, hb, hK⟩ := h
  exact (hK _ _ _ _).2 fun H locs ls hF hl => lv_iand hx hb hd ((hK _ _ _ _).1 k H locs ls hF hl)
theorem b_ishr (h : bOk cc nL K) {x y : Int32} (hd : decode cc pc = .ok (.ishr, 1)) (k : K g (pc + 1) lv (.int (x >>> (y &&& 31)) :: st)) : K g pc lv (.int y :: .int x :: st) := by
  obtain ⟨p, l, e, R, s, m, args, below, meth, c, cells, slots, Q, Φ, hx, hb, hK⟩ := h
  exact (hK _ _ _ _).2 fun H locs ls hF hl => lv_ishr hx hb hd ((hK _ _ _ _).1 k H locs ls hF hl)
theorem b_idiv (h : bOk cc nL K) {x y : Int32} (hd : decode cc pc = .ok (.idiv, 1)) (hne : ¬ y = 0) (k : K g (pc + 1) lv (.int (x / y) :: st)) : K g pc lv (.int y :: .int x :: st) := by
  obtain ⟨p, l, e, R, s, m, args, below, meth, c, cells, slots, Q, Φ, hx, hb, hK⟩ := h
  exact (hK _ _ _ _).2 fun H locs ls hF hl => lv_idiv hx hb hd hne ((hK _ _ _ _).1 k H locs ls hF hl)
theorem b_irem (h : bOk cc nL K) {x y : Int32} (hd : decode cc pc = .ok (.irem, 1)) (hne : ¬ y = 0) (k : K g (pc + 1) lv (.int (x - x / y * y) :: st)) : K g pc lv (.int y :: .int x :: st) := by
  obtain ⟨p, l, e, R, s, m, args, below, meth, c, cells, slots, Q, Φ, hx, hb, hK⟩ := h
  exact (hK _ _ _ _).2 fun H locs ls hF hl => lv_irem hx hb hd hne ((hK _ _ _ _).1 k H locs ls hF hl)
theorem b_dup (h : bOk cc nL K) {a : Value} (hd : decode cc pc = .ok (.dup, 1)) (ha : a.category = 1) (k : K g (pc + 1) lv (a :: a :: st)) : K g pc lv (a :: st) := by
  obtain ⟨p, l, e, R, s, m, args, below, meth, c, cells, slots, Q, Φ, hx, hb, hK⟩ := h
  exact (hK _ _ _ _).2 fun H locs ls hF hl => lv_dup hx hb hd ha ((hK _ _ _ _).1 k H locs ls hF hl)
theorem b_goto (h : bOk cc nL K) {off : Int} {tgt : Nat} (hd : decode cc pc = .ok (.goto off, 3)) (ht : (pc : Int) + off = (tgt : Int)) (k : K g tgt lv st) : K g pc lv st := by
  obtain ⟨p, l, e, R, s, m, args, below, meth, c, cells, slots, Q, Φ, hx, hb, hK⟩ := h
  exact (hK _ _ _ _).2 fun H locs ls hF hl => lv_goto hx hb hd ht ((hK _ _ _ _).1 k H locs ls hF hl)
theorem b_icmp_eq (h : bOk cc nL K) {x y : Int32} {off : Int} {tgt : Nat} (hd : decode cc pc = .ok (.if_icmp .eq off, 3)) (ht : (pc : Int) + off = (tgt : Int)) (k1 : x = y → K g tgt lv st) (k2 : ¬ (x = y) → K g (pc + 3) lv st) : K g pc lv (.int y :: .int x :: st) := by
  obtain ⟨p, l, e, R, s, m, args, below, meth, c, cells, slots, Q, Φ, hx, hb, hK⟩ := h
  exact (hK _ _ _ _).2 fun H locs ls hF hl => lv_icmp_eq hx hb hd ht (fun q => (hK _ _ _ _).1 (k1 q) H locs ls hF hl) (fun q => (hK _ _ _ _).1 (k2 q) H locs ls hF hl)
theorem b_if_eq (h : bOk cc nL K) {x : Int32} {off : Int} {tgt : Nat} (hd : decode cc pc = .ok (.ifCond .eq off, 3)) (ht : (pc : Int) + off = (tgt : Int)) (k1 : x = 0 → K g tgt lv st) (k2 : ¬ (x = 0) → K g (pc + 3) lv st) : K g pc lv (.int x :: st) := by
  obtain ⟨p, l, e, R, s, m, args, below, meth, c, cells, slots, Q, Φ, hx, hb, hK⟩ := h
  exact (hK _ _ _ _).2 fun H locs ls hF hl => lv_if_eq hx hb hd ht (fun q => (hK _ _ _ _).1 (k1 q) H locs ls hF hl) (fun q => (hK _ _ _ _).1 (k2 q) H locs ls hF hl)
theorem b_icmp_ne (h : bOk cc nL K) {x y : Int32} {off : Int} {tgt : Nat} (hd : decode cc pc = .ok (.if_icmp .ne off, 3)) (ht : (pc : Int) + off = (tgt : Int)) (k1 : ¬ x = y → K g tgt lv st) (k2 : x = y → K g (pc + 3) lv st) : K g pc lv (.int y :: .int x :: st) := by
  obtain ⟨p, l, e, R, s, m, args, below, meth, c, cells, slots, Q, Φ, hx, hb, hK⟩ := h
  exact (hK _ _ _ _).2 fun H locs ls hF hl => lv_icmp_ne hx hb hd ht (fun q => (hK _ _ _ _).1 (k1 q) H locs ls hF hl) (fun q => (hK _ _ _ _).1 (k2 q) H locs ls hF hl)
theorem b_if_ne (h : bOk cc nL K) {x : Int32} {off : Int} {tgt : Nat} (hd : decode cc pc = .ok (.ifCond .ne off, 3)) (ht : (pc : Int) + off = (tgt : Int)) (k1 : ¬ x = 0 → K g tgt lv st) (k2 : x = 0 → K g (pc + 3) lv st) : K g pc lv (.int x :: st) := by
  obtain ⟨p, l, e, R, s, m, args, below, meth, c, cells, slots, Q, Φ, hx, hb, hK⟩ := h
  exact (hK _ _ _ _).2 fun H locs ls hF hl => lv_if_ne hx hb hd ht (fun q => (hK _ _ _ _).1 (k1 q) H locs ls hF hl) (fun q => (hK _ _ _ _).1 (k2 q) H locs ls hF hl)
theorem b_icmp_lt (h : bOk cc nL K) {x y : Int32} {off : Int} {tgt : Nat} (hd : decode cc pc = .ok (.if_icmp .lt off, 3)) (ht : (pc : Int) + off = (tgt : Int)) (k1 : x < y → K g tgt lv st) (k2 : ¬ (x < y) → K g (pc + 3) lv st) : K g pc lv (.int y :: .int x :: st) := by
  obtain ⟨p, l, e, R, s, m, args, below, meth, c, cells, slots, Q, Φ, hx, hb, hK⟩ := h
  exact (hK _ _ _ _).2 fun H locs ls hF hl => lv_icmp_lt hx hb hd ht (fun q => (hK _ _ _ _).1 (k1 q) H locs ls hF hl) (fun q => (hK _ _ _ _).1 (k2 q) H locs ls hF hl)
theorem b_if_lt (h : bOk cc nL K) {x : Int32} {off : Int} {tgt : Nat} (hd : decode cc pc = .ok (.ifCond .lt off, 3)) (ht : (pc : Int) + off = (tgt : Int)) (k1 : x < 0 → K g tgt lv st) (k2 : ¬ (x < 0) → K g (pc + 3) lv st) : K g pc lv (.int x :: st) := by
  obtain ⟨p, l, e, R, s, m, args, below, meth, c, cells, slots, Q, Φ, hx, hb, hK⟩ := h
  exact (hK _ _ _ _).2 fun H locs ls hF hl => lv_if_lt hx hb hd ht (fun q => (hK _ _ _ _).1 (k1 q) H locs ls hF hl) (fun q => (hK _ _ _ _).1 (k2 q) H locs ls hF hl)
theorem b_icmp_ge (h : bOk cc nL K) {x y : Int32} {off : Int} {tgt : Nat} (hd : decode cc pc = .ok (.if_icmp .ge off, 3)) (ht : (pc : Int) + off = (tgt : Int)) (k1 : y ≤ x → K g tgt lv st) (k2 : ¬ (y ≤ x) → K g (pc + 3) lv st) : K g pc lv (.int y :: .int x :: st) := by
  obtain ⟨p, l, e, R, s, m, args, below, meth, c, cells, slots, Q, Φ, hx, hb, hK⟩ := h
  exact (hK _ _ _ _).2 fun H locs ls hF hl => lv_icmp_ge hx hb hd ht (fun q => (hK _ _ _ _).1 (k1 q) H locs ls hF hl) (fun q => (hK _ _ _ _).1 (k2 q) H locs ls hF hl)
theorem b_if_ge (h : bOk cc nL K) {x : Int32} {off : Int} {tgt : Nat} (hd : decode cc pc = .ok (.ifCond .ge off, 3)) (ht : (pc : Int) + off = (tgt : Int)) (k1 : 0 ≤ x → K g tgt lv st) (k2 : ¬ (0 ≤ x) → K g (pc + 3) lv st) : K g pc lv (.int x :: st) := by
  obtain ⟨p, l, e, R, s, m, args, below, meth, c, cells, slots, Q, Φ, hx, hb, hK⟩ := h
  exact (hK _ _ _ _).2 fun H locs ls hF hl => lv_if_ge hx hb hd ht (fun q => (hK _ _ _ _).1 (k1 q) H locs ls hF hl) (fun q => (hK _ _ _ _).1 (k2 q) H locs ls hF hl)
theorem b_icmp_gt (h : bOk cc nL K) {x y : Int32} {off : Int} {tgt : Nat} (hd : decode cc pc = .ok (.if_icmp .gt off, 3)) (ht : (pc : Int) + off = (tgt : Int)) (k1 : y < x → K g tgt lv st) (k2 : ¬ (y < x) → K g (pc + 3) lv st) : K g pc lv (.int y :: .int x :: st) := by
  obtain ⟨p, l, e, R, s, m, args, below, meth, c, cells, slots, Q, Φ, hx, hb, hK⟩ := h
  exact (hK _ _ _ _).2 fun H locs ls hF hl => lv_icmp_gt hx hb hd ht (fun q => (hK _ _ _ _).1 (k1 q) H locs ls hF hl) (fun q => (hK _ _ _ _).1 (k2 q) H locs ls hF hl)
theorem b_if_gt (h : bOk cc nL K) {x : Int32} {off : Int} {tgt : Nat} (hd : decode cc pc = .ok (.ifCond .gt off, 3)) (ht : (pc : Int) + off = (tgt : Int)) (k1 : 0 < x → K g tgt lv st) (k2 : ¬ (0 < x) → K g (pc + 3) lv st) : K g pc lv (.int x :: st) := by
  obtain ⟨p, l, e, R, s, m, args, below, meth, c, cells, slots, Q, Φ, hx, hb, hK⟩ := h
  exact (hK _ _ _ _).2 fun H locs ls hF hl => lv_if_gt hx hb hd ht (fun q => (hK _ _ _ _).1 (k1 q) H locs ls hF hl) (fun q => (hK _ _ _ _).1 (k2 q) H locs ls hF hl)
theorem b_icmp_le (h : bOk cc nL K) {x y : Int32} {off : Int} {tgt : Nat} (hd : decode cc pc = .ok (.if_icmp .le off, 3)) (ht : (pc : Int) + off = (tgt : Int)) (k1 : x ≤ y → K g tgt lv st) (k2 : ¬ (x ≤ y) → K g (pc + 3) lv st) : K g pc lv (.int y :: .int x :: st) := by
  obtain ⟨p, l, e, R, s, m, args, below, meth, c, cells, slots, Q, Φ, hx, hb, hK⟩ := h
  exact (hK _ _ _ _).2 fun H locs ls hF hl => lv_icmp_le hx hb hd ht (fun q => (hK _ _ _ _).1 (k1 q) H locs ls hF hl) (fun q => (hK _ _ _ _).1 (k2 q) H locs ls hF hl)
theorem b_if_le (h : bOk cc nL K) {x : Int32} {off : Int} {tgt : Nat} (hd : decode cc pc = .ok (.ifCond .le off, 3)) (ht : (pc : Int) + off = (tgt : Int)) (k1 : x ≤ 0 → K g tgt lv st) (k2 : ¬ (x ≤ 0) → K g (pc + 3) lv st) : K g pc lv (.int x :: st) := by
  obtain ⟨p, l, e, R, s, m, args, below, meth, c, cells, slots, Q, Φ, hx, hb, hK⟩ := h
  exact (hK _ _ _ _).2 fun H locs ls hF hl => lv_if_le hx hb hd ht (fun q => (hK _ _ _ _).1 (k1 q) H locs ls hF hl) (fun q => (hK _ _ _ _).1 (k2 q) H locs ls hF hl)
theorem b_top {x y : Int32} (e : x = y) (k : K g pc lv (.int y :: st)) : K g pc lv (.int x :: st) := by rw [e]; exact k
theorem b_sub (h : bOk cc nL K) (ks : List Nat) {lv' : List (Nat × Value)} (hs : lv_pick lv ks = lv') (k : K g pc lv' st) : K g pc lv st := by
  obtain ⟨p, l, e, R, s, m, args, below, meth, c, cells, slots, Q, Φ, hx, hb, hK⟩ := h
  exact (hK _ _ _ _).2 fun H locs ls hF hl => (hK _ _ _ _).1 k H locs ls hF (lv_sub hl ks hs)
theorem b_iaddN (h : bOk cc nL K) {a b : Nat} (hd : decode cc pc = .ok (.iadd, 1)) (k : K g (pc + 1) lv (.int (nI (a + b)) :: st)) : K g pc lv (.int (nI b) :: .int (nI a) :: st) := b_iadd h hd (by rw [nI_add]; exact k)
theorem b_imulN (h : bOk cc nL K) {a b : Nat} (hd : decode cc pc = .ok (.imul, 1)) (k : K g (pc + 1) lv (.int (nI (a * b)) :: st)) : K g pc lv (.int (nI b) :: .int (nI a) :: st) := b_imul h hd (by rw [pk_mul]; exact k)
theorem b_isubN (h : bOk cc nL K) {a b : Nat} (hd : decode cc pc = .ok (.isub, 1)) (hab : b ≤ a) (k : K g (pc + 1) lv (.int (nI (a - b)) :: st)) : K g pc lv (.int (nI b) :: .int (nI a) :: st) := b_isub h hd (by rw [pk_sub hab]; exact k)
theorem b_iincN (h : bOk cc nL K) {i : Nat} {a : Nat} {lv' : List (Nat × Value)} (hd : decode cc pc = .ok (.iinc i 1, 3)) (hg : lvg lv i = some (.int (nI a))) (hn : i < nL) (he : (i, Value.int (nI (a + 1))) :: lv.filter (fun q => !(q.1 == i) && !(q.1 + 1 == i && q.2.category == 2)) = lv') (k : K g (pc + 3) lv' st) : K g pc lv st := b_iinc h hd hg (nI_1 a) hn he k
theorem b_idecN (h : bOk cc nL K) {i : Nat} {a : Nat} {lv' : List (Nat × Value)} (hd : decode cc pc = .ok (.iinc i (-1), 3)) (ha : 0 < a) (hg : lvg lv i = some (.int (nI a))) (hn : i < nL) (he : (i, Value.int (nI (a - 1))) :: lv.filter (fun q => !(q.1 == i) && !(q.1 + 1 == i && q.2.category == 2)) = lv') (k : K g (pc + 3) lv' st) : K g pc lv st := b_iinc h hd hg (sb_m1 ha) hn he k
theorem b_eqN (h : bOk cc nL K) {a b : Nat} {off : Int} {tgt : Nat} (ha : a < 2 ^ 31) (hb0 : b < 2 ^ 31) (hd : decode cc pc = .ok (.if_icmp .eq off, 3)) (ht : (pc : Int) + off = (tgt : Int)) (k1 : a = b → K g tgt lv st) (k2 : a ≠ b → K g (pc + 3) lv st) : K g pc lv (.int (nI b) :: .int (nI a) :: st) := b_icmp_eq h hd ht (fun q => k1 ((nI_eq ha hb0).mp q)) (fun q => k2 (fun z => q ((nI_eq ha hb0).mpr z)))
theorem b_neN (h : bOk cc nL K) {a b : Nat} {off : Int} {tgt : Nat} (ha : a < 2 ^ 31) (hb0 : b < 2 ^ 31) (hd : decode cc pc = .ok (.if_icmp .ne off, 3)) (ht : (pc : Int) + off = (tgt : Int)) (k1 : a ≠ b → K g tgt lv st) (k2 : a = b → K g (pc + 3) lv st) : K g pc lv (.int (nI b) :: .int (nI a) :: st) := b_icmp_ne h hd ht (fun q => k1 (fun z => q ((nI_eq ha hb0).mpr z))) (fun q => k2 ((nI_eq ha hb0).mp q))
theorem b_ltN (h : bOk cc nL K) {a b : Nat} {off : Int} {tgt : Nat} (ha : a < 2 ^ 31) (hb0 : b < 2 ^ 31) (hd : decode cc pc = .ok (.if_icmp .lt off, 3)) (ht : (pc : Int) + off = (tgt : Int)) (k1 : a < b → K g tgt lv st) (k2 : b ≤ a → K g (pc + 3) lv st) : K g pc lv (.int (nI b) :: .int (nI a) :: st) := b_icmp_lt h hd ht (fun q => k1 ((nI_ltI ha hb0).mp q)) (fun q => k2 (Nat.le_of_not_lt fun z => q ((nI_ltI ha hb0).mpr z)))
theorem b_geN (h : bOk cc nL K) {a b : Nat} {off : Int} {tgt : Nat} (ha : a < 2 ^ 31) (hb0 : b < 2 ^ 31) (hd : decode cc pc = .ok (.if_icmp .ge off, 3)) (ht : (pc : Int) + off = (tgt : Int)) (k1 : b ≤ a → K g tgt lv st) (k2 : a < b → K g (pc + 3) lv st) : K g pc lv (.int (nI b) :: .int (nI a) :: st) := b_icmp_ge h hd ht (fun q => k1 ((nI_leI hb0 ha).mp q)) (fun q => k2 (Nat.lt_of_not_le fun z => q ((nI_leI hb0 ha).mpr z)))
theorem b_gtN (h : bOk cc nL K) {a b : Nat} {off : Int} {tgt : Nat} (ha : a < 2 ^ 31) (hb0 : b < 2 ^ 31) (hd : decode cc pc = .ok (.if_icmp .gt off, 3)) (ht : (pc : Int) + off = (tgt : Int)) (k1 : b < a → K g tgt lv st) (k2 : a ≤ b → K g (pc + 3) lv st) : K g pc lv (.int (nI b) :: .int (nI a) :: st) := b_icmp_gt h hd ht (fun q => k1 ((nI_ltI hb0 ha).mp q)) (fun q => k2 (Nat.le_of_not_lt fun z => q ((nI_ltI hb0 ha).mpr z)))
theorem b_leN (h : bOk cc nL K) {a b : Nat} {off : Int} {tgt : Nat} (ha : a < 2 ^ 31) (hb0 : b < 2 ^ 31) (hd : decode cc pc = .ok (.if_icmp .le off, 3)) (ht : (pc : Int) + off = (tgt : Int)) (k1 : a ≤ b → K g tgt lv st) (k2 : b < a → K g (pc + 3) lv st) : K g pc lv (.int (nI b) :: .int (nI a) :: st) := b_icmp_le h hd ht (fun q => k1 ((nI_leI ha hb0).mp q)) (fun q => k2 (Nat.lt_of_not_le fun z => q ((nI_leI ha hb0).mpr z)))
theorem nI_e0 {a : Nat} (ha : a < 2 ^ 31) : nI a = 0 ↔ a = 0 := nI_eq (b := 0) ha (by decide)
theorem b_eq0N (h : bOk cc nL K) {a : Nat} {off : Int} {tgt : Nat} (ha : a < 2 ^ 31) (hd : decode cc pc = .ok (.ifCond .eq off, 3)) (ht : (pc : Int) + off = (tgt : Int)) (k1 : a = 0 → K g tgt lv st) (k2 : a ≠ 0 → K g (pc + 3) lv st) : K g pc lv (.int (nI a) :: st) := b_if_eq h hd ht (fun q => k1 ((nI_e0 ha).mp q)) (fun q => k2 (fun z => q ((nI_e0 ha).mpr z)))
theorem b_ne0N (h : bOk cc nL K) {a : Nat} {off : Int} {tgt : Nat} (ha : a < 2 ^ 31) (hd : decode cc pc = .ok (.ifCond .ne off, 3)) (ht : (pc : Int) + off = (tgt : Int)) (k1 : a ≠ 0 → K g tgt lv st) (k2 : a = 0 → K g (pc + 3) lv st) : K g pc lv (.int (nI a) :: st) := b_if_ne h hd ht (fun q => k1 (fun z => q ((nI_e0 ha).mpr z))) (fun q => k2 ((nI_e0 ha).mp q))
theorem b_lt0N (h : bOk cc nL K) {a : Nat} {off : Int} (ha : a < 2 ^ 31) (hd : decode cc pc = .ok (.ifCond .lt off, 3)) (tgt : Nat) (ht : (pc : Int) + off = (tgt : Int)) (k2 : K g (pc + 3) lv st) : K g pc lv (.int (nI a) :: st) := b_if_lt (tgt := tgt) h hd ht (fun q => absurd q (nI_pos ha)) (fun _ => k2)
theorem b_ge0N (h : bOk cc nL K) {a : Nat} {off : Int} {tgt : Nat} (ha : a < 2 ^ 31) (hd : decode cc pc = .ok (.ifCond .ge off, 3)) (ht : (pc : Int) + off = (tgt : Int)) (k1 : K g tgt lv st) : K g pc lv (.int (nI a) :: st) := b_if_ge h hd ht (fun _ => k1) (fun q => absurd (nI_pos' ha) q)
theorem b_le0N (h : bOk cc nL K) {a : Nat} {off : Int} {tgt : Nat} (ha : a < 2 ^ 31) (hd : decode cc pc = .ok (.ifCond .le off, 3)) (ht : (pc : Int) + off = (tgt : Int)) (k1 : a = 0 → K g tgt lv st) (k2 : 0 < a → K g (pc + 3) lv st) : K g pc lv (.int (nI a) :: st) := b_if_le h hd ht (fun q => k1 (Nat.eq_zero_of_not_pos fun z => nI_nle z ha q)) (fun q => k2 (Nat.pos_of_ne_zero fun z => q (by rw [z]; decide)))
end BROWS
/-- from -1 on -/
def pI (k : Nat) : Int32 := nI k - 1
theorem pI_0 : pI 0 = -1 := rfl
theorem pI_s (k : Nat) : pI (k + 1) = nI k := nI_pred k
theorem pI_1 (k : Nat) : pI k + 1 = nI k := by unfold pI; exact Int32.sub_add_cancel _ _
theorem pI_inc (k : Nat) : pI k + 1 = pI (k + 1) := by rw [pI_1, pI_s]
/-! worlds of either class -/
theorem z_cls {z : Nat} (hz : z ≤ 1) : classes[z]? = some (zR z, zF z, zN z) := by
  rcases (show z = 0 ∨ z = 1 by omega) with rfl | rfl <;> rfl
theorem z_i {z : Nat} (hz : z ≤ 1) : ∀ w ∈ u_ws (zR z) (zF z) (zN z), w ∈ gt_tbl := by
  rcases (show z = 0 ∨ z = 1 by omega) with rfl | rfl
  · exact i_X
  · exact i_M
theorem z_t {z : Nat} (hz : z ≤ 1) : ∀ k, k < zN z → parseFieldDescriptor (zF z k).2.2.1 = some (zt z k) := by
  rcases (show z = 0 ∨ z = 1 by omega) with rfl | rfl
  · exact t_X_ok
  · exact t_M_ok
theorem z_n {z : Nat} (hz : z ≤ 1) : ∀ a, a < zN z → ∀ b, b < zN z → a ≠ b → (zF z a).2.1 ≠ (zF z b).2.1 := by
  rcases (show z = 0 ∨ z = 1 by omega) with rfl | rfl
  · exact n_X
  · exact n_M
theorem z_ini {z : Nat} (hz : z ≤ 1) : Cond.initialized (zR z) ∈ gt_tbl := by
  rcases (show z = 0 ∨ z = 1 by omega) with rfl | rfl
  · exact ini_X
  · exact ini_M
section ZF
variable {z : Nat} (hz : z ≤ 1) (h : Nat) (ad : Nat → Nat) (cI cZ : ClassId) (g : Sg) (k : Nat)
theorem z_obj (hz : z ≤ 1) : (zw z h ad cI cZ g)[0]? = some (h, .inr (z, zfs z ad g)) := by
  rcases (show z = 0 ∨ z = 1 by omega) with rfl | rfl <;> rfl
theorem z_getN (hz : z ≤ 1) (hk : zkind z k = 0) : (zfs z ad g)[k]? = some (.int (nI (g.1 k))) := by
  rcases (show z = 0 ∨ z = 1 by omega) with rfl | rfl
  · exact X_getN ad g k hk
  · exact M_getN ad g k hk
theorem z_getR (hz : z ≤ 1) (hk : zkind z k = 1) : (zfs z ad g)[k]? = some (.int (g.2 k 0)) := by
  rcases (show z = 0 ∨ z = 1 by omega) with rfl | rfl
  · exact X_getR ad g k hk
  · exact M_getR ad g k hk
theorem z_getA (hz : z ≤ 1) (hk : zkind z k = 2 ∨ zkind z k = 3) : (zfs z ad g)[k]? = some (.ref (ad k)) := by
  rcases (show z = 0 ∨ z = 1 by omega) with rfl | rfl
  · exact X_getA ad g k hk
  · exact M_getA ad g k hk
theorem z_putN (hz : z ≤ 1) (v : Nat) (hk : zkind z k = 0) : (zw z h ad cI cZ g).set 0 (h, .inr (z, (zfs z ad g).set k (.int (nI v)))) = zw z h ad cI cZ (xi g k v) := by
  rcases (show z = 0 ∨ z = 1 by omega) with rfl | rfl
  · exact X_putN h ad cI cZ g v k hk
  · exact M_putN h ad cI cZ g v k hk
theorem z_putR (hz : z ≤ 1) (v : Int32) (hk : zkind z k = 1) : (zw z h ad cI cZ g).set 0 (h, .inr (z, (zfs z ad g).set k (.int v))) = zw z h ad cI cZ (xa g k (fun _ => v)) := by
  rcases (show z = 0 ∨ z = 1 by omega) with rfl | rfl
  · exact X_putR h ad cI cZ g v k hk
  · exact M_putR h ad cI cZ g v k hk
theorem z_arI (hz : z ≤ 1) (hk : zkind z k = 2) : (zw z h ad cI cZ g)[zpos z k]? = some (ad k, .inl (cI, zlen z k, .inl (g.2 k))) := by
  rcases (show z = 0 ∨ z = 1 by omega) with rfl | rfl
  · exact X_arI h ad cI cZ g k hk
  · exact M_arI h ad cI cZ g k hk
theorem z_arZ (hz : z ≤ 1) (hk : zkind z k = 3) : (zw z h ad cI cZ g)[zpos z k]? = some (ad k, .inl (cZ, zlen z k, .inl (g.2 k))) := by
  rcases (show z = 0 ∨ z = 1 by omega) with rfl | rfl
  · exact X_arZ h ad cI cZ g k hk
  · exact M_arZ h ad cI cZ g k hk
theorem z_seI (hz : z ≤ 1) (f : Nat → Int32) (hk : zkind z k = 2) : (zw z h ad cI cZ g).set (zpos z k) (ad k, .inl (cI, zlen z k, .inl f)) = zw z h ad cI cZ (xa g k f) := by
  rcases (show z = 0 ∨ z = 1 by omega) with rfl | rfl
  · exact X_seI h ad cI cZ g f k hk
  · exact M_seI h ad cI cZ g f k hk
theorem z_seZ (hz : z ≤ 1) (f : Nat → Int32) (hk : zkind z k = 3) : (zw z h ad cI cZ g).set (zpos z k) (ad k, .inl (cZ, zlen z k, .inl f)) = zw z h ad cI cZ (xa g k f) := by
  rcases (show z = 0 ∨ z = 1 by omega) with rfl | rfl
  · exact X_seZ h ad cI cZ g f k hk
  · exact M_seZ h ad cI cZ g f k hk
theorem z_int (hz : z ≤ 1) (hk : zkind z k = 0 ∨ zkind z k = 1) : k < zN z ∧ (zF z k).1 = zR z ∧ (zF z k).2.2.2 = false ∧ parseFieldDescriptor (zF z k).2.2.1 = some .int := by
  rcases (show z = 0 ∨ z = 1 by omega) with rfl | rfl
  · exact X_int k hk
  · exact M_int k hk
theorem z_arr (hz : z ≤ 1) (hk : zkind z k = 2 ∨ zkind z k = 3) : k < zN z ∧ (zF z k).1 = zR z := by
  rcases (show z = 0 ∨ z = 1 by omega) with rfl | rfl
  · exact X_arr k hk
  · exact M_arr k hk
theorem z_small (hz : z ≤ 1) : zlen z k < 2 ^ 31 := by
  rcases (show z = 0 ∨ z = 1 by omega) with rfl | rfl
  · exact X_small k
  · exact M_small k
theorem z_len (hz : z ≤ 1) : (zfs z ad g).length = zN z := by
  rcases (show z = 0 ∨ z = 1 by omega) with rfl | rfl <;> rfl
end ZF
theorem z_moveD {z : Nat} (hz : z ≤ 1) {h : Nat} {ad : Nat → Nat} {cI cZ : ClassId} {A : Nat → Prop} (g g' : Sg) (hD : va_D A (zw z h ad cI cZ g)) : va_D A (zw z h ad cI cZ g') := by
  have e : ∀ k : Nat, ((zw z h ad cI cZ g')[k]?).map (fun q => q.1) = ((zw z h ad cI cZ g)[k]?).map (fun q => q.1) := by
    intro k
    rw [← List.getElem?_map, ← List.getElem?_map]
    rcases (show z = 0 ∨ z = 1 by omega) with rfl | rfl <;> rfl
  have key : ∀ (k : Nat) (q : Nat × va_E), (zw z h ad cI cZ g')[k]? = some q → ∃ q0, (zw z h ad cI cZ g)[k]? = some q0 ∧ q0.1 = q.1 := by
    intro k q hq
    have h1 := e k
    rw [hq] at h1
    cases h2 : (zw z h ad cI cZ g)[k]? with
    | none => rw [h2] at h1; cases h1
    | some q0 => rw [h2] at h1; exact ⟨q0, rfl, (Option.some.inj h1).symm⟩
  refine ⟨fun i j x y hi hj hxy => ?_, fun k q hk => ?_⟩
  · obtain ⟨x0, h1, h2⟩ := key i x hi
    obtain ⟨y0, h3, h4⟩ := key j y hj
    exact hD.1 i j x0 y0 h1 h3 (h2.trans (hxy.trans h4.symm))
  · obtain ⟨q0, h1, h2⟩ := key k q hk
    rw [← h2]
    exact hD.2 k q0 h1
/-- a method's room by the depth of the calls under it -/
def lvl (d : Nat) : Room := { frames := d, cells := 0, slots := 0, locals := 30 * d }
abbrev tyl (cI cZ : ClassId) : List (ClassId × FieldType) := [(cI, .int), (cZ, .boolean)]
def gOk (z d h : Nat) (ad : Nat → Nat) (cc : ByteArray) (nL : Nat) (K : Kt Sg) : Prop :=
  ∃ (p : Program) (l : Launch) (e : Env) (s : State) (m : MethodId) (args : Array Value) (below : List Frame) (meth : Method) (c : Code) (Q : State → Prop) (D : va_G) (cI cZ : ClassId) (A : Nat → Prop),
    z ≤ 1 ∧ p.tables.exec = Jvm.exec ∧ c.code = cc ∧ c.maxLocals = nL ∧ s.vm.findClass (zR z) = some m.cls ∧ (∀ w ∈ gt_tbl, w.before args s = true) ∧ va_K D classes (tyl cI cZ) s ∧ (∀ q, s.heap.size ≤ q → A q) ∧
    ∀ (g : Sg) (pc : Nat) (lv : List (Nat × Value)) (st : List Value), K g pc lv st ↔ ∀ (H : Heap) (locs : List Loc) (ls : Array Slot), (va_P D classes (zw z h ad cI cZ g) H ∧ va_D A (zw z h ad cI cZ g) ∧ va_S A s.heap H locs) → lv_has ls nL lv → W p l e (lvl d) s m args below meth c H locs 0 0 Q (F0 m pc ls st)
theorem gOk.b {z d h : Nat} {ad : Nat → Nat} {cc : ByteArray} {nL : Nat} {K : Kt Sg} (hg : gOk z d h ad cc nL K) : bOk cc nL K := by
  obtain ⟨p, l, e, s, m, args, below, meth, c, Q, D, cI, cZ, A, hz, hx, hb, hml, hown, hts, hKK, hA, hK⟩ := hg
  exact ⟨p, l, e, lvl d, s, m, args, below, meth, c, 0, 0, Q, _, hx, hb, hK⟩
section GROWS
variable {z d h : Nat} {ad : Nat → Nat} {cc : ByteArray} {nL : Nat} {K : Kt Sg} {g : Sg} {pc : Nat} {lv : List (Nat × Value)} {st : List Value}
theorem g_getN (hg : gOk z d h ad cc nL K) {index : Nat} (k : Nat) (hf : Cond.fieldLink (zR z) index (zR z) (zF z k).2.1 (zF z k).2.2.1 ∈ gt_tbl) (hk : zkind z k = 0) (hd : decode cc pc = .ok (.getfield index, 3)) {n : Nat} (hn : g.1 k = n) (kk : K g (pc + 3) lv (.int (nI n) :: st)) : K g pc lv (.ref h :: st) := by
  subst hn
  obtain ⟨p, l, e, s, m, args, below, meth, c, Q, D, cI, cZ, A, hz, hx, hb, hml, hown, hts, hKK, hA, hK⟩ := hg
  have hi := z_int (k := k) hz (Or.inl hk)
  exact (hK _ _ _ _).2 fun H locs ls hF hl => va_get (D := D) (ci := z) (C := zR z) (T := zF z) (N := zN z) hx hb hts (z_i hz) hown hKK hF.1 0 (z_obj h ad cI cZ g hz) (z_cls hz) k hi.1 (hts _ hf) (fun y9 h9 => by rw [hi.2.1] at h9; exact h9) (z_getN ad g k hz hk) hd ((hK _ _ _ _).1 kk H locs ls hF hl)
theorem g_getR (hg : gOk z d h ad cc nL K) {index : Nat} (k : Nat) (hf : Cond.fieldLink (zR z) index (zR z) (zF z k).2.1 (zF z k).2.2.1 ∈ gt_tbl) (hk : zkind z k = 1) (hd : decode cc pc = .ok (.getfield index, 3)) {n : Int32} (hn : g.2 k 0 = n) (kk : K g (pc + 3) lv (.int n :: st)) : K g pc lv (.ref h :: st) := by
  subst hn
  obtain ⟨p, l, e, s, m, args, below, meth, c, Q, D, cI, cZ, A, hz, hx, hb, hml, hown, hts, hKK, hA, hK⟩ := hg
  have hi := z_int (k := k) hz (Or.inr hk)
  exact (hK _ _ _ _).2 fun H locs ls hF hl => va_get (D := D) (ci := z) (C := zR z) (T := zF z) (N := zN z) hx hb hts (z_i hz) hown hKK hF.1 0 (z_obj h ad cI cZ g hz) (z_cls hz) k hi.1 (hts _ hf) (fun y9 h9 => by rw [hi.2.1] at h9; exact h9) (z_getR ad g k hz hk) hd ((hK _ _ _ _).1 kk H locs ls hF hl)
theorem g_getA (hg : gOk z d h ad cc nL K) {index : Nat} (k : Nat) (hf : Cond.fieldLink (zR z) index (zR z) (zF z k).2.1 (zF z k).2.2.1 ∈ gt_tbl) (hk : zkind z k = 2 ∨ zkind z k = 3) (hd : decode cc pc = .ok (.getfield index, 3)) (kk : K g (pc + 3) lv (.ref (ad k) :: st)) : K g pc lv (.ref h :: st) := by
  obtain ⟨p, l, e, s, m, args, below, meth, c, Q, D, cI, cZ, A, hz, hx, hb, hml, hown, hts, hKK, hA, hK⟩ := hg
  have hi := z_arr (k := k) hz hk
  exact (hK _ _ _ _).2 fun H locs ls hF hl => va_get (D := D) (ci := z) (C := zR z) (T := zF z) (N := zN z) hx hb hts (z_i hz) hown hKK hF.1 0 (z_obj h ad cI cZ g hz) (z_cls hz) k hi.1 (hts _ hf) (fun y9 h9 => by rw [hi.2] at h9; exact h9) (z_getA ad g k hz hk) hd ((hK _ _ _ _).1 kk H locs ls hF hl)
theorem g_putN (hg : gOk z d h ad cc nL K) {index : Nat} (k : Nat) (hf : Cond.fieldLink (zR z) index (zR z) (zF z k).2.1 (zF z k).2.2.1 ∈ gt_tbl) (hk : zkind z k = 0) (hd : decode cc pc = .ok (.putfield index, 3)) {v : Nat} (kk : K (xi g k v) (pc + 3) lv st) : K g pc lv (.int (nI v) :: .ref h :: st) := by
  obtain ⟨p, l, e, s, m, args, below, meth, c, Q, D, cI, cZ, A, hz, hx, hb, hml, hown, hts, hKK, hA, hK⟩ := hg
  have hi := z_int (k := k) hz (Or.inl hk)
  exact (hK _ _ _ _).2 fun H locs ls hF hl => va_put (D := D) (ci := z) (v := .int (nI v)) (ty := .int) (C := zR z) (T := zF z) (N := zN z) hx hb hts (z_i hz) (zt z) (z_t hz) (z_n hz) hown hKK hF.1 hF.2.1 hF.2.2 0 (z_obj h ad cI cZ g hz) (z_cls hz) k hi.1 (hts _ hf) (fun y9 h9 => by rw [hi.2.1] at h9; exact h9) hi.2.2.1 hi.2.2.2 rfl rfl (by rw [z_len ad g hz]; exact hi.1) hd
    (fun H1 locs1 hP hD hS => by rw [z_putN h ad cI cZ g k hz v hk] at hP hD; exact (hK _ _ _ _).1 kk H1 locs1 ls ⟨hP, hD, hS⟩ hl)
theorem g_putR (hg : gOk z d h ad cc nL K) {index : Nat} (k : Nat) (hf : Cond.fieldLink (zR z) index (zR z) (zF z k).2.1 (zF z k).2.2.1 ∈ gt_tbl) (hk : zkind z k = 1) (hd : decode cc pc = .ok (.putfield index, 3)) {v : Int32} (kk : K (xa g k (fun _ => v)) (pc + 3) lv st) : K g pc lv (.int v :: .ref h :: st) := by
  obtain ⟨p, l, e, s, m, args, below, meth, c, Q, D, cI, cZ, A, hz, hx, hb, hml, hown, hts, hKK, hA, hK⟩ := hg
  have hi := z_int (k := k) hz (Or.inr hk)
  exact (hK _ _ _ _).2 fun H locs ls hF hl => va_put (D := D) (ci := z) (v := .int v) (ty := .int) (C := zR z) (T := zF z) (N := zN z) hx hb hts (z_i hz) (zt z) (z_t hz) (z_n hz) hown hKK hF.1 hF.2.1 hF.2.2 0 (z_obj h ad cI cZ g hz) (z_cls hz) k hi.1 (hts _ hf) (fun y9 h9 => by rw [hi.2.1] at h9; exact h9) hi.2.2.1 hi.2.2.2 rfl rfl (by rw [z_len ad g hz]; exact hi.1) hd
    (fun H1 locs1 hP hD hS => by rw [z_putR h ad cI cZ g k hz v hk] at hP hD; exact (hK _ _ _ _).1 kk H1 locs1 ls ⟨hP, hD, hS⟩ hl)
theorem g_iald (hg : gOk z d h ad cc nL K) {k j n : Nat} (hn : zlen z k = n) (hk : zkind z k = 2) (hj : j < n) (hd : decode cc pc = .ok (.iaload, 1)) {v : Int32} (hv : g.2 k j = v) (kk : K g (pc + 1) lv (.int v :: st)) : K g pc lv (.int (nI j) :: .ref (ad k) :: st) := by
  subst hv; subst hn
  obtain ⟨p, l, e, s, m, args, below, meth, c, Q, D, cI, cZ, A, hz, hx, hb, hml, hown, hts, hKK, hA, hK⟩ := hg
  have hs := z_small k hz
  refine (hK _ _ _ _).2 fun H locs ls hF hl => va_iald hx hb hKK hF.1 (zpos z k) 0 (z_arI h ad cI cZ g k hz hk) rfl (vp_in_nI hj hs) hd ?_
  rw [nI_clamp (Nat.lt_trans hj hs)]
  exact (hK _ _ _ _).1 kk H locs ls hF hl
theorem g_zald (hg : gOk z d h ad cc nL K) {k j n : Nat} (hn : zlen z k = n) (hk : zkind z k = 3) (hj : j < n) (hd : decode cc pc = .ok (.baload, 1)) {v : Int32} (hv : g.2 k j = v) (kk : K g (pc + 1) lv (.int v :: st)) : K g pc lv (.int (nI j) :: .ref (ad k) :: st) := by
  subst hv; subst hn
  obtain ⟨p, l, e, s, m, args, below, meth, c, Q, D, cI, cZ, A, hz, hx, hb, hml, hown, hts, hKK, hA, hK⟩ := hg
  have hs := z_small k hz
  refine (hK _ _ _ _).2 fun H locs ls hF hl => va_zald hx hb hKK hF.1 (zpos z k) 1 (z_arZ h ad cI cZ g k hz hk) rfl (vp_in_nI hj hs) hd ?_
  rw [nI_clamp (Nat.lt_trans hj hs)]
  exact (hK _ _ _ _).1 kk H locs ls hF hl
theorem g_iast (hg : gOk z d h ad cc nL K) {k j n : Nat} (hn : zlen z k = n) (hk : zkind z k = 2) (hj : j < n) (hd : decode cc pc = .ok (.iastore, 1)) {v : Int32} (kk : K (xa g k (upd (g.2 k) j v)) (pc + 1) lv st) : K g pc lv (.int v :: .int (nI j) :: .ref (ad k) :: st) := by
  subst hn
  obtain ⟨p, l, e, s, m, args, below, meth, c, Q, D, cI, cZ, A, hz, hx, hb, hml, hown, hts, hKK, hA, hK⟩ := hg
  have hs := z_small k hz
  refine (hK _ _ _ _).2 fun H locs ls hF hl => va_iast hx hb hKK hF.1 hF.2.1 hF.2.2 (zpos z k) 0 (z_arI h ad cI cZ g k hz hk) rfl (vp_in_nI hj hs) hd ?_
  rw [nI_clamp (Nat.lt_trans hj hs)]
  intro H1 locs1 hP hD hS
  rw [z_seI h ad cI cZ g k hz _ hk] at hP hD
  exact (hK _ _ _ _).1 kk H1 locs1 ls ⟨hP, hD, hS⟩ hl
theorem g_zast (hg : gOk z d h ad cc nL K) {k j n : Nat} (hn : zlen z k = n) (hk : zkind z k = 3) (hj : j < n) (hd : decode cc pc = .ok (.bastore, 1)) {v : Int32} (hv : v = 0 ∨ v = 1) (kk : K (xa g k (upd (g.2 k) j v)) (pc + 1) lv st) : K g pc lv (.int v :: .int (nI j) :: .ref (ad k) :: st) := by
  subst hn
  obtain ⟨p, l, e, s, m, args, below, meth, c, Q, D, cI, cZ, A, hz, hx, hb, hml, hown, hts, hKK, hA, hK⟩ := hg
  have hs := z_small k hz
  have hn2 : vp_nar .boolean v = v := by rcases hv with rfl | rfl <;> rfl
  refine (hK _ _ _ _).2 fun H locs ls hF hl => va_zast hx hb hKK hF.1 hF.2.1 hF.2.2 (zpos z k) 1 (z_arZ h ad cI cZ g k hz hk) rfl (vp_in_nI hj hs) hd ?_
  rw [nI_clamp (Nat.lt_trans hj hs), hn2]
  intro H1 locs1 hP hD hS
  rw [z_seZ h ad cI cZ g k hz _ hk] at hP hD
  exact (hK _ _ _ _).1 kk H1 locs1 ls ⟨hP, hD, hS⟩ hl
end GROWS
/-! contracts -/
def mB (D : va_G) (z h : Nat) (ad : Nat → Nat) (cI cZ : ClassId) (A : Nat → Prop) (u : Sg) (t : State) : Prop := va_P D classes (zw z h ad cI cZ u) t.heap ∧ va_K D classes (tyl cI cZ) t ∧ va_D A (zw z h ad cI cZ u)
def mP (D : va_G) (z h : Nat) (ad : Nat → Nat) (cI cZ : ClassId) (sz : Nat) (g : Sg) (U : State) : Prop := U.heap.size = sz ∧ va_P D classes (zw z h ad cI cZ g) U.heap ∧ va_K D classes (tyl cI cZ) U ∧ va_D (fun _ => True) (zw z h ad cI cZ g)
def mMi (z d : Nat) (y : MethodName) (cc : ByteArray) (nL : Nat) (rt : FieldType) (av : List Value) (g : Sg) (post : Int32 → Sg → Prop) : Prop :=
  ∀ (l : Launch) (D : va_G) (h : Nat) (ad : Nat → Nat) (cI cZ : ClassId) (sz : Nat), Met l y (.code y cc nL (some rt) :: gt_tbl) (lvl d) (va_Pc (.ref h :: av) (mP D z h ad cI cZ sz g)) (va_Qi post (mB D z h ad cI cZ (va_A (zw z h ad cI cZ g) sz)) (va_A (zw z h ad cI cZ g) sz)) 0 0 (va_A (zw z h ad cI cZ g) sz)
def mMv (z d : Nat) (y : MethodName) (cc : ByteArray) (nL : Nat) (av : List Value) (g : Sg) (post : Sg → Prop) : Prop :=
  ∀ (l : Launch) (D : va_G) (h : Nat) (ad : Nat → Nat) (cI cZ : ClassId) (sz : Nat), Met l y (.code y cc nL none :: gt_tbl) (lvl d) (va_Pc (.ref h :: av) (mP D z h ad cI cZ sz g)) (va_Qv post (mB D z h ad cI cZ (va_A (zw z h ad cI cZ g) sz)) (va_A (zw z h ad cI cZ g) sz)) 0 0 (va_A (zw z h ad cI cZ g) sz)
theorem m_i {z d : Nat} {y : MethodName} {cc : ByteArray} {nL : Nat} {rt : FieldType} {av : List Value} {g : Sg} {post : Int32 → Sg → Prop} (hz : z ≤ 1) (hy : plainName y.cls = true) (hc : y.cls = zR z) (hn : ∀ h : Nat, (lg_sl (.ref h :: av)).length ≤ nL)
    (body : ∀ (h : Nat) (ad : Nat → Nat) (K : Kt Sg), gOk z d h ad cc nL K → (∀ (u : Sg) (v : Int32) (pc : Nat) (lv : List (Nat × Value)), decode cc pc = .ok (.ireturn, 1) → narrow rt (.int v) = .int v → post v u → K u pc lv [.int v]) → K g 0 (lv_args 0 (.ref h :: av)) []) : mMi z d y cc nL rt av g post := by
  intro l D h ad cI cZ sz
  refine Met.ofW (cc := cc) (maxL := nL) (ret := (some rt)) hy rfl ?_
  intro p e s m args below meth c s₁ B hml hv
  obtain ⟨rfl, hsz, hP, hKK, hD0⟩ := hv
  have hx := B.exec
  have hb := B.bytes
  have hr := B.returns
  have hts0 := atoms_spec (ws := Cond.code y cc nL (some rt) :: gt_tbl) B.pre
  have hts : ∀ w ∈ gt_tbl, w.before (Value.ref h :: av).toArray s = true := fun w hw => hts0 w (List.mem_cons_of_mem _ hw)
  have hown : s.vm.findClass (zR z) = some m.cls := by rw [← hc]; exact findClass_of_methodNamed B.named
  have hlocks := B.notSynchronized
  subst hsz
  have hD := hD0.self (sz := s.heap.size)
  have hA : ∀ q : Nat, s.heap.size ≤ q → va_A (zw z h ad cI cZ g) s.heap.size q := fun q h => Or.inr h
  have hl := lv_entry (Value.ref h :: av) (n := nL) (hn h)
  rw [lg_entry_eq]
  generalize (lg_sl (Value.ref h :: av) ++ List.replicate (nL - (lg_sl (Value.ref h :: av)).length) Slot.unset).toArray = ls at hl ⊢
  refine body h ad (fun (u : Sg) (pc : Nat) (lv : List (Nat × Value)) (st : List Value) => ∀ (H : Heap) (locs : List Loc) (ls : Array Slot), (va_P D classes (zw z h ad cI cZ u) H ∧ va_D (va_A (zw z h ad cI cZ g) s.heap.size) (zw z h ad cI cZ u) ∧ va_S (va_A (zw z h ad cI cZ g) s.heap.size) s.heap H locs) → lv_has ls nL lv → W p l e (lvl d) s m (Value.ref h :: av).toArray below meth c H locs 0 0 _ (F0 m pc ls st)) ?_ ?_ s.heap [] ls ⟨hP, hD, va_S.rf⟩ hl
  · exact ⟨p, l, e, s, m, _, below, meth, c, _, D, cI, cZ, _, hz, hx, hb, hml, hown, hts, hKK, hA, fun _ _ _ _ => Iff.rfl⟩
  · intro u v pc lv hd hn hp H locs ls hF hl
    exact W.zret hx hb hr hn (fun t ht hW => ⟨⟨v, u, rfl, hp, by rw [ht]; exact hF.1, va_K.moved hW.alike hKK, hF.2.1⟩, hF.2.2.F ht⟩) hF.2.2.2.2 hd
theorem m_v {z d : Nat} {y : MethodName} {cc : ByteArray} {nL : Nat}  {av : List Value} {g : Sg} {post : Sg → Prop} (hz : z ≤ 1) (hy : plainName y.cls = true) (hc : y.cls = zR z) (hn : ∀ h : Nat, (lg_sl (.ref h :: av)).length ≤ nL)
    (body : ∀ (h : Nat) (ad : Nat → Nat) (K : Kt Sg), gOk z d h ad cc nL K → (∀ (u : Sg) (pc : Nat) (lv : List (Nat × Value)), decode cc pc = .ok (.return_, 1) → post u → K u pc lv []) → K g 0 (lv_args 0 (.ref h :: av)) []) : mMv z d y cc nL av g post := by
  intro l D h ad cI cZ sz
  refine Met.ofW (cc := cc) (maxL := nL) (ret := none) hy rfl ?_
  intro p e s m args below meth c s₁ B hml hv
  obtain ⟨rfl, hsz, hP, hKK, hD0⟩ := hv
  have hx := B.exec
  have hb := B.bytes
  have hr := B.returns
  have hts0 := atoms_spec (ws := Cond.code y cc nL none :: gt_tbl) B.pre
  have hts : ∀ w ∈ gt_tbl, w.before (Value.ref h :: av).toArray s = true := fun w hw => hts0 w (List.mem_cons_of_mem _ hw)
  have hown : s.vm.findClass (zR z) = some m.cls := by rw [← hc]; exact findClass_of_methodNamed B.named
  have hlocks := B.notSynchronized
  subst hsz
  have hD := hD0.self (sz := s.heap.size)
  have hA : ∀ q : Nat, s.heap.size ≤ q → va_A (zw z h ad cI cZ g) s.heap.size q := fun q h => Or.inr h
  have hl := lv_entry (Value.ref h :: av) (n := nL) (hn h)
  rw [lg_entry_eq]
  generalize (lg_sl (Value.ref h :: av) ++ List.replicate (nL - (lg_sl (Value.ref h :: av)).length) Slot.unset).toArray = ls at hl ⊢
  refine body h ad (fun (u : Sg) (pc : Nat) (lv : List (Nat × Value)) (st : List Value) => ∀ (H : Heap) (locs : List Loc) (ls : Array Slot), (va_P D classes (zw z h ad cI cZ u) H ∧ va_D (va_A (zw z h ad cI cZ g) s.heap.size) (zw z h ad cI cZ u) ∧ va_S (va_A (zw z h ad cI cZ g) s.heap.size) s.heap H locs) → lv_has ls nL lv → W p l e (lvl d) s m (Value.ref h :: av).toArray below meth c H locs 0 0 _ (F0 m pc ls st)) ?_ ?_ s.heap [] ls ⟨hP, hD, va_S.rf⟩ hl
  · exact ⟨p, l, e, s, m, _, below, meth, c, _, D, cI, cZ, _, hz, hx, hb, hml, hown, hts, hKK, hA, fun _ _ _ _ => Iff.rfl⟩
  · intro u pc lv hd hp H locs ls hF hl
    exact W.vret hx hb hr (fun t ht hW => ⟨⟨u, rfl, hp, by rw [ht]; exact hF.1, va_K.moved hW.alike hKK, hF.2.1⟩, hF.2.2.F ht⟩) hF.2.2.2.2 hd
/-- what the tables say of a callee -/
def lk (own : String) (z index : Nat) (y : MethodName) (cc : ByteArray) (nL : Nat) (ro : Option FieldType) (n : Nat) : Prop :=
  nL ≤ 11 ∧ Cond.methodLink own index y ∈ gt_tbl ∧ Cond.instanceMethod y ∈ gt_tbl ∧ Cond.selects (zR z) y y ∈ gt_tbl ∧ Cond.code y cc nL ro ∈ gt_tbl ∧ y.cls = zR z ∧ y.cls ≠ "java/lang/invoke/MethodHandle" ∧ y.cls ≠ "java/lang/invoke/VarHandle" ∧ (parseMethodDescriptor y.desc).map (fun d => d.parameters.length) = some n
theorem lk_cw {own : String} {z index : Nat} {y : MethodName} {cc : ByteArray} {nL : Nat} {ro : Option FieldType} {n d : Nat} {R : Room} {s : State} {args : Array Value} (hz : z ≤ 1) (hl : lk own z index y cc nL ro n) (hts : ∀ w ∈ gt_tbl, w.before args s = true) (h1 : d + 1 ≤ R.frames) (h2 : 30 * (d + 1) ≤ R.locals) : CallW R s args own (zR z) index y cc nL ro (.code y cc nL ro :: gt_tbl) (lvl d) 0 0 n := by
  obtain ⟨h0, a1, a2, a3, a4, a5, a6, a7, a8⟩ := hl
  refine cwV n hts ?_ rfl rfl rfl ⟨a5, a6, a7, a8⟩ ⟨h1, ?_⟩
  · intro w hw
    have hin : w ∈ gt_tbl := by
      rcases List.mem_append.mp hw with q | q
      · rcases List.mem_cons.mp q with rfl | q
        · exact a1
        · rcases List.mem_cons.mp q with rfl | q
          · exact a2
          · rcases List.mem_cons.mp q with rfl | q
            · exact a3
            · rcases List.mem_cons.mp q with rfl | q
              · exact z_ini hz
              · cases q
      · rcases List.mem_cons.mp q with rfl | q
        · exact a4
        · exact q
    exact good_in w hin
  · show 8 + (nL + 11) + 30 * d ≤ R.locals
    omega
theorem mP_blind {D : va_G} {z h : Nat} {ad : Nat → Nat} {cI cZ : ClassId} {sz : Nat} {g : Sg} {av : List Value} : FrameBlind (va_Pc av (mP D z h ad cI cZ sz g)) := by
  intro a U g' mk q
  obtain ⟨q0, q1, qP, qK, qD⟩ := q
  exact ⟨q0, q1, qP, va_K.moved (u := U) (U := U.calling g' mk a) (Vm.Alike.refl U.vm) qK, qD⟩
section GCALL
variable {z d h : Nat} {ad : Nat → Nat} {cc : ByteArray} {nL : Nat} {K : Kt Sg} {g : Sg} {pc : Nat} {lv : List (Nat × Value)} {st rest : List Value}
theorem g_calli (hg : gOk z d h ad cc nL K) {d2 : Nat} {y : MethodName} {cc2 : ByteArray} {nL2 index : Nat} {av : List Value} {rt : FieldType} {post : Int32 → Sg → Prop} (hM : mMi z d2 y cc2 nL2 rt av g post) (hl : lk (zR z) z index y cc2 nL2 (some rt) av.length) (hd2 : d2 < d) (hd : decode cc pc = .ok (.invokevirtual index, 3)) (hst : st = av.reverse ++ .ref h :: rest) (hro : (rest.map fun v => v.category).sum ≤ 8)
    (kk : ∀ (r : Int32) (u : Sg), post r u → K u (pc + 3) lv (.int r :: rest)) : K g pc lv st := by
  obtain ⟨p, l, e, s, m, args, below, meth, c, Q, D, cI, cZ, A, hz, hx, hb, hml, hown, hts, hKK, hA, hK⟩ := hg
  refine (hK _ _ _ _).2 fun H locs ls hF hl0 => ?_
  obtain ⟨hP, hD, hS⟩ := hF
  have hFc : ∀ q, va_A (zw z h ad cI cZ g) H.size q → A q := fun q hq => by
    rcases hq with ⟨k, e, hq⟩ | hq
    · exact hD.2 k (q, e) hq
    · exact hA q (Nat.le_trans hS.1 hq)
  refine va_calli (va_runV (As := av) (rest := rest) ⟨hx, hb, hml, hown, hts⟩ (hM l D h ad cI cZ H.size) (lk_cw hz hl hts (R := lvl d) (by show d2 + 1 ≤ d; omega) (by show 30 * (d2 + 1) ≤ 30 * d; omega)) ⟨mP_blind, va_recv hKK hP (z_cls hz) (z_obj h ad cI cZ g hz), fun U hU hW => ⟨rfl, by rw [hU], by rw [hU]; exact hP, va_K.moved hW.alike hKK, hD.weaken (fun _ _ _ _ => trivial)⟩⟩ rfl rfl hl0.1 hst (lv_room hro) hd ⟨Nat.zero_le _, Nat.zero_le _⟩) hS (fun q _ hq => hFc q hq) hFc (fun r u t H1 locs1 ht hvm hw hB hz1 hk1 hS1 => ?_)
  obtain ⟨hP1, hK1, hD1⟩ := hB
  rw [ht] at hP1
  exact (hK _ _ _ _).1 (kk r u hw) H1 locs1 ls ⟨hP1, hD1.weaken (fun k q _ hq => hFc q.1 hq), hS1⟩ hl0
theorem g_callv (hg : gOk z d h ad cc nL K) {d2 : Nat} {y : MethodName} {cc2 : ByteArray} {nL2 index : Nat} {av : List Value} {post : Sg → Prop} (hM : mMv z d2 y cc2 nL2 av g post) (hl : lk (zR z) z index y cc2 nL2 none av.length) (hd2 : d2 < d) (hd : decode cc pc = .ok (.invokevirtual index, 3)) (hst : st = av.reverse ++ .ref h :: rest) (hro : (rest.map fun v => v.category).sum ≤ 8)
    (kk : ∀ u : Sg, post u → K u (pc + 3) lv rest) : K g pc lv st := by
  obtain ⟨p, l, e, s, m, args, below, meth, c, Q, D, cI, cZ, A, hz, hx, hb, hml, hown, hts, hKK, hA, hK⟩ := hg
  refine (hK _ _ _ _).2 fun H locs ls hF hl0 => ?_
  obtain ⟨hP, hD, hS⟩ := hF
  have hFc : ∀ q, va_A (zw z h ad cI cZ g) H.size q → A q := fun q hq => by
    rcases hq with ⟨k, e, hq⟩ | hq
    · exact hD.2 k (q, e) hq
    · exact hA q (Nat.le_trans hS.1 hq)
  refine va_callv (va_runV (As := av) (rest := rest) ⟨hx, hb, hml, hown, hts⟩ (hM l D h ad cI cZ H.size) (lk_cw hz hl hts (R := lvl d) (by show d2 + 1 ≤ d; omega) (by show 30 * (d2 + 1) ≤ 30 * d; omega)) ⟨mP_blind, va_recv hKK hP (z_cls hz) (z_obj h ad cI cZ g hz), fun U hU hW => ⟨rfl, by rw [hU], by rw [hU]; exact hP, va_K.moved hW.alike hKK, hD.weaken (fun _ _ _ _ => trivial)⟩⟩ rfl rfl hl0.1 hst (lv_room hro) hd ⟨Nat.zero_le _, Nat.zero_le _⟩) hS (fun q _ hq => hFc q hq) hFc (fun u t H1 locs1 ht hvm hw hB hz1 hk1 hS1 => ?_)
  obtain ⟨hP1, hK1, hD1⟩ := hB
  rw [ht] at hP1
  exact (hK _ _ _ _).1 (kk u hw) H1 locs1 ls ⟨hP1, hD1.weaken (fun k q _ hq => hFc q.1 hq), hS1⟩ hl0
end GCALL
end
section
/-! what the tables say of each call, printed by tools/lks.py -/
theorem lk_law_X_type : lk R_law 0 13 y_X_type b_X_type 2 (some .int) 1 := ⟨by decide, ml_law_13, in_X_type, se_X_type, k_X_type, rfl, by decide +kernel, by decide +kernel, by decide +kernel⟩
theorem lk_law_X_erase : lk R_law 0 18 y_X_erase b_X_erase 1 none 0 := ⟨by decide, ml_law_18, in_X_erase, se_X_erase, k_X_erase, rfl, by decide +kernel, by decide +kernel, by decide +kernel⟩
theorem lk_law_X_keep : lk R_law 0 22 y_X_keep b_X_keep 4 (some .int) 1 := ⟨by decide, ml_law_22, in_X_keep, se_X_keep, k_X_keep, rfl, by decide +kernel, by decide +kernel, by decide +kernel⟩
theorem lk_X_X_hasAny : lk R_X 0 66 y_X_hasAny b_X_hasAny 2 (some .boolean) 0 := ⟨by decide, ml_X_66, in_X_hasAny, se_X_hasAny, k_X_hasAny, rfl, by decide +kernel, by decide +kernel, by decide +kernel⟩
theorem lk_law_X_rule : lk R_law 0 26 y_X_rule b_X_rule 6 (some .int) 3 := ⟨by decide, ml_law_26, in_X_rule, se_X_rule, k_X_rule, rfl, by decide +kernel, by decide +kernel, by decide +kernel⟩
theorem lk_law_X_stem : lk R_law 0 31 y_X_stem b_X_stem 5 (some .int) 1 := ⟨by decide, ml_law_31, in_X_stem, se_X_stem, k_X_stem, rfl, by decide +kernel, by decide +kernel, by decide +kernel⟩
theorem lk_X_X_childOf : lk R_X 0 76 y_X_childOf b_X_childOf 4 (some .int) 2 := ⟨by decide, ml_X_76, in_X_childOf, se_X_childOf, k_X_childOf, rfl, by decide +kernel, by decide +kernel, by decide +kernel⟩
theorem lk_X_X_chain : lk R_X 0 80 y_X_chain b_X_chain 5 none 2 := ⟨by decide, ml_X_80, in_X_chain, se_X_chain, k_X_chain, rfl, by decide +kernel, by decide +kernel, by decide +kernel⟩
theorem lk_law_X_reflag : lk R_law 0 35 y_X_reflag b_X_reflag 4 (some .int) 2 := ⟨by decide, ml_law_35, in_X_reflag, se_X_reflag, k_X_reflag, rfl, by decide +kernel, by decide +kernel, by decide +kernel⟩
theorem lk_law_X_length : lk R_law 0 40 y_X_length b_X_length 1 (some .int) 0 := ⟨by decide, ml_law_40, in_X_length, se_X_length, k_X_length, rfl, by decide +kernel, by decide +kernel, by decide +kernel⟩
theorem lk_law_X_derivations : lk R_law 0 45 y_X_derivations b_X_derivations 1 (some .int) 0 := ⟨by decide, ml_law_45, in_X_derivations, se_X_derivations, k_X_derivations, rfl, by decide +kernel, by decide +kernel, by decide +kernel⟩
theorem lk_X_X_searchTyped : lk R_X 0 124 y_X_searchTyped b_X_searchTyped 3 none 0 := ⟨by decide, ml_X_124, in_X_searchTyped, se_X_searchTyped, k_X_searchTyped, rfl, by decide +kernel, by decide +kernel, by decide +kernel⟩
theorem lk_X_X_search : lk R_X 0 121 y_X_search b_X_search 3 none 0 := ⟨by decide, ml_X_121, in_X_search, se_X_search, k_X_search, rfl, by decide +kernel, by decide +kernel, by decide +kernel⟩
theorem lk_X_X_searchSuffixes : lk R_X 0 96 y_X_searchSuffixes b_X_searchSuffixes 4 none 1 := ⟨by decide, ml_X_96, in_X_searchSuffixes, se_X_searchSuffixes, k_X_searchSuffixes, rfl, by decide +kernel, by decide +kernel, by decide +kernel⟩
theorem lk_X_X_takeStems : lk R_X 0 104 y_X_takeStems b_X_takeStems 7 none 2 := ⟨by decide, ml_X_104, in_X_takeStems, se_X_takeStems, k_X_takeStems, rfl, by decide +kernel, by decide +kernel, by decide +kernel⟩
theorem lk_X_X_findCore : lk R_X 0 110 y_X_findCore b_X_findCore 3 (some .int) 0 := ⟨by decide, ml_X_110, in_X_findCore, se_X_findCore, k_X_findCore, rfl, by decide +kernel, by decide +kernel, by decide +kernel⟩
theorem lk_X_X_allows : lk R_X 0 114 y_X_allows b_X_allows 3 (some .boolean) 2 := ⟨by decide, ml_X_114, in_X_allows, se_X_allows, k_X_allows, rfl, by decide +kernel, by decide +kernel, by decide +kernel⟩
theorem lk_X_X_addFound : lk R_X 0 118 y_X_addFound b_X_addFound 3 none 1 := ⟨by decide, ml_X_118, in_X_addFound, se_X_addFound, k_X_addFound, rfl, by decide +kernel, by decide +kernel, by decide +kernel⟩
theorem lk_X_X_undoSuffix : lk R_X 0 107 y_X_undoSuffix b_X_undoSuffix 8 (some .boolean) 1 := ⟨by decide, ml_X_107, in_X_undoSuffix, se_X_undoSuffix, k_X_undoSuffix, rfl, by decide +kernel, by decide +kernel, by decide +kernel⟩
theorem lk_X_X_undoPrefix : lk R_X 0 100 y_X_undoPrefix b_X_undoPrefix 7 (some .boolean) 1 := ⟨by decide, ml_X_100, in_X_undoPrefix, se_X_undoPrefix, k_X_undoPrefix, rfl, by decide +kernel, by decide +kernel, by decide +kernel⟩
theorem lk_law_X_stemOf : lk R_law 0 49 y_X_stemOf b_X_stemOf 2 (some .int) 1 := ⟨by decide, ml_law_49, in_X_stemOf, se_X_stemOf, k_X_stemOf, rfl, by decide +kernel, by decide +kernel, by decide +kernel⟩
theorem lk_law_X_suffixOf : lk R_law 0 53 y_X_suffixOf b_X_suffixOf 3 (some .int) 1 := ⟨by decide, ml_law_53, in_X_suffixOf, se_X_suffixOf, k_X_suffixOf, rfl, by decide +kernel, by decide +kernel, by decide +kernel⟩
theorem lk_law_X_prefixOf : lk R_law 0 57 y_X_prefixOf b_X_prefixOf 3 (some .int) 1 := ⟨by decide, ml_law_57, in_X_prefixOf, se_X_prefixOf, k_X_prefixOf, rfl, by decide +kernel, by decide +kernel, by decide +kernel⟩
theorem lk_law_X_continuations : lk R_law 0 61 y_X_continuations b_X_continuations 5 (some .int) 0 := ⟨by decide, ml_law_61, in_X_continuations, se_X_continuations, k_X_continuations, rfl, by decide +kernel, by decide +kernel, by decide +kernel⟩
theorem lk_law_M_type : lk R_law 1 17 y_M_type b_M_type 2 (some .int) 1 := ⟨by decide, ml_law_17, in_M_type, se_M_type, k_M_type, rfl, by decide +kernel, by decide +kernel, by decide +kernel⟩
theorem lk_law_M_erase : lk R_law 1 21 y_M_erase b_M_erase 1 none 0 := ⟨by decide, ml_law_21, in_M_erase, se_M_erase, k_M_erase, rfl, by decide +kernel, by decide +kernel, by decide +kernel⟩
theorem lk_law_M_keep : lk R_law 1 25 y_M_keep b_M_keep 3 (some .int) 1 := ⟨by decide, ml_law_25, in_M_keep, se_M_keep, k_M_keep, rfl, by decide +kernel, by decide +kernel, by decide +kernel⟩
theorem lk_M_M_nine : lk R_M 1 54 y_M_nine b_M_nine 2 (some .boolean) 0 := ⟨by decide, ml_M_54, in_M_nine, se_M_nine, k_M_nine, rfl, by decide +kernel, by decide +kernel, by decide +kernel⟩
theorem lk_law_M_rule : lk R_law 1 30 y_M_rule b_M_rule 5 (some .int) 3 := ⟨by decide, ml_law_30, in_M_rule, se_M_rule, k_M_rule, rfl, by decide +kernel, by decide +kernel, by decide +kernel⟩
theorem lk_law_M_stem : lk R_law 1 34 y_M_stem b_M_stem 3 (some .int) 1 := ⟨by decide, ml_law_34, in_M_stem, se_M_stem, k_M_stem, rfl, by decide +kernel, by decide +kernel, by decide +kernel⟩
theorem lk_law_M_reflag : lk R_law 1 39 y_M_reflag b_M_reflag 4 (some .int) 2 := ⟨by decide, ml_law_39, in_M_reflag, se_M_reflag, k_M_reflag, rfl, by decide +kernel, by decide +kernel, by decide +kernel⟩
theorem lk_law_M_length : lk R_law 1 44 y_M_length b_M_length 1 (some .int) 0 := ⟨by decide, ml_law_44, in_M_length, se_M_length, k_M_length, rfl, by decide +kernel, by decide +kernel, by decide +kernel⟩
theorem lk_law_M_derivations : lk R_law 1 48 y_M_derivations b_M_derivations 4 (some .int) 0 := ⟨by decide, ml_law_48, in_M_derivations, se_M_derivations, k_M_derivations, rfl, by decide +kernel, by decide +kernel, by decide +kernel⟩
theorem lk_M_M_ofStem : lk R_M 1 85 y_M_ofStem b_M_ofStem 6 (some .int) 2 := ⟨by decide, ml_M_85, in_M_ofStem, se_M_ofStem, k_M_ofStem, rfl, by decide +kernel, by decide +kernel, by decide +kernel⟩
theorem lk_M_M_gives : lk R_M 1 75 y_M_gives b_M_gives 7 (some .boolean) 3 := ⟨by decide, ml_M_75, in_M_gives, se_M_gives, k_M_gives, rfl, by decide +kernel, by decide +kernel, by decide +kernel⟩
theorem lk_M_M_apply : lk R_M 1 71 y_M_apply b_M_apply 7 (some .boolean) 1 := ⟨by decide, ml_M_71, in_M_apply, se_M_apply, k_M_apply, rfl, by decide +kernel, by decide +kernel, by decide +kernel⟩
theorem lk_M_M_stands : lk R_M 1 67 y_M_stands b_M_stands 8 (some .boolean) 3 := ⟨by decide, ml_M_67, in_M_stands, se_M_stands, k_M_stands, rfl, by decide +kernel, by decide +kernel, by decide +kernel⟩
theorem lk_law_M_stemOf : lk R_law 1 52 y_M_stemOf b_M_stemOf 2 (some .int) 1 := ⟨by decide, ml_law_52, in_M_stemOf, se_M_stemOf, k_M_stemOf, rfl, by decide +kernel, by decide +kernel, by decide +kernel⟩
theorem lk_M_M_find : lk R_M 1 89 y_M_find b_M_find 5 (some .int) 1 := ⟨by decide, ml_M_89, in_M_find, se_M_find, k_M_find, rfl, by decide +kernel, by decide +kernel, by decide +kernel⟩
theorem lk_law_M_suffixOf : lk R_law 1 56 y_M_suffixOf b_M_suffixOf 2 (some .int) 1 := ⟨by decide, ml_law_56, in_M_suffixOf, se_M_suffixOf, k_M_suffixOf, rfl, by decide +kernel, by decide +kernel, by decide +kernel⟩
theorem lk_law_M_prefixOf : lk R_law 1 60 y_M_prefixOf b_M_prefixOf 2 (some .int) 1 := ⟨by decide, ml_law_60, in_M_prefixOf, se_M_prefixOf, k_M_prefixOf, rfl, by decide +kernel, by decide +kernel, by decide +kernel⟩
theorem lk_law_M_continuations : lk R_law 1 64 y_M_continuations b_M_continuations 3 (some .int) 0 := ⟨by decide, ml_law_64, in_M_continuations, se_M_continuations, k_M_continuations, rfl, by decide +kernel, by decide +kernel, by decide +kernel⟩
theorem lk_M_M_derivations : lk R_M 1 93 y_M_derivations b_M_derivations 4 (some .int) 0 := ⟨by decide, ml_M_93, in_M_derivations, se_M_derivations, k_M_derivations, rfl, by decide +kernel, by decide +kernel, by decide +kernel⟩
end
section
/-! the plain picture of both: words, rule parts, rules, stems -/
abbrev Ab : Type := List Int32 × (Nat → List Int32) × Nat × (Nat → Nat) × (Nat → Bool) × (Nat → Bool) × (Nat → Nat → List Int32) × Nat × (Nat → List Int32) × (Nat → Nat)
abbrev aw (A : Ab) : List Int32 := A.1
abbrev akp (A : Ab) : Nat → List Int32 := A.2.1
abbrev aR (A : Ab) : Nat := A.2.2.1
abbrev aF (A : Ab) : Nat → Nat := A.2.2.2.1
abbrev aS (A : Ab) : Nat → Bool := A.2.2.2.2.1
abbrev aC (A : Ab) : Nat → Bool := A.2.2.2.2.2.1
abbrev aP (A : Ab) : Nat → Nat → List Int32 := A.2.2.2.2.2.2.1
abbrev aN (A : Ab) : Nat := A.2.2.2.2.2.2.2.1
abbrev aL (A : Ab) : Nat → List Int32 := A.2.2.2.2.2.2.2.2.1
abbrev aG (A : Ab) : Nat → Nat := A.2.2.2.2.2.2.2.2.2
def lt9 (c : Int32) : Prop := ∃ n : Nat, 1 ≤ n ∧ n ≤ 9 ∧ c = nI n
def lt8 (c : Int32) : Prop := ∃ n : Nat, 1 ≤ n ∧ n ≤ 8 ∧ c = nI n
def rep (f : Nat → Int32) (o : Nat) (w : List Int32) : Prop := ∀ i : Nat, i < w.length → f (o + i) = w.getD i 0
def b2 (b : Bool) : Int32 := match b with | true => 1 | false => 0
theorem b2_n (b : Bool) : narrow .boolean (.int (b2 b)) = .int (b2 b) := by cases b <;> rfl
theorem b2_01 (b : Bool) : b2 b = 0 ∨ b2 b = 1 := by cases b <;> simp [b2]
theorem b2_0 {b : Bool} : b2 b = 0 ↔ b = false := by cases b <;> decide
theorem b2_1 {b : Bool} : b2 b = 1 ↔ b = true := by cases b <;> decide
def any9 (w : List Int32) : Bool := w.any (fun c => c == 9)
theorem gd_mem {w : List Int32} {i : Nat} (h : i < w.length) : w.getD i 0 ∈ w := by
  rw [List.getD_eq_getElem?_getD, List.getElem?_eq_getElem h]
  exact List.getElem_mem h
theorem gd_of {w : List Int32} {c : Int32} (h : c ∈ w) : ∃ i : Nat, i < w.length ∧ w.getD i 0 = c := by
  obtain ⟨i, hi, e⟩ := List.mem_iff_getElem.mp h
  exact ⟨i, hi, by rw [List.getD_eq_getElem?_getD, List.getElem?_eq_getElem hi]; exact e⟩
theorem gd_ext {v w : List Int32} (hl : v.length = w.length) (h : ∀ i : Nat, i < v.length → v.getD i 0 = w.getD i 0) : v = w := by
  apply List.ext_getElem hl
  intro i h1 h2
  have h3 := h i h1
  rw [List.getD_eq_getElem?_getD, List.getD_eq_getElem?_getD, List.getElem?_eq_getElem h1, List.getElem?_eq_getElem h2] at h3
  exact h3
theorem gd_app {v w : List Int32} {i : Nat} : (v ++ w).getD i 0 = if i < v.length then v.getD i 0 else w.getD (i - v.length) 0 := by
  rw [List.getD_eq_getElem?_getD, List.getD_eq_getElem?_getD, List.getD_eq_getElem?_getD, List.getElem?_append]
  split <;> rfl
theorem gd_drop {w : List Int32} {n i : Nat} : (w.drop n).getD i 0 = w.getD (n + i) 0 := by
  rw [List.getD_eq_getElem?_getD, List.getD_eq_getElem?_getD, List.getElem?_drop]
theorem gd_take {w : List Int32} {n i : Nat} (h : i < n) : (w.take n).getD i 0 = w.getD i 0 := by
  rw [List.getD_eq_getElem?_getD, List.getD_eq_getElem?_getD, List.getElem?_take]
  simp [h]
theorem any9_t {w : List Int32} {i : Nat} (h : i < w.length) (e : w.getD i 0 = 9) : any9 w = true := List.any_eq_true.mpr ⟨_, gd_mem h, by rw [e]; rfl⟩
theorem any9_f {w : List Int32} (h : ∀ i : Nat, i < w.length → w.getD i 0 ≠ 9) : any9 w = false := by
  apply Bool.eq_false_iff.mpr
  intro h1
  obtain ⟨c, hc, e⟩ := List.any_eq_true.mp h1
  obtain ⟨i, hi, e2⟩ := gd_of hc
  exact h i hi (by rw [e2]; exact eq_of_beq e)
theorem any9_8 {w : List Int32} (h9 : ∀ c ∈ w, lt9 c) (h : any9 w = false) : ∀ c ∈ w, lt8 c := by
  intro c hc
  obtain ⟨n, h1, h2, rfl⟩ := h9 c hc
  refine ⟨n, h1, ?_, rfl⟩
  rcases Nat.lt_or_ge n 9 with q | q
  · omega
  · exfalso
    have e : n = 9 := by omega
    subst e
    have : any9 w = true := List.any_eq_true.mpr ⟨_, hc, by decide⟩
    rw [h] at this
    cases this
theorem rep_snoc {f : Nat → Int32} {w : List Int32} {c : Int32} (h : rep f 0 w) : rep (upd f w.length c) 0 (w ++ [c]) := by
  intro i hi
  rw [List.length_append, List.length_singleton] at hi
  rw [gd_app, Nat.zero_add]
  by_cases q : i < w.length
  · rw [if_pos q, pk_un (by omega)]
    have := h i q
    rwa [Nat.zero_add] at this
  · have e : i = w.length := by omega
    subst e
    rw [if_neg q, pk_us, Nat.sub_self]
    rfl
theorem rep_0 {f : Nat → Int32} {w : List Int32} (h : rep f 0 w) {i : Nat} (hi : i < w.length) : f i = w.getD i 0 := by
  have := h i hi
  rwa [Nat.zero_add] at this
/-- only the slots of S may differ -/
def fr (S : List Nat) (a b : Sg) : Prop := ∀ k : Nat, k ∉ S → b.1 k = a.1 k ∧ b.2 k = a.2 k
theorem fr_rf {S : List Nat} {a : Sg} : fr S a a := fun _ _ => ⟨rfl, rfl⟩
theorem fr_tr {S : List Nat} {a b c : Sg} (h1 : fr S a b) (h2 : fr S b c) : fr S a c := fun k hk => ⟨(h2 k hk).1.trans (h1 k hk).1, (h2 k hk).2.trans (h1 k hk).2⟩
theorem fr_mono {S T : List Nat} {a b : Sg} (h : fr S a b) (hs : ∀ k ∈ S, k ∈ T) : fr T a b := fun k hk => h k (fun z => hk (hs k z))
theorem fr_xi {S : List Nat} {a b : Sg} {k v : Nat} (h : fr S a b) (hk : k ∈ S) : fr S a (xi b k v) := fun j hj => ⟨by
  have hne : j ≠ k := fun z => hj (z ▸ hk)
  show va_up b.1 k v j = _
  unfold va_up
  rw [if_neg hne]
  exact (h j hj).1, (h j hj).2⟩
theorem fr_xa {S : List Nat} {a b : Sg} {k : Nat} {f : Nat → Int32} (h : fr S a b) (hk : k ∈ S) : fr S a (xa b k f) := fun j hj => ⟨(h j hj).1, by
  have hne : j ≠ k := fun z => hj (z ▸ hk)
  show va_up b.2 k f j = _
  unfold va_up
  rw [if_neg hne]
  exact (h j hj).2⟩
def okp (x : List Int32) (p : Nat) : Prop := x.length ≤ 3 ∧ (∀ c ∈ x, lt9 c) ∧ (p ≠ 2 → ∀ c ∈ x, lt8 c)
def WA (A : Ab) : Prop := ((aw A).length ≤ 12 ∧ ∀ c ∈ aw A, lt9 c) ∧ (∀ p : Nat, p < 3 → okp (akp A p) p) ∧ aR A ≤ 10 ∧ (∀ r : Nat, r < aR A → aF A r ≤ 7 ∧ ∀ p : Nat, p < 3 → okp (aP A r p) p) ∧ aN A ≤ 12 ∧ (∀ s : Nat, s < aN A → 1 ≤ (aL A s).length ∧ (aL A s).length ≤ 12 ∧ (∀ c ∈ aL A s, lt8 c) ∧ aG A s < 256)
def RW (n : Nat) (f : Nat → Int32) (w : List Int32) : Prop := n = w.length ∧ rep f 0 w
def RK (kl k : Nat → Int32) (kp : Nat → List Int32) : Prop := ∀ p : Nat, p < 3 → kl p = nI (kp p).length ∧ rep k (p * 3) (kp p)
def RR (A : Ab) (R : Nat) (fl su cr pl pt : Nat → Int32) : Prop := R = aR A ∧ ∀ r : Nat, r < aR A → fl r = nI (aF A r) ∧ su r = b2 (aS A r) ∧ cr r = b2 (aC A r) ∧ ∀ p : Nat, p < 3 → pl (r * 3 + p) = nI (aP A r p).length ∧ rep pt (r * 9 + p * 3) (aP A r p)
/-! the tree of stems -/
/-- nodes below N; pa gives a node's letters -/
def TP (N : Nat) (ch : Nat → Int32) (pa : Nat → List Int32) : Prop := 1 ≤ N ∧ N ≤ 145 ∧ pa 0 = [] ∧ (∀ v c : Nat, v < N → 1 ≤ c → c ≤ 8 → ∃ u : Nat, ch (v * 8 + (c - 1)) = nI u ∧ (u = 0 ∨ (u < N ∧ pa u = pa v ++ [nI c]))) ∧ (∀ u : Nat, 0 < u → u < N → ∃ v c : Nat, v < N ∧ 1 ≤ c ∧ c ≤ 8 ∧ ch (v * 8 + (c - 1)) = nI u) ∧ (∀ j : Nat, N * 8 ≤ j → j < 1160 → ch j = 0)
/-- a chain of stems from a head (pI: -1 none) -/
def TC (nx : Nat → Int32) : Int32 → List Nat → Prop
  | hd, [] => hd = -1
  | hd, s :: l => hd = nI s ∧ s < 12 ∧ TC nx (nx s) l
/-- the stems of a word, ascending -/
def sts (A : Ab) (w : List Int32) : List Nat := (List.range (aN A)).filter (fun s => aL A s == w)
def TR (A : Ab) (N : Nat) (ch fi nx : Nat → Int32) : Prop := ∃ pa : Nat → List Int32, TP N ch pa ∧ N ≤ 1 + 12 * aN A ∧ (∀ v : Nat, v < N → TC nx (fi v) (sts A (pa v))) ∧ ∀ s : Nat, s < aN A → ∃ v : Nat, v < N ∧ pa v = aL A s
def JX (g : Sg) (A : Ab) : Prop := WA A ∧ RW (g.1 1) (g.2 0) (aw A) ∧ RK (g.2 2) (g.2 3) (akp A) ∧ RR A (g.1 4) (g.2 5) (g.2 6) (g.2 7) (g.2 8) (g.2 9) ∧ g.1 10 = aN A ∧ (∀ s : Nat, s < aN A → g.2 11 s = nI (aG A s)) ∧ TR A (g.1 12) (g.2 13) (g.2 14) (g.2 15)
def JM (g : Sg) (A : Ab) : Prop := WA A ∧ RW (g.1 1) (g.2 0) (aw A) ∧ RK (g.2 3) (g.2 2) (akp A) ∧ RR A (g.1 4) (g.2 5) (g.2 6) (g.2 7) (g.2 9) (g.2 8) ∧ g.1 10 = aN A ∧ (∀ s : Nat, s < aN A → g.2 11 s = nI (aG A s) ∧ g.2 12 s = nI (aL A s).length ∧ rep (g.2 13) (s * 12) (aL A s))
theorem JX_fr {S : List Nat} {a b : Sg} {A : Ab} (h : fr S a b) (hS : ∀ k : Nat, k < 16 → k ∉ S) (hJ : JX a A) : JX b A := by
  unfold JX at hJ ⊢
  rw [(h 1 (hS 1 (by decide))).1, (h 4 (hS 4 (by decide))).1, (h 10 (hS 10 (by decide))).1, (h 12 (hS 12 (by decide))).1, (h 0 (hS 0 (by decide))).2, (h 2 (hS 2 (by decide))).2, (h 3 (hS 3 (by decide))).2, (h 5 (hS 5 (by decide))).2, (h 6 (hS 6 (by decide))).2, (h 7 (hS 7 (by decide))).2, (h 8 (hS 8 (by decide))).2, (h 9 (hS 9 (by decide))).2, (h 11 (hS 11 (by decide))).2, (h 13 (hS 13 (by decide))).2, (h 14 (hS 14 (by decide))).2, (h 15 (hS 15 (by decide))).2]
  exact hJ
theorem JM_fr {S : List Nat} {a b : Sg} {A : Ab} (h : fr S a b) (hS : ∀ k : Nat, k < 14 → k ∉ S) (hJ : JM a A) : JM b A := by
  unfold JM at hJ ⊢
  rw [(h 1 (hS 1 (by decide))).1, (h 4 (hS 4 (by decide))).1, (h 10 (hS 10 (by decide))).1, (h 0 (hS 0 (by decide))).2, (h 2 (hS 2 (by decide))).2, (h 3 (hS 3 (by decide))).2, (h 5 (hS 5 (by decide))).2, (h 6 (hS 6 (by decide))).2, (h 7 (hS 7 (by decide))).2, (h 8 (hS 8 (by decide))).2, (h 9 (hS 9 (by decide))).2, (h 11 (hS 11 (by decide))).2, (h 12 (hS 12 (by decide))).2, (h 13 (hS 13 (by decide))).2]
  exact hJ
/-! the operations, on the picture -/
def opT (A : Ab) (c : Int32) : Int32 × Ab := if c < 1 ∨ 9 < c then (-1, A) else if 12 ≤ (aw A).length then (-2, A) else (nI ((aw A).length + 1), (aw A ++ [c], A.2))
def opE (A : Ab) : Ab := ([], A.2)
theorem WA_type {A : Ab} {c : Int32} (h : WA A) (h1 : ¬ c < 1) (h2 : ¬ 9 < c) (h3 : ¬ 12 ≤ (aw A).length) : WA (aw A ++ [c], A.2) := by
  obtain ⟨⟨ha, hb⟩, hr⟩ := h
  refine ⟨⟨?_, ?_⟩, hr⟩
  · show (A.1 ++ [c]).length ≤ 12
    rw [List.length_append, List.length_singleton]
    exact Nat.lt_of_not_le h3
  · intro d hd
    rcases List.mem_append.mp hd with q | q
    · exact hb d q
    · rw [List.mem_singleton] at q
      subst q
      have h0 : ¬ d < 0 := fun z => h1 (Int32.lt_trans z (by decide))
      obtain ⟨j, hj, rfl⟩ := nI_of2 (M := 9) (n := 9) rfl h0 (Int32.not_lt.mp h2)
      refine ⟨j, ?_, hj, rfl⟩
      rcases Nat.eq_zero_or_pos j with q | q
      · subst q; exact absurd (by decide) h1
      · exact q
theorem WA_erase {A : Ab} (h : WA A) : WA ([], A.2) := ⟨⟨Nat.zero_le _, fun c hc => by cases hc⟩, h.2⟩
end
section
/-! AffixSpeller: the buffer -/
theorem x_type {g : Sg} {A : Ab} {c : Int32} (hJ : JX g A) : mMi 0 0 y_X_type b_X_type 2 .int [.int c] g (fun r u => r = (opT A c).1 ∧ JX u (opT A c).2) := by
  refine m_i (Nat.zero_le _) (by decide) rfl (fun _ => Nat.le_of_ble_eq_true rfl) (fun h ad K hg hret => ?_)
  have hb := hg.b
  have hJ0 := hJ
  obtain ⟨hw, ⟨hn, hrw⟩, hk, hr, hN, hG, hT⟩ := hJ
  have hle : (aw A).length ≤ 12 := hw.1.1
  show K g 0 [(0, .ref h), (1, .int c)] []
  refine b_iload_n hb d_X_type_0 rfl rfl ?_
  refine b_iconst (v := 1) hb d_X_type_1 rfl ?_
  refine b_icmp_lt (tgt := 11) hb d_X_type_2 (by decide) (fun c1 => ?_) (fun c1 => ?_)
  · refine b_iconst (v := -1) hb d_X_type_11 rfl ?_
    exact hret _ _ _ _ d_X_type_12 rfl ⟨by rw [opT, if_pos (Or.inl c1)], by rw [opT, if_pos (Or.inl c1)]; exact hJ0⟩
  · refine b_iload_n hb d_X_type_5 rfl rfl ?_
    refine b_bipush (v := 9) hb d_X_type_6 rfl ?_
    refine b_icmp_le (tgt := 13) hb d_X_type_8 (by decide) (fun c2 => ?_) (fun c2 => ?_)
    · refine b_aload_n hb d_X_type_13 rfl rfl ?_
      refine g_getN hg 1 fl_X_1 rfl d_X_type_14 (hn) ?_
      refine b_bipush (v := nI 12) hb d_X_type_17 rfl ?_
      refine b_ltN (tgt := 25) hb (by omega) (by omega) d_X_type_19 (by decide) (fun c3 => ?_) (fun c3 => ?_)
      · refine b_aload_n hb d_X_type_25 rfl rfl ?_
        refine g_getA hg 0 fl_X_0 (Or.inl rfl) d_X_type_26 ?_
        refine b_aload_n hb d_X_type_29 rfl rfl ?_
        refine g_getN hg 1 fl_X_1 rfl d_X_type_30 (hn) ?_
        refine b_iload_n hb d_X_type_33 rfl rfl ?_
        refine g_iast (n := 12) hg rfl rfl (by omega) d_X_type_34 ?_
        refine b_aload_n hb d_X_type_35 rfl rfl ?_
        refine b_dup hb d_X_type_36 rfl ?_
        refine g_getN hg 1 fl_X_1 rfl d_X_type_37 (hn) ?_
        refine b_iconst (v := nI 1) hb d_X_type_40 rfl ?_
        refine b_iaddN hb d_X_type_41 ?_
        refine g_putN hg 1 fl_X_1 rfl d_X_type_42 ?_
        refine b_aload_n hb d_X_type_45 rfl rfl ?_
        refine g_getN hg 1 fl_X_1 rfl d_X_type_46 (rfl) ?_
        have hno : ¬ (c < 1 ∨ 9 < c) := fun z => z.elim c1 (Int32.not_lt.mpr c2)
        have e : opT A c = (nI ((aw A).length + 1), (aw A ++ [c], A.2)) := by rw [opT, if_neg hno, if_neg (by omega)]
        exact hret _ _ _ _ d_X_type_49 rfl ⟨by rw [e]; rfl, by rw [e]; exact ⟨WA_type hw c1 (Int32.not_lt.mpr c2) (by omega), ⟨by rw [List.length_append]; rfl, rep_snoc hrw⟩, hk, hr, hN, hG, hT⟩⟩
      · refine b_bipush (v := -2) hb d_X_type_22 rfl ?_
        have hno : ¬ (c < 1 ∨ 9 < c) := fun z => z.elim c1 (Int32.not_lt.mpr c2)
        have e : opT A c = (-2, A) := by rw [opT, if_neg hno, if_pos c3]
        exact hret _ _ _ _ d_X_type_24 rfl ⟨by rw [e], by rw [e]; exact hJ0⟩
    · refine b_iconst (v := -1) hb d_X_type_11 rfl ?_
      exact hret _ _ _ _ d_X_type_12 rfl ⟨by rw [opT, if_pos (Or.inr (Int32.not_le.mp c2))], by rw [opT, if_pos (Or.inr (Int32.not_le.mp c2))]; exact hJ0⟩
theorem x_erase {g : Sg} {A : Ab} (hJ : JX g A) : mMv 0 0 y_X_erase b_X_erase 1 [] g (fun u => JX u (opE A)) := by
  refine m_v (Nat.zero_le _) (by decide) rfl (fun _ => Nat.le_of_ble_eq_true rfl) (fun h ad K hg hret => ?_)
  have hb := hg.b
  obtain ⟨hw, ⟨hn, hrw⟩, hk, hr, hN, hG, hT⟩ := hJ
  show K g 0 [(0, .ref h)] []
  refine b_aload_n hb d_X_erase_0 rfl rfl ?_
  refine b_iconst (v := nI 0) hb d_X_erase_1 rfl ?_
  refine g_putN hg 1 fl_X_1 rfl d_X_erase_2 ?_
  exact hret _ _ _ d_X_erase_5 ⟨WA_erase hw, ⟨rfl, fun i hi => absurd hi (Nat.not_lt_zero i)⟩, hk, hr, hN, hG, hT⟩
theorem x_hasAny {g : Sg} {w : List Int32} (hw : RW (g.1 1) (g.2 0) w) (hl : w.length ≤ 12) : mMi 0 0 y_X_hasAny b_X_hasAny 2 .boolean [] g (fun r u => r = b2 (any9 w) ∧ u = g) := by
  refine m_i (Nat.zero_le _) (by decide) rfl (fun _ => Nat.le_of_ble_eq_true rfl) (fun h ad K hg hret => ?_)
  have hb := hg.b
  obtain ⟨hn, hrw⟩ := hw
  have loop : ∀ n i : Nat, i + n = w.length → (∀ j : Nat, j < i → w.getD j 0 ≠ 9) → K g 2 [(1, .int (nI i)), (0, .ref h)] [] := by
    intro n
    induction n with
    | zero =>
      intro i hi hj
      refine b_iload_n hb d_X_hasAny_2 rfl rfl ?_
      refine b_aload_n hb d_X_hasAny_3 rfl rfl ?_
      refine g_getN hg 1 fl_X_1 rfl d_X_hasAny_4 (hn) ?_
      refine b_geN (tgt := 29) hb (by omega) (by omega) d_X_hasAny_7 (by decide) (fun c1 => ?_) (fun c1 => ?_)
      · refine b_iconst (v := nI 0) hb d_X_hasAny_29 rfl ?_
        exact hret _ _ _ _ d_X_hasAny_30 rfl ⟨by rw [any9_f (fun j hj2 => hj j (by omega))]; rfl, rfl⟩
      · exact absurd c1 (by omega)
    | succ n ih =>
      intro i hi hj
      refine b_iload_n hb d_X_hasAny_2 rfl rfl ?_
      refine b_aload_n hb d_X_hasAny_3 rfl rfl ?_
      refine g_getN hg 1 fl_X_1 rfl d_X_hasAny_4 (hn) ?_
      refine b_geN (tgt := 29) hb (by omega) (by omega) d_X_hasAny_7 (by decide) (fun c1 => ?_) (fun c1 => ?_)
      · exact absurd c1 (by omega)
      · refine b_aload_n hb d_X_hasAny_10 rfl rfl ?_
        refine g_getA hg 0 fl_X_0 (Or.inl rfl) d_X_hasAny_11 ?_
        refine b_iload_n hb d_X_hasAny_14 rfl rfl ?_
        refine g_iald (n := 12) hg rfl rfl (by omega) d_X_hasAny_15 (rep_0 hrw c1) ?_
        refine b_bipush (v := 9) hb d_X_hasAny_16 rfl ?_
        refine b_icmp_ne (tgt := 23) hb d_X_hasAny_18 (by decide) (fun c2 => ?_) (fun c2 => ?_)
        · refine b_iincN (lv' := [(1, _), (0, _)]) hb d_X_hasAny_23 rfl (by decide) rfl ?_
          refine b_goto (tgt := 2) hb d_X_hasAny_26 (by decide) ?_
          exact ih (i + 1) (by omega) (fun j hj2 => by
            rcases Nat.lt_or_ge j i with q | q
            · exact hj j q
            · have : j = i := by omega
              subst this; exact c2)
        · refine b_iconst (v := nI 1) hb d_X_hasAny_21 rfl ?_
          exact hret _ _ _ _ d_X_hasAny_22 rfl ⟨by rw [any9_t c1 c2]; rfl, rfl⟩
  show K g 0 [(0, .ref h)] []
  refine b_iconst (v := nI 0) hb d_X_hasAny_0 rfl ?_
  refine b_istore_n (lv' := [(1, _), (0, _)]) hb d_X_hasAny_1 rfl (by decide) rfl ?_
  exact loop w.length 0 (by omega) (fun j hj => absurd hj (Nat.not_lt_zero j))
end
section
/-! keep, rule, reflag on the picture -/
theorem xa_xa (g : Sg) (k : Nat) (f f2 : Nat → Int32) : xa (xa g k f) k f2 = xa g k f2 := by
  show (g.1, va_up (va_up g.2 k f) k f2) = (g.1, va_up g.2 k f2)
  rw [bx_uu]
theorem up_s {α : Type} {f : Nat → α} {k : Nat} {v : α} : va_up f k v k = v := by unfold va_up; rw [if_pos rfl]
theorem up_n {α : Type} {f : Nat → α} {k j : Nat} {v : α} (h : j ≠ k) : va_up f k v j = f j := by unfold va_up; rw [if_neg h]
def m8 (x : Int32) : Nat := x.toBitVec.toNat % 2 ^ 8
theorem m8_and (x : Int32) : x &&& nI 255 = nI (m8 x) := pk_and x 8 (by decide)
theorem m8_lt (x : Int32) : m8 x < 256 := Nat.mod_lt _ (by decide)
def opK (A : Ab) (p : Int32) : Int32 × Ab := if p < 0 ∨ 2 < p then (-4, A) else if 3 < (aw A).length ∨ (any9 (aw A) = true ∧ p ≠ 2) then (-3, A) else (nI (aw A).length, ([], va_up (akp A) p.toNatClampNeg (aw A), A.2.2))
def opR (A : Ab) (f : Int32) (su cr : Bool) : Int32 × Ab := if f < 0 ∨ 7 < f then (-5, A) else if 10 ≤ aR A then (-2, A) else (nI (aR A), (aw A, akp A, aR A + 1, va_up (aF A) (aR A) f.toNatClampNeg, va_up (aS A) (aR A) su, va_up (aC A) (aR A) cr, va_up (aP A) (aR A) (akp A), A.2.2.2.2.2.2.2))
def opF (A : Ab) (s f : Int32) : Int32 × Ab := if s < 0 ∨ nI (aN A) ≤ s then (-6, A) else (nI (aG A s.toNatClampNeg), (aw A, akp A, aR A, aF A, aS A, aC A, aP A, aN A, aL A, va_up (aG A) s.toNatClampNeg (m8 f)))
theorem RK_put {kl k : Nat → Int32} {kp : Nat → List Int32} {j : Nat} {w : List Int32} {f : Nat → Int32} (hw : w.length ≤ 3) (hl : ∀ p : Nat, p < 3 → (kp p).length ≤ 3) (h : RK kl k kp) (hf : ∀ t : Nat, t < w.length → f (j * 3 + t) = w.getD t 0) (ho : ∀ m : Nat, ¬ (j * 3 ≤ m ∧ m < j * 3 + 3) → f m = k m) : RK (upd kl j (nI w.length)) f (va_up kp j w) := by
  intro p hp
  by_cases q : p = j
  · subst q
    rw [up_s, pk_us]
    exact ⟨rfl, hf⟩
  · rw [up_n q, pk_un q]
    refine ⟨(h p hp).1, fun i hi => ?_⟩
    have h3 := hl p hp
    rw [ho _ (by omega)]
    exact (h p hp).2 i hi
theorem WA_keep {A : Ab} {j : Nat} (h : WA A) (h3 : (aw A).length ≤ 3) (h9 : ¬ (any9 (aw A) = true ∧ j ≠ 2)) : WA ([], va_up (akp A) j (aw A), A.2.2) := by
  obtain ⟨⟨ha, hb⟩, hk, hr⟩ := h
  refine ⟨⟨Nat.zero_le _, fun c hc => by cases hc⟩, ?_, hr⟩
  intro p hp
  show okp (va_up (akp A) j (aw A) p) p
  by_cases q : p = j
  · subst q
    rw [up_s]
    refine ⟨h3, hb, fun hp2 => any9_8 hb ?_⟩
    cases e : any9 (aw A) with
    | false => rfl
    | true => exact absurd ⟨e, hp2⟩ h9
  · rw [up_n q]
    exact hk p hp
theorem WA_rule {A : Ab} {j : Nat} {su cr : Bool} (h : WA A) (h7 : j ≤ 7) (hR : aR A < 10) : WA (aw A, akp A, aR A + 1, va_up (aF A) (aR A) j, va_up (aS A) (aR A) su, va_up (aC A) (aR A) cr, va_up (aP A) (aR A) (akp A), A.2.2.2.2.2.2.2) := by
  obtain ⟨hw, hk, hr, hq, hs⟩ := h
  refine ⟨hw, hk, hR, ?_, hs⟩
  intro r hr2
  show va_up (aF A) (aR A) j r ≤ 7 ∧ ∀ p : Nat, p < 3 → okp (va_up (aP A) (aR A) (akp A) r p) p
  by_cases q : r = aR A
  · subst q
    rw [up_s, up_s]
    exact ⟨h7, hk⟩
  · rw [up_n q, up_n q]
    exact hq r (by have : r < aR A + 1 := hr2; omega)
theorem WA_flag {A : Ab} {s f : Nat} (h : WA A) (hf : f < 256) : WA (aw A, akp A, aR A, aF A, aS A, aC A, aP A, aN A, aL A, va_up (aG A) s f) := by
  obtain ⟨hw, hk, hr, hq, hN, hs⟩ := h
  refine ⟨hw, hk, hr, hq, hN, ?_⟩
  intro t ht
  obtain ⟨h1, h2, h3, h4⟩ := hs t ht
  refine ⟨h1, h2, h3, ?_⟩
  show va_up (aG A) s f t < 256
  by_cases q : t = s
  · subst q; rw [up_s]; exact hf
  · rw [up_n q]; exact h4
theorem RR_put {A : Ab} {R j : Nat} {s c : Bool} {fl su cr pl pt kl k pl2 pt2 : Nat → Int32} (h : RR A R fl su cr pl pt) (hw : WA A) (hk : RK kl k (akp A)) (h1 : ∀ p : Nat, p < 3 → pl2 (aR A * 3 + p) = kl p) (h2 : ∀ m : Nat, m < aR A * 3 → pl2 m = pl m) (h3 : ∀ i : Nat, i < 9 → pt2 (aR A * 9 + i) = k i) (h4 : ∀ m : Nat, m < aR A * 9 → pt2 m = pt m) :
    RR (aw A, akp A, aR A + 1, va_up (aF A) (aR A) j, va_up (aS A) (aR A) s, va_up (aC A) (aR A) c, va_up (aP A) (aR A) (akp A), A.2.2.2.2.2.2.2) (R + 1) (upd fl (aR A) (nI j)) (upd su (aR A) (b2 s)) (upd cr (aR A) (b2 c)) pl2 pt2 := by
  obtain ⟨e, h⟩ := h
  refine ⟨by rw [e], ?_⟩
  intro r hr
  have hr : r < aR A + 1 := hr
  show upd fl (aR A) (nI j) r = nI (va_up (aF A) (aR A) j r) ∧ upd su (aR A) (b2 s) r = b2 (va_up (aS A) (aR A) s r) ∧ upd cr (aR A) (b2 c) r = b2 (va_up (aC A) (aR A) c r) ∧ ∀ p : Nat, p < 3 → pl2 (r * 3 + p) = nI (va_up (aP A) (aR A) (akp A) r p).length ∧ rep pt2 (r * 9 + p * 3) (va_up (aP A) (aR A) (akp A) r p)
  by_cases q : r = aR A
  · subst q
    rw [up_s, up_s, up_s, up_s, pk_us, pk_us, pk_us]
    refine ⟨rfl, rfl, rfl, fun p hp => ⟨?_, ?_⟩⟩
    · rw [h1 p hp]; exact (hk p hp).1
    · intro i hi
      have hl := (hw.2.1 p hp).1
      rw [Nat.add_assoc, h3 _ (by omega)]
      exact (hk p hp).2 i hi
  · rw [up_n q, up_n q, up_n q, up_n q, pk_un q, pk_un q, pk_un q]
    have hr2 : r < aR A := by omega
    obtain ⟨a1, a2, a3, a4⟩ := h r hr2
    refine ⟨a1, a2, a3, fun p hp => ⟨?_, ?_⟩⟩
    · rw [h2 _ (by omega)]; exact (a4 p hp).1
    · intro i hi
      have hl := ((hw.2.2.2.1 r hr2).2 p hp).1
      rw [h4 _ (by omega)]
      exact (a4 p hp).2 i hi
theorem xa_id (g : Sg) (k : Nat) : xa g k (g.2 k) = g := by
  refine Prod.ext rfl (funext fun q => ?_)
  show va_up g.2 k (g.2 k) q = _
  by_cases hq : q = k
  · subst hq; exact up_s
  · exact up_n hq
end
section
/-! AffixSpeller: keep, rule, reflag, length -/
theorem x_keep {g : Sg} {A : Ab} {c : Int32} (hJ : JX g A) : mMi 0 1 y_X_keep b_X_keep 4 .int [.int c] g (fun r u => r = (opK A c).1 ∧ JX u (opK A c).2) := by
  refine m_i (Nat.zero_le _) (by decide) rfl (fun _ => Nat.le_of_ble_eq_true rfl) (fun h ad K hg hret => ?_)
  have hb := hg.b
  have hJ0 := hJ
  obtain ⟨hw, ⟨hn, hrw⟩, hk, hr, hN, hG, hT⟩ := hJ
  have hle : (aw A).length ≤ 12 := hw.1.1
  show K g 0 [(0, .ref h), (1, .int c)] []
  have bad : c < 0 ∨ 2 < c → K g 9 [(0, .ref h), (1, .int c)] [] := by
    intro hc
    refine b_bipush (v := -4) hb d_X_keep_9 rfl ?_
    exact hret _ _ _ _ d_X_keep_11 rfl ⟨by rw [opK, if_pos hc], by rw [opK, if_pos hc]; exact hJ0⟩
  refine b_iload_n hb d_X_keep_0 rfl rfl ?_
  refine b_if_lt (tgt := 9) hb d_X_keep_1 (by decide) (fun c1 => ?_) (fun c1 => ?_)
  · exact bad (Or.inl c1)
  · refine b_iload_n hb d_X_keep_4 rfl rfl ?_
    refine b_iconst (v := 2) hb d_X_keep_5 rfl ?_
    refine b_icmp_le (tgt := 12) hb d_X_keep_6 (by decide) (fun c2 => ?_) (fun c2 => ?_)
    · obtain ⟨j, hj, rfl⟩ := nI_of2 (M := 2) (n := 2) rfl c1 c2
      refine b_aload_n hb d_X_keep_12 rfl rfl ?_
      refine g_calli hg (x_hasAny ⟨hn, hrw⟩ hle) lk_X_X_hasAny (by decide) d_X_keep_13 rfl (Nat.le_of_ble_eq_true rfl) (fun r u hp => ?_)
      obtain ⟨rfl, rfl⟩ := hp
      refine b_istore_n (lv' := [(2, _), (0, _), (1, _)]) hb d_X_keep_16 rfl (by decide) rfl ?_
      refine b_aload_n hb d_X_keep_17 rfl rfl ?_
      refine g_getN hg 1 fl_X_1 rfl d_X_keep_18 (hn) ?_
      refine b_iconst (v := nI 3) hb d_X_keep_21 rfl ?_
      have no : ¬ (nI j < 0 ∨ 2 < nI j) := fun z => z.elim c1 (Int32.not_lt.mpr c2)
      have hj2 : (nI j).toNatClampNeg = j := nI_clamp (by omega)
      have bad2 : ∀ lv, (3 < (aw A).length ∨ (any9 (aw A) = true ∧ nI j ≠ 2)) → K u 34 lv [] := by
        intro lv hc
        refine b_bipush (v := -3) hb d_X_keep_34 rfl ?_
        exact hret _ _ _ _ d_X_keep_36 rfl ⟨by rw [opK, if_neg no, if_pos hc], by rw [opK, if_neg no, if_pos hc]; exact hJ0⟩
      have good : ¬ (3 < (aw A).length ∨ (any9 (aw A) = true ∧ nI j ≠ 2)) → K u 37 [(2, .int (b2 (any9 (aw A)))), (0, .ref h), (1, .int (nI j))] [] := by
        intro hc
        have h3 : (aw A).length ≤ 3 := Nat.le_of_not_lt fun z => hc (Or.inl z)
        have e : opK A (nI j) = (nI (aw A).length, ([], va_up (akp A) j (aw A), A.2.2)) := by rw [opK, if_neg no, if_neg hc, hj2]
        refine b_aload_n hb d_X_keep_37 rfl rfl ?_
        refine g_getA hg 2 fl_X_2 (Or.inl rfl) d_X_keep_38 ?_
        refine b_iload_n hb d_X_keep_41 rfl rfl ?_
        refine b_aload_n hb d_X_keep_42 rfl rfl ?_
        refine g_getN hg 1 fl_X_1 rfl d_X_keep_43 (hn) ?_
        refine g_iast (n := 3) hg rfl rfl (by omega) d_X_keep_46 ?_
        refine b_iconst (v := nI 0) hb d_X_keep_47 rfl ?_
        refine b_istore_n (lv' := [(3, _), (2, _), (0, _), (1, _)]) hb d_X_keep_48 rfl (by decide) rfl ?_
        have loop : ∀ (n i : Nat) (f : Nat → Int32), i + n = (aw A).length → (∀ t : Nat, t < i → f (j * 3 + t) = (aw A).getD t 0) → (∀ m : Nat, ¬ (j * 3 ≤ m ∧ m < j * 3 + 3) → f m = u.2 3 m) → K (xa (xa u 2 (upd (u.2 2) j (nI (aw A).length))) 3 f) 49 [(3, .int (nI i)), (2, .int (b2 (any9 (aw A)))), (0, .ref h), (1, .int (nI j))] [] := by
          intro n
          induction n with
          | zero =>
            intro i f hi hf ho
            refine b_iload_n hb d_X_keep_49 rfl rfl ?_
            refine b_aload_n hb d_X_keep_50 rfl rfl ?_
            refine g_getN hg 1 fl_X_1 rfl d_X_keep_51 (hn) ?_
            refine b_geN (tgt := 79) hb (by omega) (by omega) d_X_keep_54 (by decide) (fun c3 => ?_) (fun c3 => ?_)
            · refine b_aload_n hb d_X_keep_79 rfl rfl ?_
              refine b_iconst (v := nI 0) hb d_X_keep_80 rfl ?_
              refine g_putN hg 1 fl_X_1 rfl d_X_keep_81 ?_
              refine b_aload_n hb d_X_keep_84 rfl rfl ?_
              refine g_getA hg 2 fl_X_2 (Or.inl rfl) d_X_keep_85 ?_
              refine b_iload_n hb d_X_keep_88 rfl rfl ?_
              refine g_iald (n := 3) hg rfl rfl (by omega) d_X_keep_89 (pk_us) ?_
              have hi2 : i = (aw A).length := by omega
              subst hi2
              exact hret _ _ _ _ d_X_keep_90 rfl ⟨by rw [e], by rw [e]; exact ⟨WA_keep hw h3 (fun z => hc (Or.inr ⟨z.1, fun z2 => z.2 ((nI_eq (b := 2) (by omega) (by decide)).mp z2)⟩)), ⟨rfl, fun i hi => absurd hi (Nat.not_lt_zero i)⟩, RK_put h3 (fun p hp => (hw.2.1 p hp).1) hk hf ho, hr, hN, hG, hT⟩⟩
            · exact absurd c3 (by omega)
          | succ n ih =>
            intro i f hi hf ho
            refine b_iload_n hb d_X_keep_49 rfl rfl ?_
            refine b_aload_n hb d_X_keep_50 rfl rfl ?_
            refine g_getN hg 1 fl_X_1 rfl d_X_keep_51 (hn) ?_
            refine b_geN (tgt := 79) hb (by omega) (by omega) d_X_keep_54 (by decide) (fun c3 => ?_) (fun c3 => ?_)
            · exact absurd c3 (by omega)
            · refine b_aload_n hb d_X_keep_57 rfl rfl ?_
              refine g_getA hg 3 fl_X_3 (Or.inl rfl) d_X_keep_58 ?_
              refine b_iload_n hb d_X_keep_61 rfl rfl ?_
              refine b_iconst (v := nI 3) hb d_X_keep_62 rfl ?_
              refine b_imulN hb d_X_keep_63 ?_
              refine b_iload_n hb d_X_keep_64 rfl rfl ?_
              refine b_iaddN hb d_X_keep_65 ?_
              refine b_aload_n hb d_X_keep_66 rfl rfl ?_
              refine g_getA hg 0 fl_X_0 (Or.inl rfl) d_X_keep_67 ?_
              refine b_iload_n hb d_X_keep_70 rfl rfl ?_
              refine g_iald (n := 12) hg rfl rfl (by omega) d_X_keep_71 (rep_0 hrw c3) ?_
              refine g_iast (n := 9) hg rfl rfl (by omega) d_X_keep_72 ?_
              rw [xa_xa]
              refine b_iincN (lv' := [(3, _), (2, _), (0, _), (1, _)]) hb d_X_keep_73 rfl (by decide) rfl ?_
              refine b_goto (tgt := 49) hb d_X_keep_76 (by decide) ?_
              refine ih (i + 1) _ (by omega) (fun t ht => ?_) (fun m hm => ?_)
              · show upd f (j * 3 + i) _ (j * 3 + t) = _
                by_cases q : t = i
                · subst q; exact pk_us
                · rw [pk_un (by omega)]; exact hf t (by omega)
              · show upd f (j * 3 + i) _ m = _
                rw [pk_un (by omega)]; exact ho m hm
        have h0 := loop (aw A).length 0 (u.2 3) (by omega) (fun t ht => absurd ht (Nat.not_lt_zero t)) (fun m _ => rfl)
        have e3 : xa (xa u 2 (upd (u.2 2) j (nI (aw A).length))) 3 (u.2 3) = xa u 2 (upd (u.2 2) j (nI (aw A).length)) := by
          show (u.1, va_up (va_up u.2 2 _) 3 (u.2 3)) = (u.1, va_up u.2 2 _)
          congr 1
          funext q
          by_cases hq : q = 3
          · subst hq; rw [up_s]; rfl
          · rw [up_n hq]
        rw [e3] at h0
        exact h0
      refine b_gtN (tgt := 34) hb (by omega) (by omega) d_X_keep_22 (by decide) (fun c3 => ?_) (fun c3 => ?_)
      · exact bad2 _ (Or.inl c3)
      · refine b_iload_n hb d_X_keep_25 rfl rfl ?_
        refine b_if_eq (tgt := 37) hb d_X_keep_26 (by decide) (fun c4 => ?_) (fun c4 => ?_)
        · exact good (fun z => z.elim (fun z => absurd z (by omega)) (fun z => by rw [b2_0.mp c4] at z; cases z.1))
        · refine b_iload_n hb d_X_keep_29 rfl rfl ?_
          refine b_iconst (v := nI 2) hb d_X_keep_30 rfl ?_
          refine b_eqN (tgt := 37) hb (by omega) (by omega) d_X_keep_31 (by decide) (fun c5 => ?_) (fun c5 => ?_)
          · exact good (fun z => z.elim (fun z => absurd z (by omega)) (fun z => z.2 (by rw [c5]; rfl)))
          · refine bad2 _ (Or.inr ⟨?_, fun z => c5 ((nI_eq (b := 2) (by omega) (by decide)).mp z)⟩)
            cases e9 : any9 (aw A) with
            | false => exact absurd (b2_0.mpr e9) c4
            | true => rfl
    · exact bad (Or.inr (Int32.not_le.mp c2))
theorem x_length {g : Sg} {A : Ab} (hJ : JX g A) : mMi 0 0 y_X_length b_X_length 1 .int [] g (fun r u => r = nI (aw A).length ∧ JX u A) := by
  refine m_i (Nat.zero_le _) (by decide) rfl (fun _ => Nat.le_of_ble_eq_true rfl) (fun h ad K hg hret => ?_)
  have hb := hg.b
  show K g 0 [(0, .ref h)] []
  refine b_aload_n hb d_X_length_0 rfl rfl ?_
  refine g_getN hg 1 fl_X_1 rfl d_X_length_1 (hJ.2.1.1) ?_
  exact hret _ _ _ _ d_X_length_4 rfl ⟨rfl, hJ⟩
theorem x_reflag {g : Sg} {A : Ab} {c f : Int32} (hJ : JX g A) : mMi 0 0 y_X_reflag b_X_reflag 4 .int [.int c, .int f] g (fun r u => r = (opF A c f).1 ∧ JX u (opF A c f).2) := by
  refine m_i (Nat.zero_le _) (by decide) rfl (fun _ => Nat.le_of_ble_eq_true rfl) (fun h ad K hg hret => ?_)
  have hb := hg.b
  have hJ0 := hJ
  obtain ⟨hw, hRW, hk, hr, hN, hG, hT⟩ := hJ
  have hle : aN A ≤ 12 := hw.2.2.2.2.1
  show K g 0 [(0, .ref h), (1, .int c), (2, .int f)] []
  have bad : c < 0 ∨ nI (aN A) ≤ c → K g 12 [(0, .ref h), (1, .int c), (2, .int f)] [] := by
    intro hc
    refine b_bipush (v := -6) hb d_X_reflag_12 rfl ?_
    exact hret _ _ _ _ d_X_reflag_14 rfl ⟨by rw [opF, if_pos hc], by rw [opF, if_pos hc]; exact hJ0⟩
  refine b_iload_n hb d_X_reflag_0 rfl rfl ?_
  refine b_if_lt (tgt := 12) hb d_X_reflag_1 (by decide) (fun c1 => ?_) (fun c1 => ?_)
  · exact bad (Or.inl c1)
  · refine b_iload_n hb d_X_reflag_4 rfl rfl ?_
    refine b_aload_n hb d_X_reflag_5 rfl rfl ?_
    refine g_getN hg 10 fl_X_10 rfl d_X_reflag_6 (hN) ?_
    refine b_icmp_lt (tgt := 15) hb d_X_reflag_9 (by decide) (fun c2 => ?_) (fun c2 => ?_)
    · obtain ⟨j, hj, rfl⟩ := nI_of c1
      have hjN : j < aN A := (nI_ltI hj (by omega)).mp c2
      have no : ¬ (nI j < 0 ∨ nI (aN A) ≤ nI j) := fun z => z.elim c1 (fun z => absurd ((nI_leI (by omega) hj).mp z) (by omega))
      have e : opF A (nI j) f = (nI (aG A j), (aw A, akp A, aR A, aF A, aS A, aC A, aP A, aN A, aL A, va_up (aG A) j (m8 f))) := by rw [opF, if_neg no, nI_clamp hj]
      refine b_aload_n hb d_X_reflag_15 rfl rfl ?_
      refine g_getA hg 11 fl_X_11 (Or.inl rfl) d_X_reflag_16 ?_
      refine b_iload_n hb d_X_reflag_19 rfl rfl ?_
      refine g_iald (n := 12) hg rfl rfl (by omega) d_X_reflag_20 (hG j hjN) ?_
      refine b_istore_n (lv' := [(3, _), (0, _), (1, _), (2, _)]) hb d_X_reflag_21 rfl (by decide) rfl ?_
      refine b_aload_n hb d_X_reflag_22 rfl rfl ?_
      refine g_getA hg 11 fl_X_11 (Or.inl rfl) d_X_reflag_23 ?_
      refine b_iload_n hb d_X_reflag_26 rfl rfl ?_
      refine b_iload_n hb d_X_reflag_27 rfl rfl ?_
      refine b_sipush (v := nI 255) hb d_X_reflag_28 rfl ?_
      refine b_iand hb d_X_reflag_31 ?_
      refine b_top (m8_and f) ?_
      refine g_iast (n := 12) hg rfl rfl (by omega) d_X_reflag_32 ?_
      refine b_iload_n hb d_X_reflag_33 rfl rfl ?_
      refine hret _ _ _ _ d_X_reflag_34 rfl ⟨by rw [e], ?_⟩
      rw [e]
      refine ⟨WA_flag hw (m8_lt f), hRW, hk, hr, hN, ?_, hT⟩
      intro t ht
      show upd (g.2 11) j (nI (m8 f)) t = nI (va_up (aG A) j (m8 f) t)
      by_cases q : t = j
      · subst q; rw [pk_us, up_s]
      · rw [pk_un q, up_n q]; exact hG t ht
    · exact bad (Or.inr (Int32.not_lt.mp c2))
theorem x_rule {g : Sg} {A : Ab} {c : Int32} {su cr : Bool} (hJ : JX g A) : mMi 0 0 y_X_rule b_X_rule 6 .int [.int c, .int (b2 su), .int (b2 cr)] g (fun r u => r = (opR A c su cr).1 ∧ JX u (opR A c su cr).2) := by
  refine m_i (Nat.zero_le _) (by decide) rfl (fun _ => Nat.le_of_ble_eq_true rfl) (fun h ad K hg hret => ?_)
  have hb := hg.b
  have hJ0 := hJ
  obtain ⟨hw, hRW, hk, hr, hN, hG, hT⟩ := hJ
  have hle : aR A ≤ 10 := hw.2.2.1
  have hR := hr.1
  show K g 0 [(0, .ref h), (1, .int c), (2, .int (b2 su)), (3, .int (b2 cr))] []
  have bad : c < 0 ∨ 7 < c → K g 10 [(0, .ref h), (1, .int c), (2, .int (b2 su)), (3, .int (b2 cr))] [] := by
    intro hc
    refine b_bipush (v := -5) hb d_X_rule_10 rfl ?_
    exact hret _ _ _ _ d_X_rule_12 rfl ⟨by rw [opR, if_pos hc], by rw [opR, if_pos hc]; exact hJ0⟩
  refine b_iload_n hb d_X_rule_0 rfl rfl ?_
  refine b_if_lt (tgt := 10) hb d_X_rule_1 (by decide) (fun c1 => ?_) (fun c1 => ?_)
  · exact bad (Or.inl c1)
  · refine b_iload_n hb d_X_rule_4 rfl rfl ?_
    refine b_bipush (v := 7) hb d_X_rule_5 rfl ?_
    refine b_icmp_le (tgt := 13) hb d_X_rule_7 (by decide) (fun c2 => ?_) (fun c2 => ?_)
    · obtain ⟨j, hj, rfl⟩ := nI_of2 (M := 7) (n := 7) rfl c1 c2
      have no : ¬ (nI j < 0 ∨ 7 < nI j) := fun z => z.elim c1 (Int32.not_lt.mpr c2)
      refine b_aload_n hb d_X_rule_13 rfl rfl ?_
      refine g_getN hg 4 fl_X_4 rfl d_X_rule_14 (hR) ?_
      refine b_bipush (v := nI 10) hb d_X_rule_17 rfl ?_
      refine b_ltN (tgt := 25) hb (by omega) (by omega) d_X_rule_19 (by decide) (fun c3 => ?_) (fun c3 => ?_)
      · have e : opR A (nI j) su cr = (nI (aR A), (aw A, akp A, aR A + 1, va_up (aF A) (aR A) j, va_up (aS A) (aR A) su, va_up (aC A) (aR A) cr, va_up (aP A) (aR A) (akp A), A.2.2.2.2.2.2.2)) := by rw [opR, if_neg no, if_neg (by omega), nI_clamp (by omega)]
        refine b_aload_n hb d_X_rule_25 rfl rfl ?_
        refine g_getN hg 4 fl_X_4 rfl d_X_rule_26 (hR) ?_
        refine b_istore (lv' := [(4, _), (0, _), (1, _), (2, _), (3, _)]) hb d_X_rule_29 (by decide) rfl ?_
        refine b_aload_n hb d_X_rule_31 rfl rfl ?_
        refine g_getA hg 5 fl_X_5 (Or.inl rfl) d_X_rule_32 ?_
        refine b_iload hb d_X_rule_35 rfl ?_
        refine b_iload_n hb d_X_rule_37 rfl rfl ?_
        refine g_iast (n := 10) hg rfl rfl (by omega) d_X_rule_38 ?_
        refine b_aload_n hb d_X_rule_39 rfl rfl ?_
        refine g_getA hg 6 fl_X_6 (Or.inr rfl) d_X_rule_40 ?_
        refine b_iload hb d_X_rule_43 rfl ?_
        refine b_iload_n hb d_X_rule_45 rfl rfl ?_
        refine g_zast (n := 10) hg rfl rfl (by omega) d_X_rule_46 (b2_01 su) ?_
        refine b_aload_n hb d_X_rule_47 rfl rfl ?_
        refine g_getA hg 7 fl_X_7 (Or.inr rfl) d_X_rule_48 ?_
        refine b_iload hb d_X_rule_51 rfl ?_
        refine b_iload_n hb d_X_rule_53 rfl rfl ?_
        refine g_zast (n := 10) hg rfl rfl (by omega) d_X_rule_54 (b2_01 cr) ?_
        refine b_iconst (v := nI 0) hb d_X_rule_55 rfl ?_
        refine b_istore (lv' := [(5, _), (4, _), (0, _), (1, _), (2, _), (3, _)]) hb d_X_rule_56 (by decide) rfl ?_
        obtain ⟨g1, eg1⟩ : ∃ y : Sg, xa (xa (xa g 5 (upd (g.2 5) (aR A) (nI j))) 6 (upd (g.2 6) (aR A) (b2 su))) 7 (upd (g.2 7) (aR A) (b2 cr)) = y := ⟨_, rfl⟩
        have f1 : g1.1 = g.1 := by rw [← eg1]; rfl
        have f2 : ∀ k : Nat, k ≠ 5 → k ≠ 6 → k ≠ 7 → g1.2 k = g.2 k := by
          intro k k5 k6 k7
          rw [← eg1]
          show va_up (va_up (va_up g.2 5 _) 6 _) 7 _ k = _
          rw [up_n k7, up_n k6, up_n k5]
        have g5 : g1.2 5 = upd (g.2 5) (aR A) (nI j) := by rw [← eg1]; rfl
        have g6 : g1.2 6 = upd (g.2 6) (aR A) (b2 su) := by rw [← eg1]; rfl
        have g7 : g1.2 7 = upd (g.2 7) (aR A) (b2 cr) := by rw [← eg1]; rfl
        have loop2 : ∀ (pl2 : Nat → Int32), (∀ p : Nat, p < 3 → pl2 (aR A * 3 + p) = g.2 2 p) → (∀ m : Nat, m < aR A * 3 → pl2 m = g.2 8 m) → ∀ (n i : Nat) (f : Nat → Int32), i + n = 9 → (∀ t : Nat, t < i → f (aR A * 9 + t) = g.2 3 t) → (∀ m : Nat, m < aR A * 9 → f m = g.2 9 m) → K (xa (xa g1 8 pl2) 9 f) 92 [(5, .int (nI i)), (4, .int (nI (aR A))), (0, .ref h), (1, .int (nI j)), (2, .int (b2 su)), (3, .int (b2 cr))] [] := by
          intro pl2 hp1 hp2 n
          induction n with
          | zero =>
            intro i f hi hf ho
            refine b_iload hb d_X_rule_92 rfl ?_
            refine b_bipush (v := nI 9) hb d_X_rule_94 rfl ?_
            refine b_geN (tgt := 125) hb (by omega) (by omega) d_X_rule_96 (by decide) (fun c4 => ?_) (fun c4 => ?_)
            · refine b_aload_n hb d_X_rule_125 rfl rfl ?_
              refine b_dup hb d_X_rule_126 rfl ?_
              refine g_getN hg 4 fl_X_4 rfl d_X_rule_127 (show g1.1 4 = aR A by rw [f1]; exact hR) ?_
              refine b_iconst (v := nI 1) hb d_X_rule_130 rfl ?_
              refine b_iaddN hb d_X_rule_131 ?_
              refine g_putN hg 4 fl_X_4 rfl d_X_rule_132 ?_
              refine b_iload hb d_X_rule_135 rfl ?_
              have hi2 : i = 9 := by omega
              subst hi2
              have hRR := RR_put (j := j) (s := su) (c := cr) (pl2 := pl2) (pt2 := f) hr hw hk hp1 hp2 hf ho
              refine hret _ _ _ _ d_X_rule_137 rfl ⟨by rw [e], ?_⟩
              rw [e]
              refine ⟨WA_rule hw hj (by omega), ?_, ?_, ?_, ?_, ?_, ?_⟩
              · show RW (g1.1 1) (g1.2 0) (aw A)
                rw [f1, f2 0 (by decide) (by decide) (by decide)]; exact hRW
              · show RK (g1.2 2) (g1.2 3) (akp A)
                rw [f2 2 (by decide) (by decide) (by decide), f2 3 (by decide) (by decide) (by decide)]; exact hk
              · show RR _ (aR A + 1) (g1.2 5) (g1.2 6) (g1.2 7) pl2 f
                rw [g5, g6, g7]; rw [hR] at hRR; exact hRR
              · show g1.1 10 = aN A
                rw [f1]; exact hN
              · show ∀ s : Nat, s < aN A → g1.2 11 s = nI (aG A s)
                rw [f2 11 (by decide) (by decide) (by decide)]; exact hG
              · show TR A (g1.1 12) (g1.2 13) (g1.2 14) (g1.2 15)
                rw [f1, f2 13 (by decide) (by decide) (by decide), f2 14 (by decide) (by decide) (by decide), f2 15 (by decide) (by decide) (by decide)]; exact hT
            · exact absurd c4 (by omega)
          | succ n ih =>
            intro i f hi hf ho
            refine b_iload hb d_X_rule_92 rfl ?_
            refine b_bipush (v := nI 9) hb d_X_rule_94 rfl ?_
            refine b_geN (tgt := 125) hb (by omega) (by omega) d_X_rule_96 (by decide) (fun c4 => ?_) (fun c4 => ?_)
            · exact absurd c4 (by omega)
            · refine b_aload_n hb d_X_rule_99 rfl rfl ?_
              refine g_getA hg 9 fl_X_9 (Or.inl rfl) d_X_rule_100 ?_
              refine b_iload hb d_X_rule_103 rfl ?_
              refine b_bipush (v := nI 9) hb d_X_rule_105 rfl ?_
              refine b_imulN hb d_X_rule_107 ?_
              refine b_iload hb d_X_rule_108 rfl ?_
              refine b_iaddN hb d_X_rule_110 ?_
              refine b_aload_n hb d_X_rule_111 rfl rfl ?_
              refine g_getA hg 3 fl_X_3 (Or.inl rfl) d_X_rule_112 ?_
              refine b_iload hb d_X_rule_115 rfl ?_
              refine g_iald (n := 9) hg rfl rfl (by omega) d_X_rule_117 (show g1.2 3 i = g.2 3 i by rw [f2 3 (by decide) (by decide) (by decide)]) ?_
              refine g_iast (n := 90) hg rfl rfl (by omega) d_X_rule_118 ?_
              rw [xa_xa]
              refine b_iincN (lv' := [(5, _), (4, _), (0, _), (1, _), (2, _), (3, _)]) hb d_X_rule_119 rfl (by decide) rfl ?_
              refine b_goto (tgt := 92) hb d_X_rule_122 (by decide) ?_
              refine ih (i + 1) _ (by omega) (fun t ht => ?_) (fun m hm => ?_)
              · show upd f (aR A * 9 + i) _ (aR A * 9 + t) = _
                by_cases q : t = i
                · subst q; exact pk_us
                · rw [pk_un (by omega)]; exact hf t (by omega)
              · show upd f (aR A * 9 + i) _ m = _
                rw [pk_un (by omega)]; exact ho m hm
        have loop1 : ∀ (n i : Nat) (f : Nat → Int32), i + n = 3 → (∀ t : Nat, t < i → f (aR A * 3 + t) = g.2 2 t) → (∀ m : Nat, m < aR A * 3 → f m = g.2 8 m) → K (xa g1 8 f) 58 [(5, .int (nI i)), (4, .int (nI (aR A))), (0, .ref h), (1, .int (nI j)), (2, .int (b2 su)), (3, .int (b2 cr))] [] := by
          intro n
          induction n with
          | zero =>
            intro i f hi hf ho
            refine b_iload hb d_X_rule_58 rfl ?_
            refine b_iconst (v := nI 3) hb d_X_rule_60 rfl ?_
            refine b_geN (tgt := 89) hb (by omega) (by omega) d_X_rule_61 (by decide) (fun c4 => ?_) (fun c4 => ?_)
            · refine b_iconst (v := nI 0) hb d_X_rule_89 rfl ?_
              refine b_istore (lv' := [(5, _), (4, _), (0, _), (1, _), (2, _), (3, _)]) hb d_X_rule_90 (by decide) rfl ?_
              have hi2 : i = 3 := by omega
              subst hi2
              have h0 := loop2 f hf ho 9 0 (g.2 9) (by omega) (fun t ht => absurd ht (Nat.not_lt_zero t)) (fun m _ => rfl)
              have e3 : xa (xa g1 8 f) 9 (g.2 9) = xa g1 8 f := by
                show (g1.1, va_up (va_up g1.2 8 _) 9 (g.2 9)) = (g1.1, va_up g1.2 8 _)
                congr 1
                funext q
                by_cases hq : q = 9
                · subst hq; rw [up_s, up_n (by decide), f2 9 (by decide) (by decide) (by decide)]
                · rw [up_n hq]
              rw [e3] at h0
              exact h0
            · exact absurd c4 (by omega)
          | succ n ih =>
            intro i f hi hf ho
            refine b_iload hb d_X_rule_58 rfl ?_
            refine b_iconst (v := nI 3) hb d_X_rule_60 rfl ?_
            refine b_geN (tgt := 89) hb (by omega) (by omega) d_X_rule_61 (by decide) (fun c4 => ?_) (fun c4 => ?_)
            · exact absurd c4 (by omega)
            · refine b_aload_n hb d_X_rule_64 rfl rfl ?_
              refine g_getA hg 8 fl_X_8 (Or.inl rfl) d_X_rule_65 ?_
              refine b_iload hb d_X_rule_68 rfl ?_
              refine b_iconst (v := nI 3) hb d_X_rule_70 rfl ?_
              refine b_imulN hb d_X_rule_71 ?_
              refine b_iload hb d_X_rule_72 rfl ?_
              refine b_iaddN hb d_X_rule_74 ?_
              refine b_aload_n hb d_X_rule_75 rfl rfl ?_
              refine g_getA hg 2 fl_X_2 (Or.inl rfl) d_X_rule_76 ?_
              refine b_iload hb d_X_rule_79 rfl ?_
              refine g_iald (n := 3) hg rfl rfl (by omega) d_X_rule_81 (show g1.2 2 i = g.2 2 i by rw [f2 2 (by decide) (by decide) (by decide)]) ?_
              refine g_iast (n := 30) hg rfl rfl (by omega) d_X_rule_82 ?_
              rw [xa_xa]
              refine b_iincN (lv' := [(5, _), (4, _), (0, _), (1, _), (2, _), (3, _)]) hb d_X_rule_83 rfl (by decide) rfl ?_
              refine b_goto (tgt := 58) hb d_X_rule_86 (by decide) ?_
              refine ih (i + 1) _ (by omega) (fun t ht => ?_) (fun m hm => ?_)
              · show upd f (aR A * 3 + i) _ (aR A * 3 + t) = _
                by_cases q : t = i
                · subst q; exact pk_us
                · rw [pk_un (by omega)]; exact hf t (by omega)
              · show upd f (aR A * 3 + i) _ m = _
                rw [pk_un (by omega)]; exact ho m hm
        have h0 := loop1 3 0 (g.2 8) (by omega) (fun t ht => absurd ht (Nat.not_lt_zero t)) (fun m _ => rfl)
        have e3 : xa g1 8 (g.2 8) = g1 := by
          show (g1.1, va_up g1.2 8 (g.2 8)) = g1
          refine Prod.ext rfl (funext fun q => ?_)
          by_cases hq : q = 8
          · subst hq; rw [f2 8 (by decide) (by decide) (by decide)]; show va_up g1.2 8 (g.2 8) 8 = _; exact up_s
          · exact up_n hq
        rw [e3, ← eg1] at h0
        exact h0
      · refine b_bipush (v := -2) hb d_X_rule_22 rfl ?_
        have e : opR A (nI j) su cr = (-2, A) := by rw [opR, if_neg no, if_pos c3]
        exact hret _ _ _ _ d_X_rule_24 rfl ⟨by rw [e], by rw [e]; exact hJ0⟩
    · exact bad (Or.inr (Int32.not_le.mp c2))
end
section
/-! AffixSpellerModel: the buffer, keep, rule, reflag, length -/
theorem m_type {g : Sg} {A : Ab} {c : Int32} (hJ : JM g A) : mMi 1 0 y_M_type b_M_type 2 .int [.int c] g (fun r u => r = (opT A c).1 ∧ JM u (opT A c).2) := by
  refine m_i (Nat.le_refl _) (by decide) rfl (fun _ => Nat.le_of_ble_eq_true rfl) (fun h ad K hg hret => ?_)
  have hb := hg.b
  have hJ0 := hJ
  obtain ⟨hw, ⟨hn, hrw⟩, hk, hr, hN, hG⟩ := hJ
  have hle : (aw A).length ≤ 12 := hw.1.1
  show K g 0 [(0, .ref h), (1, .int c)] []
  refine b_iload_n hb d_M_type_0 rfl rfl ?_
  refine b_iconst (v := 1) hb d_M_type_1 rfl ?_
  refine b_icmp_lt (tgt := 11) hb d_M_type_2 (by decide) (fun c1 => ?_) (fun c1 => ?_)
  · refine b_iconst (v := -1) hb d_M_type_11 rfl ?_
    exact hret _ _ _ _ d_M_type_12 rfl ⟨by rw [opT, if_pos (Or.inl c1)], by rw [opT, if_pos (Or.inl c1)]; exact hJ0⟩
  · refine b_iload_n hb d_M_type_5 rfl rfl ?_
    refine b_bipush (v := 9) hb d_M_type_6 rfl ?_
    refine b_icmp_le (tgt := 13) hb d_M_type_8 (by decide) (fun c2 => ?_) (fun c2 => ?_)
    · refine b_aload_n hb d_M_type_13 rfl rfl ?_
      refine g_getN hg 1 fl_M_1 rfl d_M_type_14 (hn) ?_
      refine b_bipush (v := nI 12) hb d_M_type_17 rfl ?_
      refine b_neN (tgt := 25) hb (by omega) (by omega) d_M_type_19 (by decide) (fun c3 => ?_) (fun c3 => ?_)
      · refine b_aload_n hb d_M_type_25 rfl rfl ?_
        refine g_getA hg 0 fl_M_0 (Or.inl rfl) d_M_type_26 ?_
        refine b_aload_n hb d_M_type_29 rfl rfl ?_
        refine g_getN hg 1 fl_M_1 rfl d_M_type_30 (hn) ?_
        refine b_iload_n hb d_M_type_33 rfl rfl ?_
        refine g_iast (n := 12) hg rfl rfl (by omega) d_M_type_34 ?_
        refine b_aload_n hb d_M_type_35 rfl rfl ?_
        refine b_aload_n hb d_M_type_36 rfl rfl ?_
        refine g_getN hg 1 fl_M_1 rfl d_M_type_37 (hn) ?_
        refine b_iconst (v := nI 1) hb d_M_type_40 rfl ?_
        refine b_iaddN hb d_M_type_41 ?_
        refine g_putN hg 1 fl_M_1 rfl d_M_type_42 ?_
        refine b_aload_n hb d_M_type_45 rfl rfl ?_
        refine g_getN hg 1 fl_M_1 rfl d_M_type_46 (rfl) ?_
        have hno : ¬ (c < 1 ∨ 9 < c) := fun z => z.elim c1 (Int32.not_lt.mpr c2)
        have e : opT A c = (nI ((aw A).length + 1), (aw A ++ [c], A.2)) := by rw [opT, if_neg hno, if_neg (by omega)]
        exact hret _ _ _ _ d_M_type_49 rfl ⟨by rw [e]; rfl, by rw [e]; exact ⟨WA_type hw c1 (Int32.not_lt.mpr c2) (by omega), ⟨by rw [List.length_append]; rfl, rep_snoc hrw⟩, hk, hr, hN, hG⟩⟩
      · refine b_bipush (v := -2) hb d_M_type_22 rfl ?_
        have hno : ¬ (c < 1 ∨ 9 < c) := fun z => z.elim c1 (Int32.not_lt.mpr c2)
        have e : opT A c = (-2, A) := by rw [opT, if_neg hno, if_pos (by omega)]
        exact hret _ _ _ _ d_M_type_24 rfl ⟨by rw [e], by rw [e]; exact hJ0⟩
    · refine b_iconst (v := -1) hb d_M_type_11 rfl ?_
      exact hret _ _ _ _ d_M_type_12 rfl ⟨by rw [opT, if_pos (Or.inr (Int32.not_le.mp c2))], by rw [opT, if_pos (Or.inr (Int32.not_le.mp c2))]; exact hJ0⟩
theorem m_erase {g : Sg} {A : Ab} (hJ : JM g A) : mMv 1 0 y_M_erase b_M_erase 1 [] g (fun u => JM u (opE A)) := by
  refine m_v (Nat.le_refl _) (by decide) rfl (fun _ => Nat.le_of_ble_eq_true rfl) (fun h ad K hg hret => ?_)
  have hb := hg.b
  obtain ⟨hw, ⟨hn, hrw⟩, hk, hr, hN, hG⟩ := hJ
  show K g 0 [(0, .ref h)] []
  refine b_aload_n hb d_M_erase_0 rfl rfl ?_
  refine b_iconst (v := nI 0) hb d_M_erase_1 rfl ?_
  refine g_putN hg 1 fl_M_1 rfl d_M_erase_2 ?_
  exact hret _ _ _ d_M_erase_5 ⟨WA_erase hw, ⟨rfl, fun i hi => absurd hi (Nat.not_lt_zero i)⟩, hk, hr, hN, hG⟩
theorem m_nine {g : Sg} {w : List Int32} (hw : RW (g.1 1) (g.2 0) w) (hl : w.length ≤ 12) : mMi 1 0 y_M_nine b_M_nine 2 .boolean [] g (fun r u => r = b2 (any9 w) ∧ u = g) := by
  refine m_i (Nat.le_refl _) (by decide) rfl (fun _ => Nat.le_of_ble_eq_true rfl) (fun h ad K hg hret => ?_)
  have hb := hg.b
  obtain ⟨hn, hrw⟩ := hw
  have loop : ∀ n i : Nat, i + n = w.length → (∀ j : Nat, j < i → w.getD j 0 ≠ 9) → K g 2 [(1, .int (nI i)), (0, .ref h)] [] := by
    intro n
    induction n with
    | zero =>
      intro i hi hj
      refine b_iload_n hb d_M_nine_2 rfl rfl ?_
      refine b_aload_n hb d_M_nine_3 rfl rfl ?_
      refine g_getN hg 1 fl_M_1 rfl d_M_nine_4 (hn) ?_
      refine b_geN (tgt := 29) hb (by omega) (by omega) d_M_nine_7 (by decide) (fun c1 => ?_) (fun c1 => ?_)
      · refine b_iconst (v := nI 0) hb d_M_nine_29 rfl ?_
        exact hret _ _ _ _ d_M_nine_30 rfl ⟨by rw [any9_f (fun j hj2 => hj j (by omega))]; rfl, rfl⟩
      · exact absurd c1 (by omega)
    | succ n ih =>
      intro i hi hj
      refine b_iload_n hb d_M_nine_2 rfl rfl ?_
      refine b_aload_n hb d_M_nine_3 rfl rfl ?_
      refine g_getN hg 1 fl_M_1 rfl d_M_nine_4 (hn) ?_
      refine b_geN (tgt := 29) hb (by omega) (by omega) d_M_nine_7 (by decide) (fun c1 => ?_) (fun c1 => ?_)
      · exact absurd c1 (by omega)
      · refine b_aload_n hb d_M_nine_10 rfl rfl ?_
        refine g_getA hg 0 fl_M_0 (Or.inl rfl) d_M_nine_11 ?_
        refine b_iload_n hb d_M_nine_14 rfl rfl ?_
        refine g_iald (n := 12) hg rfl rfl (by omega) d_M_nine_15 (rep_0 hrw c1) ?_
        refine b_bipush (v := 9) hb d_M_nine_16 rfl ?_
        refine b_icmp_ne (tgt := 23) hb d_M_nine_18 (by decide) (fun c2 => ?_) (fun c2 => ?_)
        · refine b_iincN (lv' := [(1, _), (0, _)]) hb d_M_nine_23 rfl (by decide) rfl ?_
          refine b_goto (tgt := 2) hb d_M_nine_26 (by decide) ?_
          exact ih (i + 1) (by omega) (fun j hj2 => by
            rcases Nat.lt_or_ge j i with q | q
            · exact hj j q
            · have : j = i := by omega
              subst this; exact c2)
        · refine b_iconst (v := nI 1) hb d_M_nine_21 rfl ?_
          exact hret _ _ _ _ d_M_nine_22 rfl ⟨by rw [any9_t c1 c2]; rfl, rfl⟩
  show K g 0 [(0, .ref h)] []
  refine b_iconst (v := nI 0) hb d_M_nine_0 rfl ?_
  refine b_istore_n (lv' := [(1, _), (0, _)]) hb d_M_nine_1 rfl (by decide) rfl ?_
  exact loop w.length 0 (by omega) (fun j hj => absurd hj (Nat.not_lt_zero j))
theorem m_length {g : Sg} {A : Ab} (hJ : JM g A) : mMi 1 0 y_M_length b_M_length 1 .int [] g (fun r u => r = nI (aw A).length ∧ JM u A) := by
  refine m_i (Nat.le_refl _) (by decide) rfl (fun _ => Nat.le_of_ble_eq_true rfl) (fun h ad K hg hret => ?_)
  have hb := hg.b
  show K g 0 [(0, .ref h)] []
  refine b_aload_n hb d_M_length_0 rfl rfl ?_
  refine g_getN hg 1 fl_M_1 rfl d_M_length_1 (hJ.2.1.1) ?_
  exact hret _ _ _ _ d_M_length_4 rfl ⟨rfl, hJ⟩
theorem m_keep {g : Sg} {A : Ab} {c : Int32} (hJ : JM g A) : mMi 1 1 y_M_keep b_M_keep 3 .int [.int c] g (fun r u => r = (opK A c).1 ∧ JM u (opK A c).2) := by
  refine m_i (Nat.le_refl _) (by decide) rfl (fun _ => Nat.le_of_ble_eq_true rfl) (fun h ad K hg hret => ?_)
  have hb := hg.b
  have hJ0 := hJ
  obtain ⟨hw, ⟨hn, hrw⟩, hk, hr, hN, hG⟩ := hJ
  have hle : (aw A).length ≤ 12 := hw.1.1
  show K g 0 [(0, .ref h), (1, .int c)] []
  have bad : c < 0 ∨ 2 < c → K g 9 [(0, .ref h), (1, .int c)] [] := by
    intro hc
    refine b_bipush (v := -4) hb d_M_keep_9 rfl ?_
    exact hret _ _ _ _ d_M_keep_11 rfl ⟨by rw [opK, if_pos hc], by rw [opK, if_pos hc]; exact hJ0⟩
  refine b_iload_n hb d_M_keep_0 rfl rfl ?_
  refine b_if_lt (tgt := 9) hb d_M_keep_1 (by decide) (fun c1 => ?_) (fun c1 => ?_)
  · exact bad (Or.inl c1)
  · refine b_iload_n hb d_M_keep_4 rfl rfl ?_
    refine b_iconst (v := 2) hb d_M_keep_5 rfl ?_
    refine b_icmp_le (tgt := 12) hb d_M_keep_6 (by decide) (fun c2 => ?_) (fun c2 => ?_)
    · obtain ⟨j, hj, rfl⟩ := nI_of2 (M := 2) (n := 2) rfl c1 c2
      have no : ¬ (nI j < 0 ∨ 2 < nI j) := fun z => z.elim c1 (Int32.not_lt.mpr c2)
      have hj2 : (nI j).toNatClampNeg = j := nI_clamp (by omega)
      have bad2 : ∀ lv, (3 < (aw A).length ∨ (any9 (aw A) = true ∧ nI j ≠ 2)) → K g 32 lv [] := by
        intro lv hc
        refine b_bipush (v := -3) hb d_M_keep_32 rfl ?_
        exact hret _ _ _ _ d_M_keep_34 rfl ⟨by rw [opK, if_neg no, if_pos hc], by rw [opK, if_neg no, if_pos hc]; exact hJ0⟩
      have good : ¬ (3 < (aw A).length ∨ (any9 (aw A) = true ∧ nI j ≠ 2)) → K g 35 [(0, .ref h), (1, .int (nI j))] [] := by
        intro hc
        have h3 : (aw A).length ≤ 3 := Nat.le_of_not_lt fun z => hc (Or.inl z)
        have e : opK A (nI j) = (nI (aw A).length, ([], va_up (akp A) j (aw A), A.2.2)) := by rw [opK, if_neg no, if_neg hc, hj2]
        refine b_iconst (v := nI 0) hb d_M_keep_35 rfl ?_
        refine b_istore_n (lv' := [(2, _), (0, _), (1, _)]) hb d_M_keep_36 rfl (by decide) rfl ?_
        have loop : ∀ (n i : Nat) (f : Nat → Int32), i + n = (aw A).length → (∀ t : Nat, t < i → f (j * 3 + t) = (aw A).getD t 0) → (∀ m : Nat, ¬ (j * 3 ≤ m ∧ m < j * 3 + 3) → f m = g.2 2 m) → K (xa g 2 f) 37 [(2, .int (nI i)), (0, .ref h), (1, .int (nI j))] [] := by
          intro n
          induction n with
          | zero =>
            intro i f hi hf ho
            refine b_iload_n hb d_M_keep_37 rfl rfl ?_
            refine b_aload_n hb d_M_keep_38 rfl rfl ?_
            refine g_getN hg 1 fl_M_1 rfl d_M_keep_39 (hn) ?_
            refine b_geN (tgt := 67) hb (by omega) (by omega) d_M_keep_42 (by decide) (fun c3 => ?_) (fun c3 => ?_)
            · refine b_aload_n hb d_M_keep_67 rfl rfl ?_
              refine g_getA hg 3 fl_M_3 (Or.inl rfl) d_M_keep_68 ?_
              refine b_iload_n hb d_M_keep_71 rfl rfl ?_
              refine b_aload_n hb d_M_keep_72 rfl rfl ?_
              refine g_getN hg 1 fl_M_1 rfl d_M_keep_73 (hn) ?_
              refine g_iast (n := 3) hg rfl rfl (by omega) d_M_keep_76 ?_
              refine b_aload_n hb d_M_keep_77 rfl rfl ?_
              refine b_iconst (v := nI 0) hb d_M_keep_78 rfl ?_
              refine g_putN hg 1 fl_M_1 rfl d_M_keep_79 ?_
              refine b_aload_n hb d_M_keep_82 rfl rfl ?_
              refine g_getA hg 3 fl_M_3 (Or.inl rfl) d_M_keep_83 ?_
              refine b_iload_n hb d_M_keep_86 rfl rfl ?_
              refine g_iald (n := 3) hg rfl rfl (by omega) d_M_keep_87 (pk_us) ?_
              have hi2 : i = (aw A).length := by omega
              subst hi2
              exact hret _ _ _ _ d_M_keep_88 rfl ⟨by rw [e], by rw [e]; exact ⟨WA_keep hw h3 (fun z => hc (Or.inr ⟨z.1, fun z2 => z.2 ((nI_eq (b := 2) (by omega) (by decide)).mp z2)⟩)), ⟨rfl, fun i hi => absurd hi (Nat.not_lt_zero i)⟩, RK_put h3 (fun p hp => (hw.2.1 p hp).1) hk hf ho, hr, hN, hG⟩⟩
            · exact absurd c3 (by omega)
          | succ n ih =>
            intro i f hi hf ho
            refine b_iload_n hb d_M_keep_37 rfl rfl ?_
            refine b_aload_n hb d_M_keep_38 rfl rfl ?_
            refine g_getN hg 1 fl_M_1 rfl d_M_keep_39 (hn) ?_
            refine b_geN (tgt := 67) hb (by omega) (by omega) d_M_keep_42 (by decide) (fun c3 => ?_) (fun c3 => ?_)
            · exact absurd c3 (by omega)
            · refine b_aload_n hb d_M_keep_45 rfl rfl ?_
              refine g_getA hg 2 fl_M_2 (Or.inl rfl) d_M_keep_46 ?_
              refine b_iload_n hb d_M_keep_49 rfl rfl ?_
              refine b_iconst (v := nI 3) hb d_M_keep_50 rfl ?_
              refine b_imulN hb d_M_keep_51 ?_
              refine b_iload_n hb d_M_keep_52 rfl rfl ?_
              refine b_iaddN hb d_M_keep_53 ?_
              refine b_aload_n hb d_M_keep_54 rfl rfl ?_
              refine g_getA hg 0 fl_M_0 (Or.inl rfl) d_M_keep_55 ?_
              refine b_iload_n hb d_M_keep_58 rfl rfl ?_
              refine g_iald (n := 12) hg rfl rfl (by omega) d_M_keep_59 (rep_0 hrw c3) ?_
              refine g_iast (n := 9) hg rfl rfl (by omega) d_M_keep_60 ?_
              rw [xa_xa]
              refine b_iincN (lv' := [(2, _), (0, _), (1, _)]) hb d_M_keep_61 rfl (by decide) rfl ?_
              refine b_goto (tgt := 37) hb d_M_keep_64 (by decide) ?_
              refine ih (i + 1) _ (by omega) (fun t ht => ?_) (fun m hm => ?_)
              · show upd f (j * 3 + i) _ (j * 3 + t) = _
                by_cases q : t = i
                · subst q; exact pk_us
                · rw [pk_un (by omega)]; exact hf t (by omega)
              · show upd f (j * 3 + i) _ m = _
                rw [pk_un (by omega)]; exact ho m hm
        have h0 := loop (aw A).length 0 (g.2 2) (by omega) (fun t ht => absurd ht (Nat.not_lt_zero t)) (fun m _ => rfl)
        rw [xa_id] at h0
        exact h0
      refine b_aload_n hb d_M_keep_12 rfl rfl ?_
      refine g_getN hg 1 fl_M_1 rfl d_M_keep_13 (hn) ?_
      refine b_iconst (v := nI 3) hb d_M_keep_16 rfl ?_
      refine b_gtN (tgt := 32) hb (by omega) (by omega) d_M_keep_17 (by decide) (fun c3 => ?_) (fun c3 => ?_)
      · exact bad2 _ (Or.inl c3)
      · refine b_iload_n hb d_M_keep_20 rfl rfl ?_
        refine b_iconst (v := nI 2) hb d_M_keep_21 rfl ?_
        refine b_eqN (tgt := 35) hb (by omega) (by omega) d_M_keep_22 (by decide) (fun c4 => ?_) (fun c4 => ?_)
        · exact good (fun z => z.elim (fun z => absurd z (by omega)) (fun z => z.2 (by rw [c4]; rfl)))
        · refine b_aload_n hb d_M_keep_25 rfl rfl ?_
          refine g_calli hg (m_nine ⟨hn, hrw⟩ hle) lk_M_M_nine (by decide) d_M_keep_26 rfl (Nat.le_of_ble_eq_true rfl) (fun r u hp => ?_)
          obtain ⟨rfl, rfl⟩ := hp
          refine b_if_eq (tgt := 35) hb d_M_keep_29 (by decide) (fun c5 => ?_) (fun c5 => ?_)
          · exact good (fun z => z.elim (fun z => absurd z (by omega)) (fun z => by rw [b2_0.mp c5] at z; cases z.1))
          · refine bad2 _ (Or.inr ⟨?_, fun z => c4 ((nI_eq (b := 2) (by omega) (by decide)).mp z)⟩)
            cases e9 : any9 (aw A) with
            | false => exact absurd (b2_0.mpr e9) c5
            | true => rfl
    · exact bad (Or.inr (Int32.not_le.mp c2))
theorem m_reflag {g : Sg} {A : Ab} {c f : Int32} (hJ : JM g A) : mMi 1 0 y_M_reflag b_M_reflag 4 .int [.int c, .int f] g (fun r u => r = (opF A c f).1 ∧ JM u (opF A c f).2) := by
  refine m_i (Nat.le_refl _) (by decide) rfl (fun _ => Nat.le_of_ble_eq_true rfl) (fun h ad K hg hret => ?_)
  have hb := hg.b
  have hJ0 := hJ
  obtain ⟨hw, hRW, hk, hr, hN, hG⟩ := hJ
  have hle : aN A ≤ 12 := hw.2.2.2.2.1
  show K g 0 [(0, .ref h), (1, .int c), (2, .int f)] []
  have bad : c < 0 ∨ nI (aN A) ≤ c → K g 12 [(0, .ref h), (1, .int c), (2, .int f)] [] := by
    intro hc
    refine b_bipush (v := -6) hb d_M_reflag_12 rfl ?_
    exact hret _ _ _ _ d_M_reflag_14 rfl ⟨by rw [opF, if_pos hc], by rw [opF, if_pos hc]; exact hJ0⟩
  refine b_iload_n hb d_M_reflag_0 rfl rfl ?_
  refine b_if_lt (tgt := 12) hb d_M_reflag_1 (by decide) (fun c1 => ?_) (fun c1 => ?_)
  · exact bad (Or.inl c1)
  · refine b_iload_n hb d_M_reflag_4 rfl rfl ?_
    refine b_aload_n hb d_M_reflag_5 rfl rfl ?_
    refine g_getN hg 10 fl_M_10 rfl d_M_reflag_6 (hN) ?_
    refine b_icmp_lt (tgt := 15) hb d_M_reflag_9 (by decide) (fun c2 => ?_) (fun c2 => ?_)
    · obtain ⟨j, hj, rfl⟩ := nI_of c1
      have hjN : j < aN A := (nI_ltI hj (by omega)).mp c2
      have no : ¬ (nI j < 0 ∨ nI (aN A) ≤ nI j) := fun z => z.elim c1 (fun z => absurd ((nI_leI (by omega) hj).mp z) (by omega))
      have e : opF A (nI j) f = (nI (aG A j), (aw A, akp A, aR A, aF A, aS A, aC A, aP A, aN A, aL A, va_up (aG A) j (m8 f))) := by rw [opF, if_neg no, nI_clamp hj]
      refine b_aload_n hb d_M_reflag_15 rfl rfl ?_
      refine g_getA hg 11 fl_M_11 (Or.inl rfl) d_M_reflag_16 ?_
      refine b_iload_n hb d_M_reflag_19 rfl rfl ?_
      refine g_iald (n := 12) hg rfl rfl (by omega) d_M_reflag_20 ((hG j hjN).1) ?_
      refine b_istore_n (lv' := [(3, _), (0, _), (1, _), (2, _)]) hb d_M_reflag_21 rfl (by decide) rfl ?_
      refine b_aload_n hb d_M_reflag_22 rfl rfl ?_
      refine g_getA hg 11 fl_M_11 (Or.inl rfl) d_M_reflag_23 ?_
      refine b_iload_n hb d_M_reflag_26 rfl rfl ?_
      refine b_iload_n hb d_M_reflag_27 rfl rfl ?_
      refine b_sipush (v := nI 255) hb d_M_reflag_28 rfl ?_
      refine b_iand hb d_M_reflag_31 ?_
      refine b_top (m8_and f) ?_
      refine g_iast (n := 12) hg rfl rfl (by omega) d_M_reflag_32 ?_
      refine b_iload_n hb d_M_reflag_33 rfl rfl ?_
      refine hret _ _ _ _ d_M_reflag_34 rfl ⟨by rw [e], ?_⟩
      rw [e]
      refine ⟨WA_flag hw (m8_lt f), hRW, hk, hr, hN, ?_⟩
      intro t ht
      refine ⟨?_, (hG t ht).2⟩
      show upd (g.2 11) j (nI (m8 f)) t = nI (va_up (aG A) j (m8 f) t)
      by_cases q : t = j
      · subst q; rw [pk_us, up_s]
      · rw [pk_un q, up_n q]; exact (hG t ht).1
    · exact bad (Or.inr (Int32.not_lt.mp c2))
theorem m_rule {g : Sg} {A : Ab} {c : Int32} {su cr : Bool} (hJ : JM g A) : mMi 1 0 y_M_rule b_M_rule 5 .int [.int c, .int (b2 su), .int (b2 cr)] g (fun r u => r = (opR A c su cr).1 ∧ JM u (opR A c su cr).2) := by
  refine m_i (Nat.le_refl _) (by decide) rfl (fun _ => Nat.le_of_ble_eq_true rfl) (fun h ad K hg hret => ?_)
  have hb := hg.b
  have hJ0 := hJ
  obtain ⟨hw, hRW, hk, hr, hN, hG⟩ := hJ
  have hle : aR A ≤ 10 := hw.2.2.1
  have hR := hr.1
  show K g 0 [(0, .ref h), (1, .int c), (2, .int (b2 su)), (3, .int (b2 cr))] []
  have bad : c < 0 ∨ 7 < c → K g 10 [(0, .ref h), (1, .int c), (2, .int (b2 su)), (3, .int (b2 cr))] [] := by
    intro hc
    refine b_bipush (v := -5) hb d_M_rule_10 rfl ?_
    exact hret _ _ _ _ d_M_rule_12 rfl ⟨by rw [opR, if_pos hc], by rw [opR, if_pos hc]; exact hJ0⟩
  refine b_iload_n hb d_M_rule_0 rfl rfl ?_
  refine b_if_lt (tgt := 10) hb d_M_rule_1 (by decide) (fun c1 => ?_) (fun c1 => ?_)
  · exact bad (Or.inl c1)
  · refine b_iload_n hb d_M_rule_4 rfl rfl ?_
    refine b_bipush (v := 7) hb d_M_rule_5 rfl ?_
    refine b_icmp_le (tgt := 13) hb d_M_rule_7 (by decide) (fun c2 => ?_) (fun c2 => ?_)
    · obtain ⟨j, hj, rfl⟩ := nI_of2 (M := 7) (n := 7) rfl c1 c2
      have no : ¬ (nI j < 0 ∨ 7 < nI j) := fun z => z.elim c1 (Int32.not_lt.mpr c2)
      refine b_aload_n hb d_M_rule_13 rfl rfl ?_
      refine g_getN hg 4 fl_M_4 rfl d_M_rule_14 (hR) ?_
      refine b_bipush (v := nI 10) hb d_M_rule_17 rfl ?_
      refine b_neN (tgt := 25) hb (by omega) (by omega) d_M_rule_19 (by decide) (fun c3 => ?_) (fun c3 => ?_)
      · have e : opR A (nI j) su cr = (nI (aR A), (aw A, akp A, aR A + 1, va_up (aF A) (aR A) j, va_up (aS A) (aR A) su, va_up (aC A) (aR A) cr, va_up (aP A) (aR A) (akp A), A.2.2.2.2.2.2.2)) := by rw [opR, if_neg no, if_neg (by omega), nI_clamp (by omega)]
        refine b_aload_n hb d_M_rule_25 rfl rfl ?_
        refine g_getA hg 5 fl_M_5 (Or.inl rfl) d_M_rule_26 ?_
        refine b_aload_n hb d_M_rule_29 rfl rfl ?_
        refine g_getN hg 4 fl_M_4 rfl d_M_rule_30 (hR) ?_
        refine b_iload_n hb d_M_rule_33 rfl rfl ?_
        refine g_iast (n := 10) hg rfl rfl (by omega) d_M_rule_34 ?_
        refine b_aload_n hb d_M_rule_35 rfl rfl ?_
        refine g_getA hg 6 fl_M_6 (Or.inr rfl) d_M_rule_36 ?_
        refine b_aload_n hb d_M_rule_39 rfl rfl ?_
        refine g_getN hg 4 fl_M_4 rfl d_M_rule_40 (hR) ?_
        refine b_iload_n hb d_M_rule_43 rfl rfl ?_
        refine g_zast (n := 10) hg rfl rfl (by omega) d_M_rule_44 (b2_01 su) ?_
        refine b_aload_n hb d_M_rule_45 rfl rfl ?_
        refine g_getA hg 7 fl_M_7 (Or.inr rfl) d_M_rule_46 ?_
        refine b_aload_n hb d_M_rule_49 rfl rfl ?_
        refine g_getN hg 4 fl_M_4 rfl d_M_rule_50 (hR) ?_
        refine b_iload_n hb d_M_rule_53 rfl rfl ?_
        refine g_zast (n := 10) hg rfl rfl (by omega) d_M_rule_54 (b2_01 cr) ?_
        refine b_iconst (v := nI 0) hb d_M_rule_55 rfl ?_
        refine b_istore (lv' := [(4, _), (0, _), (1, _), (2, _), (3, _)]) hb d_M_rule_56 (by decide) rfl ?_
        obtain ⟨g1, eg1⟩ : ∃ y : Sg, xa (xa (xa g 5 (upd (g.2 5) (aR A) (nI j))) 6 (upd (g.2 6) (aR A) (b2 su))) 7 (upd (g.2 7) (aR A) (b2 cr)) = y := ⟨_, rfl⟩
        have f1 : g1.1 = g.1 := by rw [← eg1]; rfl
        have hR1 : g1.1 4 = aR A := by rw [f1]; exact hR
        have f2 : ∀ k : Nat, k ≠ 5 → k ≠ 6 → k ≠ 7 → g1.2 k = g.2 k := by
          intro k k5 k6 k7
          rw [← eg1]
          show va_up (va_up (va_up g.2 5 _) 6 _) 7 _ k = _
          rw [up_n k7, up_n k6, up_n k5]
        have g5 : g1.2 5 = upd (g.2 5) (aR A) (nI j) := by rw [← eg1]; rfl
        have g6 : g1.2 6 = upd (g.2 6) (aR A) (b2 su) := by rw [← eg1]; rfl
        have g7 : g1.2 7 = upd (g.2 7) (aR A) (b2 cr) := by rw [← eg1]; rfl
        have loop2 : ∀ (pt2 : Nat → Int32), (∀ t : Nat, t < 9 → pt2 (aR A * 9 + t) = g.2 2 t) → (∀ m : Nat, m < aR A * 9 → pt2 m = g.2 8 m) → ∀ (n i : Nat) (f : Nat → Int32), i + n = 3 → (∀ t : Nat, t < i → f (aR A * 3 + t) = g.2 3 t) → (∀ m : Nat, m < aR A * 3 → f m = g.2 9 m) → K (xa (xa g1 8 pt2) 9 f) 96 [(4, .int (nI i)), (0, .ref h), (1, .int (nI j)), (2, .int (b2 su)), (3, .int (b2 cr))] [] := by
          intro pt2 hp1 hp2 n
          induction n with
          | zero =>
            intro i f hi hf ho
            refine b_iload hb d_M_rule_96 rfl ?_
            refine b_iconst (v := nI 3) hb d_M_rule_98 rfl ?_
            refine b_geN (tgt := 129) hb (by omega) (by omega) d_M_rule_99 (by decide) (fun c4 => ?_) (fun c4 => ?_)
            · refine b_aload_n hb d_M_rule_129 rfl rfl ?_
              refine b_aload_n hb d_M_rule_130 rfl rfl ?_
              refine g_getN hg 4 fl_M_4 rfl d_M_rule_131 (hR1) ?_
              refine b_iconst (v := nI 1) hb d_M_rule_134 rfl ?_
              refine b_iaddN hb d_M_rule_135 ?_
              refine g_putN hg 4 fl_M_4 rfl d_M_rule_136 ?_
              refine b_aload_n hb d_M_rule_139 rfl rfl ?_
              refine g_getN hg 4 fl_M_4 rfl d_M_rule_140 (show _ = aR A + 1 from rfl) ?_
              refine b_iconst (v := nI 1) hb d_M_rule_143 rfl ?_
              refine b_isubN hb d_M_rule_144 (by omega) ?_
              have hi2 : i = 3 := by omega
              subst hi2
              have hRR := RR_put (j := j) (s := su) (c := cr) (pl2 := f) (pt2 := pt2) hr hw hk hf ho hp1 hp2
              refine hret _ _ _ _ d_M_rule_145 rfl ⟨?_, ?_⟩
              · rw [e]; rfl
              rw [e]
              refine ⟨WA_rule hw hj (by omega), ?_, ?_, ?_, ?_, ?_⟩
              · show RW (g1.1 1) (g1.2 0) (aw A)
                rw [f1, f2 0 (by decide) (by decide) (by decide)]; exact hRW
              · show RK (g1.2 3) (g1.2 2) (akp A)
                rw [f2 2 (by decide) (by decide) (by decide), f2 3 (by decide) (by decide) (by decide)]; exact hk
              · show RR _ (aR A + 1) (g1.2 5) (g1.2 6) (g1.2 7) f pt2
                rw [g5, g6, g7]; rw [hR] at hRR; exact hRR
              · show g1.1 10 = aN A
                rw [f1]; exact hN
              · show ∀ s : Nat, s < aN A → g1.2 11 s = nI (aG A s) ∧ g1.2 12 s = nI (aL A s).length ∧ rep (g1.2 13) (s * 12) (aL A s)
                rw [f2 11 (by decide) (by decide) (by decide), f2 12 (by decide) (by decide) (by decide), f2 13 (by decide) (by decide) (by decide)]; exact hG
            · exact absurd c4 (by omega)
          | succ n ih =>
            intro i f hi hf ho
            refine b_iload hb d_M_rule_96 rfl ?_
            refine b_iconst (v := nI 3) hb d_M_rule_98 rfl ?_
            refine b_geN (tgt := 129) hb (by omega) (by omega) d_M_rule_99 (by decide) (fun c4 => ?_) (fun c4 => ?_)
            · exact absurd c4 (by omega)
            · refine b_aload_n hb d_M_rule_102 rfl rfl ?_
              refine g_getA hg 9 fl_M_9 (Or.inl rfl) d_M_rule_103 ?_
              refine b_aload_n hb d_M_rule_106 rfl rfl ?_
              refine g_getN hg 4 fl_M_4 rfl d_M_rule_107 (hR1) ?_
              refine b_iconst (v := nI 3) hb d_M_rule_110 rfl ?_
              refine b_imulN hb d_M_rule_111 ?_
              refine b_iload hb d_M_rule_112 rfl ?_
              refine b_iaddN hb d_M_rule_114 ?_
              refine b_aload_n hb d_M_rule_115 rfl rfl ?_
              refine g_getA hg 3 fl_M_3 (Or.inl rfl) d_M_rule_116 ?_
              refine b_iload hb d_M_rule_119 rfl ?_
              refine g_iald (n := 3) hg rfl rfl (by omega) d_M_rule_121 (show g1.2 3 i = g.2 3 i by rw [f2 3 (by decide) (by decide) (by decide)]) ?_
              refine g_iast (n := 30) hg rfl rfl (by omega) d_M_rule_122 ?_
              rw [xa_xa]
              refine b_iincN (lv' := [(4, _), (0, _), (1, _), (2, _), (3, _)]) hb d_M_rule_123 rfl (by decide) rfl ?_
              refine b_goto (tgt := 96) hb d_M_rule_126 (by decide) ?_
              refine ih (i + 1) _ (by omega) (fun t ht => ?_) (fun m hm => ?_)
              · show upd f (aR A * 3 + i) _ (aR A * 3 + t) = _
                by_cases q : t = i
                · subst q; exact pk_us
                · rw [pk_un (by omega)]; exact hf t (by omega)
              · show upd f (aR A * 3 + i) _ m = _
                rw [pk_un (by omega)]; exact ho m hm
        have loop1 : ∀ (n i : Nat) (f : Nat → Int32), i + n = 9 → (∀ t : Nat, t < i → f (aR A * 9 + t) = g.2 2 t) → (∀ m : Nat, m < aR A * 9 → f m = g.2 8 m) → K (xa g1 8 f) 58 [(4, .int (nI i)), (0, .ref h), (1, .int (nI j)), (2, .int (b2 su)), (3, .int (b2 cr))] [] := by
          intro n
          induction n with
          | zero =>
            intro i f hi hf ho
            refine b_iload hb d_M_rule_58 rfl ?_
            refine b_bipush (v := nI 9) hb d_M_rule_60 rfl ?_
            refine b_geN (tgt := 93) hb (by omega) (by omega) d_M_rule_62 (by decide) (fun c4 => ?_) (fun c4 => ?_)
            · refine b_iconst (v := nI 0) hb d_M_rule_93 rfl ?_
              refine b_istore (lv' := [(4, _), (0, _), (1, _), (2, _), (3, _)]) hb d_M_rule_94 (by decide) rfl ?_
              have hi2 : i = 9 := by omega
              subst hi2
              have h0 := loop2 f hf ho 3 0 ((xa g1 8 f).2 9) (by omega) (fun t ht => absurd ht (Nat.not_lt_zero t)) (fun m _ => by show g1.2 9 m = _; rw [f2 9 (by decide) (by decide) (by decide)])
              rw [xa_id] at h0
              exact h0
            · exact absurd c4 (by omega)
          | succ n ih =>
            intro i f hi hf ho
            refine b_iload hb d_M_rule_58 rfl ?_
            refine b_bipush (v := nI 9) hb d_M_rule_60 rfl ?_
            refine b_geN (tgt := 93) hb (by omega) (by omega) d_M_rule_62 (by decide) (fun c4 => ?_) (fun c4 => ?_)
            · exact absurd c4 (by omega)
            · refine b_aload_n hb d_M_rule_65 rfl rfl ?_
              refine g_getA hg 8 fl_M_8 (Or.inl rfl) d_M_rule_66 ?_
              refine b_aload_n hb d_M_rule_69 rfl rfl ?_
              refine g_getN hg 4 fl_M_4 rfl d_M_rule_70 (hR1) ?_
              refine b_bipush (v := nI 9) hb d_M_rule_73 rfl ?_
              refine b_imulN hb d_M_rule_75 ?_
              refine b_iload hb d_M_rule_76 rfl ?_
              refine b_iaddN hb d_M_rule_78 ?_
              refine b_aload_n hb d_M_rule_79 rfl rfl ?_
              refine g_getA hg 2 fl_M_2 (Or.inl rfl) d_M_rule_80 ?_
              refine b_iload hb d_M_rule_83 rfl ?_
              refine g_iald (n := 9) hg rfl rfl (by omega) d_M_rule_85 (show g1.2 2 i = g.2 2 i by rw [f2 2 (by decide) (by decide) (by decide)]) ?_
              refine g_iast (n := 90) hg rfl rfl (by omega) d_M_rule_86 ?_
              rw [xa_xa]
              refine b_iincN (lv' := [(4, _), (0, _), (1, _), (2, _), (3, _)]) hb d_M_rule_87 rfl (by decide) rfl ?_
              refine b_goto (tgt := 58) hb d_M_rule_90 (by decide) ?_
              refine ih (i + 1) _ (by omega) (fun t ht => ?_) (fun m hm => ?_)
              · show upd f (aR A * 9 + i) _ (aR A * 9 + t) = _
                by_cases q : t = i
                · subst q; exact pk_us
                · rw [pk_un (by omega)]; exact hf t (by omega)
              · show upd f (aR A * 9 + i) _ m = _
                rw [pk_un (by omega)]; exact ho m hm
        have h0 := loop1 9 0 (g1.2 8) (by omega) (fun t ht => absurd ht (Nat.not_lt_zero t)) (fun m _ => by rw [f2 8 (by decide) (by decide) (by decide)])
        rw [xa_id, ← eg1] at h0
        exact h0
      · refine b_bipush (v := -2) hb d_M_rule_22 rfl ?_
        have e : opR A (nI j) su cr = (-2, A) := by rw [opR, if_neg no, if_pos (by omega)]
        exact hret _ _ _ _ d_M_rule_24 rfl ⟨by rw [e], by rw [e]; exact hJ0⟩
    · exact bad (Or.inr (Int32.not_le.mp c2))
end
section
/-! the tree of stems, plain -/
theorem TP_par {N : Nat} {ch : Nat → Int32} {pa : Nat → List Int32} (h : TP N ch pa) {u : Nat} (h0 : 0 < u) (hu : u < N) : ∃ v c : Nat, v < N ∧ 1 ≤ c ∧ c ≤ 8 ∧ ch (v * 8 + (c - 1)) = nI u ∧ pa u = pa v ++ [nI c] := by
  obtain ⟨a1, a2, a3, a4, a5, a6⟩ := h
  obtain ⟨v, c, hv, hc1, hc8, e⟩ := a5 u h0 hu
  obtain ⟨u2, e2, h2⟩ := a4 v c hv hc1 hc8
  have hu2 : u2 < 2 ^ 31 := by rcases h2 with q | q <;> omega
  have : u2 = u := (nI_eq hu2 (by omega)).mp (e2.symm.trans e)
  subst this
  refine ⟨v, c, hv, hc1, hc8, e, ?_⟩
  rcases h2 with q | q
  · omega
  · exact q.2
theorem TP_inj {N : Nat} {ch : Nat → Int32} {pa : Nat → List Int32} (h : TP N ch pa) : ∀ (n u v : Nat), (pa u).length = n → u < N → v < N → pa u = pa v → u = v := by
  intro n
  induction n with
  | zero =>
    intro u v hn hu hv e
    have k : ∀ x : Nat, x < N → (pa x).length = 0 → x = 0 := by
      intro x hx hl
      rcases Nat.eq_zero_or_pos x with q | q
      · exact q
      · obtain ⟨v2, c2, -, -, -, -, e2⟩ := TP_par h q hx
        rw [e2, List.length_append] at hl
        simp at hl
    rw [k u hu hn, k v hv (by rw [← e]; exact hn)]
  | succ n ih =>
    intro u v hn hu hv e
    have k : ∀ x : Nat, (pa x).length = n + 1 → 0 < x := by
      intro x hl
      rcases Nat.eq_zero_or_pos x with q | q
      · subst q; rw [h.2.2.1] at hl; cases hl
      · exact q
    obtain ⟨u1, c1, hu1, p1, p2, e1, f1⟩ := TP_par h (k u hn) hu
    obtain ⟨v1, c2, hv1, p3, p4, e2, f2⟩ := TP_par h (k v (by rw [← e]; exact hn)) hv
    have e3 : pa u1 ++ [nI c1] = pa v1 ++ [nI c2] := by rw [← f1, ← f2]; exact e
    have hl1 : (pa u1).length = n := by rw [f1, List.length_append] at hn; simpa using hn
    obtain ⟨e4, e5⟩ := List.append_inj' e3 rfl
    have e6 : c1 = c2 := (nI_eq (by omega) (by omega)).mp (List.cons.inj e5).1
    have e7 : u1 = v1 := ih u1 v1 hl1 hu1 hv1 e4
    subst e6; subst e7
    have hN := h.2.1
    exact (nI_eq (by omega) (by omega)).mp (e1.symm.trans e2)
theorem TP_pre {N : Nat} {ch : Nat → Int32} {pa : Nat → List Int32} (h : TP N ch pa) : ∀ (n u : Nat) (a b : List Int32), b.length = n → u < N → pa u = a ++ b → ∃ y : Nat, y < N ∧ pa y = a := by
  intro n
  induction n with
  | zero =>
    intro u a b hb hu e
    have : b = [] := List.length_eq_zero_iff.mp hb
    subst this
    exact ⟨u, hu, by rw [e, List.append_nil]⟩
  | succ n ih =>
    intro u a b hb hu e
    have h0 : 0 < u := by
      rcases Nat.eq_zero_or_pos u with q | q
      · subst q
        rw [h.2.2.1] at e
        have := congrArg List.length e
        rw [List.length_append] at this
        simp at this
        omega
      · exact q
    obtain ⟨v, c, hv, -, -, -, f⟩ := TP_par h h0 hu
    rcases List.eq_nil_or_concat b with q | ⟨b1, d, q⟩
    · subst q; cases hb
    · subst q
      rw [List.concat_eq_append] at e hb
      rw [f, ← List.append_assoc] at e
      obtain ⟨e4, -⟩ := List.append_inj' e rfl
      exact ih v a b1 (by rw [List.length_append] at hb; simpa using hb) hv e4
theorem TP_miss {N : Nat} {ch : Nat → Int32} {pa : Nat → List Int32} (h : TP N ch pa) {v c : Nat} (hv : v < N) (hc1 : 1 ≤ c) (hc8 : c ≤ 8) (e : ch (v * 8 + (c - 1)) = nI 0) {x : Nat} (hx : x < N) (r : List Int32) : pa x ≠ pa v ++ nI c :: r := by
  intro ex
  have ex2 : pa x = (pa v ++ [nI c]) ++ r := by rw [ex]; simp
  obtain ⟨y, hy, ey⟩ := TP_pre h _ x _ r rfl hx ex2
  have h0 : 0 < y := by
    rcases Nat.eq_zero_or_pos y with q | q
    · subst q; rw [h.2.2.1] at ey; simp at ey
    · exact q
  obtain ⟨v2, c2, hv2, p1, p2, e2, f2⟩ := TP_par h h0 hy
  rw [f2] at ey
  obtain ⟨e4, e5⟩ := List.append_inj' ey rfl
  have e6 : c2 = c := (nI_eq (by omega) (by omega)).mp (List.cons.inj e5).1
  have e7 : v2 = v := TP_inj h _ v2 v rfl hv2 hv e4
  subst e6; subst e7
  have hN := h.2.1
  have : 0 = y := (nI_eq (by decide) (by omega)).mp (e.symm.trans e2)
  omega
theorem TP_add {N : Nat} {ch : Nat → Int32} {pa : Nat → List Int32} (h : TP N ch pa) (hN : N ≤ 144) {v c : Nat} (hv : v < N) (hc1 : 1 ≤ c) (hc8 : c ≤ 8) (e : ch (v * 8 + (c - 1)) = nI 0) : TP (N + 1) (upd ch (v * 8 + (c - 1)) (nI N)) (va_up pa N (pa v ++ [nI c])) := by
  obtain ⟨a1, a2, a3, a4, a5, a6⟩ := h
  refine ⟨by omega, by omega, ?_, ?_, ?_, ?_⟩
  · rw [up_n (by omega)]; exact a3
  · intro v1 c1 hv1 p1 p2
    by_cases q : v1 = v ∧ c1 = c
    · obtain ⟨rfl, rfl⟩ := q
      refine ⟨N, pk_us, Or.inr ⟨by omega, ?_⟩⟩
      rw [up_s, up_n (by omega)]
    · have hj : v1 * 8 + (c1 - 1) ≠ v * 8 + (c - 1) := by
        intro z
        apply q
        omega
      rw [pk_un hj]
      by_cases q2 : v1 < N
      · obtain ⟨u, e1, h1⟩ := a4 v1 c1 q2 p1 p2
        refine ⟨u, e1, ?_⟩
        rcases h1 with h1 | h1
        · exact Or.inl h1
        · refine Or.inr ⟨by omega, ?_⟩
          rw [up_n (by omega), up_n (by omega)]
          exact h1.2
      · exact ⟨0, a6 _ (by omega) (by omega), Or.inl rfl⟩
  · intro u h0 hu
    by_cases q : u = N
    · subst q
      exact ⟨v, c, by omega, hc1, hc8, pk_us⟩
    · obtain ⟨v1, c1, hv1, p1, p2, e1⟩ := a5 u h0 (by omega)
      refine ⟨v1, c1, by omega, p1, p2, ?_⟩
      rw [pk_un]
      · exact e1
      · intro z
        rw [z, e] at e1
        have := (nI_eq (by decide) (by omega)).mp e1
        omega
  · intro j h1 h2
    rw [pk_un (by omega)]
    exact a6 j (by omega) h2
theorem TC_keep {nx nx2 : Nat → Int32} : ∀ (L : List Nat) (hd : Int32), TC nx hd L → (∀ t ∈ L, nx2 t = nx t) → TC nx2 hd L
  | [], _, h, _ => h
  | s :: l, hd, h, hk => ⟨h.1, h.2.1, by
      rw [hk s List.mem_cons_self]
      exact TC_keep l _ h.2.2 (fun t ht => hk t (List.mem_cons_of_mem _ ht))⟩
theorem TC_snoc {nx : Nat → Int32} {a s : Nat} (hs : s < 12) (hn : nx s = -1) : ∀ (L : List Nat) (hd : Int32), TC nx hd (L ++ [a]) → (L ++ [a]).Nodup → s ∉ L ++ [a] → TC (upd nx a (nI s)) hd (L ++ [a] ++ [s])
  | [], hd, h, _, hns => by
      have hne : s ≠ a := fun z => hns (by rw [z]; exact List.mem_cons_self)
      refine ⟨h.1, h.2.1, ?_⟩
      rw [pk_us]
      exact ⟨rfl, hs, by rw [pk_un hne]; exact hn⟩
  | b :: l, hd, h, hd2, hns => by
      have hd3 := List.nodup_cons.mp hd2
      have hne : b ≠ a := fun z => hd3.1 (by rw [z]; exact List.mem_append_right _ List.mem_cons_self)
      refine ⟨h.1, h.2.1, ?_⟩
      rw [pk_un hne]
      exact TC_snoc hs hn l _ h.2.2 hd3.2 (fun z => hns (List.mem_cons_of_mem _ z))
theorem sts_nodup (A : Ab) (w : List Int32) : (sts A w).Nodup := List.Pairwise.filter _ List.nodup_range
theorem sts_mem {A : Ab} {w : List Int32} {s : Nat} : s ∈ sts A w ↔ s < aN A ∧ aL A s = w := by
  unfold sts
  rw [List.mem_filter, List.mem_range]
  simp
theorem sts_len (A : Ab) (w : List Int32) : (sts A w).length ≤ aN A := by
  have := List.length_filter_le (fun s => aL A s == w) (List.range (aN A))
  rw [List.length_range] at this
  exact this
/-! a stem more -/
def stm (A : Ab) (f : Nat) : Ab := ([], akp A, aR A, aF A, aS A, aC A, aP A, aN A + 1, va_up (aL A) (aN A) (aw A), va_up (aG A) (aN A) f)
def opS (A : Ab) (f : Int32) : Int32 × Ab := if (aw A).length = 0 ∨ any9 (aw A) = true then (-3, A) else if 12 ≤ aN A then (-2, A) else (nI (aN A), stm A (m8 f))
theorem sts_stm (A : Ab) (f : Nat) (w : List Int32) : sts (stm A f) w = sts A w ++ (if aw A = w then [aN A] else []) := by
  show (List.range (aN A + 1)).filter (fun s => va_up (aL A) (aN A) (aw A) s == w) = _
  rw [List.range_succ, List.filter_append]
  congr 1
  · apply List.filter_congr
    intro s hs
    rw [List.mem_range] at hs
    rw [up_n (by omega)]
  · simp only [List.filter_cons, List.filter_nil, up_s, beq_iff_eq]
theorem WA_stm {A : Ab} {f : Nat} (h : WA A) (h0 : (aw A).length ≠ 0) (h9 : any9 (aw A) = false) (hN : aN A < 12) (hf : f < 256) : WA (stm A f) := by
  obtain ⟨hw, hk, hr, hq, -, hs⟩ := h
  refine ⟨⟨Nat.zero_le _, fun c hc => by cases hc⟩, hk, hr, hq, hN, ?_⟩
  intro s hs2
  have hs2 : s < aN A + 1 := hs2
  show 1 ≤ (va_up (aL A) (aN A) (aw A) s).length ∧ (va_up (aL A) (aN A) (aw A) s).length ≤ 12 ∧ (∀ c ∈ va_up (aL A) (aN A) (aw A) s, lt8 c) ∧ va_up (aG A) (aN A) f s < 256
  by_cases q : s = aN A
  · subst q
    rw [up_s, up_s]
    exact ⟨by omega, hw.1, any9_8 hw.2 h9, hf⟩
  · rw [up_n q, up_n q]
    exact hs s (by omega)
theorem TR_stm {A : Ab} {f N N2 v : Nat} {ch fi nx ch2 fi1 fi2 nx2 : Nat → Int32} {pa pa2 : Nat → List Int32} (hN : N ≤ 1 + 12 * aN A) (hN2 : N2 ≤ N + 12) (hTC : ∀ x : Nat, x < N → TC nx (fi x) (sts A (pa x))) (hst : ∀ s : Nat, s < aN A → ∃ x : Nat, x < N ∧ pa x = aL A s) (hT2 : TP N2 ch2 pa2) (hNN : N ≤ N2)
    (hold : ∀ x : Nat, x < N → pa2 x = pa x ∧ fi1 x = fi x) (hnew : ∀ x : Nat, N ≤ x → x < N2 → fi1 x = -1) (hv : v < N2) (hpv : pa2 v = aw A)
    (hc1 : TC nx2 (fi2 v) (sts A (aw A) ++ [aN A])) (hc2 : ∀ x : Nat, x ≠ v → fi2 x = fi1 x) (hc3 : ∀ t : Nat, t ∉ sts A (aw A) → t ≠ aN A → nx2 t = nx t) : TR (stm A f) N2 ch2 fi2 nx2 := by
  refine ⟨pa2, hT2, ?_, ?_, ?_⟩
  · show N2 ≤ 1 + 12 * (aN A + 1)
    omega
  · intro x hx
    rw [sts_stm]
    by_cases q : x = v
    · subst q
      rw [hpv, if_pos rfl]
      exact hc1
    · have hne : aw A ≠ pa2 x := fun z => q (TP_inj hT2 _ x v rfl hx hv (by rw [hpv, z]))
      rw [if_neg hne, List.append_nil, hc2 x q]
      have hbase : TC nx (fi1 x) (sts A (pa2 x)) := by
        by_cases q2 : x < N
        · rw [(hold x q2).1, (hold x q2).2]; exact hTC x q2
        · rw [hnew x (by omega) hx]
          have : sts A (pa2 x) = [] := by
            apply List.eq_nil_iff_forall_not_mem.mpr
            intro s hs
            obtain ⟨h1, h2⟩ := sts_mem.mp hs
            obtain ⟨y, hy, ey⟩ := hst s h1
            have : y = x := TP_inj hT2 _ y x rfl (by omega) hx (by rw [(hold y hy).1, ey, h2])
            omega
          rw [this]
          rfl
      refine TC_keep _ _ hbase (fun t ht => ?_)
      obtain ⟨h1, h2⟩ := sts_mem.mp ht
      exact hc3 t (fun z => hne (by rw [← h2]; exact ((sts_mem.mp z).2).symm)) (by omega)
  · intro s hs
    have hs : s < aN A + 1 := hs
    show ∃ x : Nat, x < N2 ∧ pa2 x = va_up (aL A) (aN A) (aw A) s
    by_cases q : s = aN A
    · subst q
      rw [up_s]
      exact ⟨v, hv, hpv⟩
    · rw [up_n q]
      obtain ⟨y, hy, ey⟩ := hst s (by omega)
      exact ⟨y, by omega, by rw [(hold y hy).1, ey]⟩
/-- the stems at a node before the new one is chained -/
theorem TC_at {A : Ab} {N N2 v : Nat} {fi nx ch2 fi1 : Nat → Int32} {pa pa2 : Nat → List Int32} (hTC : ∀ x : Nat, x < N → TC nx (fi x) (sts A (pa x))) (hst : ∀ s : Nat, s < aN A → ∃ x : Nat, x < N ∧ pa x = aL A s) (hT2 : TP N2 ch2 pa2) (hNN : N ≤ N2) (hold : ∀ x : Nat, x < N → pa2 x = pa x ∧ fi1 x = fi x) (hnew : ∀ x : Nat, N ≤ x → x < N2 → fi1 x = -1) (hv : v < N2) (hpv : pa2 v = aw A) : TC nx (fi1 v) (sts A (aw A)) := by
  by_cases q2 : v < N
  · rw [← hpv, (hold v q2).1, (hold v q2).2]; exact hTC v q2
  · rw [hnew v (by omega) hv]
    have : sts A (aw A) = [] := by
      apply List.eq_nil_iff_forall_not_mem.mpr
      intro s hs
      obtain ⟨h1, h2⟩ := sts_mem.mp hs
      obtain ⟨y, hy, ey⟩ := hst s h1
      have : y = v := TP_inj hT2 _ y v rfl (by omega) hv (by rw [(hold y hy).1, ey, h2, hpv])
      omega
    rw [this]
    rfl
theorem gd_snoc {w : List Int32} {i : Nat} (h : i < w.length) : w.take (i + 1) = w.take i ++ [w.getD i 0] := by
  rw [List.take_add_one, List.getD_eq_getElem?_getD, List.getElem?_eq_getElem h]
  rfl
end
section
/-! AffixSpeller: stems -/
theorem x_childOf {g : Sg} {pa : Nat → List Int32} {v c : Nat} (hT : TP (g.1 12) (g.2 13) pa) (hv : v < g.1 12) (hc1 : 1 ≤ c) (hc8 : c ≤ 8) (hN : g.1 12 ≤ 144) : mMi 0 0 y_X_childOf b_X_childOf 4 .int [.int (nI v), .int (nI (c - 1))] g (fun r t => ∃ (u : Nat) (pa2 : Nat → List Int32), r = nI u ∧ fr [12, 13, 14] g t ∧ TP (t.1 12) (t.2 13) pa2 ∧ u < t.1 12 ∧ pa2 u = pa v ++ [nI c] ∧ g.1 12 ≤ t.1 12 ∧ t.1 12 ≤ g.1 12 + 1 ∧ (∀ x : Nat, x < g.1 12 → pa2 x = pa x ∧ t.2 14 x = g.2 14 x) ∧ ∀ x : Nat, g.1 12 ≤ x → x < t.1 12 → t.2 14 x = -1) := by
  refine m_i (Nat.zero_le _) (by decide) rfl (fun _ => Nat.le_of_ble_eq_true rfl) (fun h ad K hg hret => ?_)
  have hb := hg.b
  show K g 0 [(0, .ref h), (1, .int (nI v)), (2, .int (nI (c - 1)))] []
  obtain ⟨u, e, hu⟩ := hT.2.2.2.1 v c hv hc1 hc8
  refine b_iload_n hb d_X_childOf_0 rfl rfl ?_
  refine b_bipush (v := nI 8) hb d_X_childOf_1 rfl ?_
  refine b_imulN hb d_X_childOf_3 ?_
  refine b_iload_n hb d_X_childOf_4 rfl rfl ?_
  refine b_iaddN hb d_X_childOf_5 ?_
  refine b_istore_n (lv' := [(3, _), (0, _), (1, _), (2, _)]) hb d_X_childOf_6 rfl (by decide) rfl ?_
  refine b_aload_n hb d_X_childOf_7 rfl rfl ?_
  refine g_getA hg 13 fl_X_13 (Or.inl rfl) d_X_childOf_8 ?_
  refine b_iload_n hb d_X_childOf_11 rfl rfl ?_
  refine g_iald (n := 1160) hg rfl rfl (by omega) d_X_childOf_12 (e) ?_
  refine b_ne0N (tgt := 56) hb (by omega) d_X_childOf_13 (by decide) (fun c1 => ?_) (fun c1 => ?_)
  · refine b_aload_n hb d_X_childOf_56 rfl rfl ?_
    refine g_getA hg 13 fl_X_13 (Or.inl rfl) d_X_childOf_57 ?_
    refine b_iload_n hb d_X_childOf_60 rfl rfl ?_
    refine g_iald (n := 1160) hg rfl rfl (by omega) d_X_childOf_61 (e) ?_
    rcases hu with hu | hu
    · exact absurd hu c1
    · exact hret _ _ _ _ d_X_childOf_62 rfl ⟨u, pa, rfl, fr_rf, hT, hu.1, hu.2, Nat.le_refl _, Nat.le_succ _, fun x _ => ⟨rfl, rfl⟩, fun x h1 h2 => absurd h1 (by omega)⟩
  · subst c1
    refine b_aload_n hb d_X_childOf_16 rfl rfl ?_
    refine g_getN hg 12 fl_X_12 rfl d_X_childOf_17 (rfl) ?_
    refine b_sipush (v := nI 145) hb d_X_childOf_20 rfl ?_
    refine b_geN (tgt := 56) hb (by omega) (by omega) d_X_childOf_23 (by decide) (fun c2 => ?_) (fun c2 => ?_)
    · exact absurd c2 (by omega)
    · refine b_aload_n hb d_X_childOf_26 rfl rfl ?_
      refine g_getA hg 13 fl_X_13 (Or.inl rfl) d_X_childOf_27 ?_
      refine b_iload_n hb d_X_childOf_30 rfl rfl ?_
      refine b_aload_n hb d_X_childOf_31 rfl rfl ?_
      refine g_getN hg 12 fl_X_12 rfl d_X_childOf_32 (rfl) ?_
      refine g_iast (n := 1160) hg rfl rfl (by omega) d_X_childOf_35 ?_
      refine b_aload_n hb d_X_childOf_36 rfl rfl ?_
      refine g_getA hg 14 fl_X_14 (Or.inl rfl) d_X_childOf_37 ?_
      refine b_aload_n hb d_X_childOf_40 rfl rfl ?_
      refine g_getN hg 12 fl_X_12 rfl d_X_childOf_41 (show _ = g.1 12 from rfl) ?_
      refine b_iconst (v := -1) hb d_X_childOf_44 rfl ?_
      refine g_iast (n := 145) hg rfl rfl (by omega) d_X_childOf_45 ?_
      refine b_aload_n hb d_X_childOf_46 rfl rfl ?_
      refine b_dup hb d_X_childOf_47 rfl ?_
      refine g_getN hg 12 fl_X_12 rfl d_X_childOf_48 (show _ = g.1 12 from rfl) ?_
      refine b_iconst (v := nI 1) hb d_X_childOf_51 rfl ?_
      refine b_iaddN hb d_X_childOf_52 ?_
      refine g_putN hg 12 fl_X_12 rfl d_X_childOf_53 ?_
      refine b_aload_n hb d_X_childOf_56 rfl rfl ?_
      refine g_getA hg 13 fl_X_13 (Or.inl rfl) d_X_childOf_57 ?_
      refine b_iload_n hb d_X_childOf_60 rfl rfl ?_
      refine g_iald (n := 1160) hg rfl rfl (by omega) d_X_childOf_61 (pk_us) ?_
      refine hret _ _ _ _ d_X_childOf_62 rfl ⟨g.1 12, va_up pa (g.1 12) (pa v ++ [nI c]), rfl, ?_, TP_add hT hN hv hc1 hc8 e, ?_, up_s, ?_, ?_, ?_, ?_⟩
      · exact fr_xi (fr_xa (fr_xa fr_rf (by decide)) (by decide)) (by decide)
      · exact Nat.lt_succ_self _
      · exact Nat.le_succ _
      · exact Nat.le_refl _
      · intro x hx
        exact ⟨up_n (by omega), pk_un (by omega)⟩
      · intro x h1 h2
        have h2 : x < g.1 12 + 1 := h2
        have : x = g.1 12 := by omega
        subst this
        exact pk_us
theorem x_chain {g : Sg} {L : List Nat} {v s : Nat} (hT : TC (g.2 15) (g.2 14 v) L) (hv : v < 145) (hs : s < 12) (hL : L.length ≤ 11) (hd : L.Nodup) (hns : s ∉ L) (hn : g.2 15 s = -1) : mMv 0 0 y_X_chain b_X_chain 5 [.int (nI v), .int (nI s)] g (fun t => fr [14, 15] g t ∧ TC (t.2 15) (t.2 14 v) (L ++ [s]) ∧ (∀ x : Nat, x ≠ v → t.2 14 x = g.2 14 x) ∧ ∀ x : Nat, x ∉ L → t.2 15 x = g.2 15 x) := by
  refine m_v (Nat.zero_le _) (by decide) rfl (fun _ => Nat.le_of_ble_eq_true rfl) (fun h ad K hg hret => ?_)
  have hb := hg.b
  show K g 0 [(0, .ref h), (1, .int (nI v)), (2, .int (nI s))] []
  cases L with
  | nil =>
    have e : g.2 14 v = -1 := hT
    refine b_aload_n hb d_X_chain_0 rfl rfl ?_
    refine g_getA hg 14 fl_X_14 (Or.inl rfl) d_X_chain_1 ?_
    refine b_iload_n hb d_X_chain_4 rfl rfl ?_
    refine g_iald (n := 145) hg rfl rfl (by omega) d_X_chain_5 (e) ?_
    refine b_if_ge (tgt := 17) hb d_X_chain_6 (by decide) (fun c1 => ?_) (fun c1 => ?_)
    · exact absurd c1 (by decide)
    · refine b_aload_n hb d_X_chain_9 rfl rfl ?_
      refine g_getA hg 14 fl_X_14 (Or.inl rfl) d_X_chain_10 ?_
      refine b_iload_n hb d_X_chain_13 rfl rfl ?_
      refine b_iload_n hb d_X_chain_14 rfl rfl ?_
      refine g_iast (n := 145) hg rfl rfl (by omega) d_X_chain_15 ?_
      refine hret _ _ _ d_X_chain_16 ⟨fr_xa fr_rf (by decide), ⟨pk_us, hs, hn⟩, fun x hx => pk_un hx, fun x _ => rfl⟩
  | cons a L0 =>
    obtain ⟨e, ha, hT2⟩ := id hT
    have loop : ∀ (L2 L1 : List Nat) (b : Nat), a :: L0 = L1 ++ b :: L2 → b < 12 → TC (g.2 15) (g.2 15 b) L2 → K g 27 [(4, .int (nI L1.length)), (3, .int (nI b)), (0, .ref h), (1, .int (nI v)), (2, .int (nI s))] [] := by
      intro L2
      induction L2 with
      | nil =>
        intro L1 b hL1 hb2 hT3
        have hlen : L1.length ≤ 10 := by
          have := congrArg List.length hL1
          rw [List.length_append] at this
          simp at this
          simp at hL
          omega
        have e3 : g.2 15 b = -1 := hT3
        refine b_iload hb d_X_chain_27 rfl ?_
        refine b_bipush (v := nI 12) hb d_X_chain_29 rfl ?_
        refine b_geN (tgt := 56) hb (by omega) (by omega) d_X_chain_31 (by decide) (fun c1 => ?_) (fun c1 => ?_)
        · exact absurd c1 (by omega)
        · refine b_aload_n hb d_X_chain_34 rfl rfl ?_
          refine g_getA hg 15 fl_X_15 (Or.inl rfl) d_X_chain_35 ?_
          refine b_iload_n hb d_X_chain_38 rfl rfl ?_
          refine g_iald (n := 12) hg rfl rfl (by omega) d_X_chain_39 (e3) ?_
          refine b_if_lt (tgt := 56) hb d_X_chain_40 (by decide) (fun c2 => ?_) (fun c2 => ?_)
          · refine b_aload_n hb d_X_chain_56 rfl rfl ?_
            refine g_getA hg 15 fl_X_15 (Or.inl rfl) d_X_chain_57 ?_
            refine b_iload_n hb d_X_chain_60 rfl rfl ?_
            refine b_iload_n hb d_X_chain_61 rfl rfl ?_
            refine g_iast (n := 12) hg rfl rfl (by omega) d_X_chain_62 ?_
            refine hret _ _ _ d_X_chain_63 ⟨fr_xa fr_rf (by decide), ?_, fun x _ => rfl, fun x hx => pk_un (fun z => hx (by rw [z, hL1]; simp))⟩
            rw [hL1] at hT hd hns ⊢
            exact TC_snoc hs hn L1 _ hT hd hns
          · exact absurd (by decide) c2
      | cons b2 L3 ih =>
        intro L1 b hL1 hb2 hT3
        have hlen : L1.length ≤ 10 := by
          have := congrArg List.length hL1
          rw [List.length_append] at this
          simp at this
          simp at hL
          omega
        obtain ⟨e3, hb3, hT4⟩ := hT3
        refine b_iload hb d_X_chain_27 rfl ?_
        refine b_bipush (v := nI 12) hb d_X_chain_29 rfl ?_
        refine b_geN (tgt := 56) hb (by omega) (by omega) d_X_chain_31 (by decide) (fun c1 => ?_) (fun c1 => ?_)
        · exact absurd c1 (by omega)
        · refine b_aload_n hb d_X_chain_34 rfl rfl ?_
          refine g_getA hg 15 fl_X_15 (Or.inl rfl) d_X_chain_35 ?_
          refine b_iload_n hb d_X_chain_38 rfl rfl ?_
          refine g_iald (n := 12) hg rfl rfl (by omega) d_X_chain_39 (e3) ?_
          refine b_lt0N hb (by omega) d_X_chain_40 56 (by decide) ?_
          refine b_aload_n hb d_X_chain_43 rfl rfl ?_
          refine g_getA hg 15 fl_X_15 (Or.inl rfl) d_X_chain_44 ?_
          refine b_iload_n hb d_X_chain_47 rfl rfl ?_
          refine g_iald (n := 12) hg rfl rfl (by omega) d_X_chain_48 (e3) ?_
          refine b_istore_n (lv' := [(3, _), (4, _), (0, _), (1, _), (2, _)]) hb d_X_chain_49 rfl (by decide) rfl ?_
          refine b_iincN (lv' := [(4, _), (3, _), (0, _), (1, _), (2, _)]) hb d_X_chain_50 rfl (by decide) rfl ?_
          refine b_goto (tgt := 27) hb d_X_chain_53 (by decide) ?_
          have h0 := ih (L1 ++ [b]) b2 (by rw [hL1]; simp) hb3 hT4
          rw [List.length_append, List.length_singleton] at h0
          refine b_sub hb [1, 0, 2, 3, 4] rfl ?_
          exact b_sub hb [1, 0, 2, 3, 4] rfl h0
    refine b_aload_n hb d_X_chain_0 rfl rfl ?_
    refine g_getA hg 14 fl_X_14 (Or.inl rfl) d_X_chain_1 ?_
    refine b_iload_n hb d_X_chain_4 rfl rfl ?_
    refine g_iald (n := 145) hg rfl rfl (by omega) d_X_chain_5 (e) ?_
    refine b_ge0N (tgt := 17) hb (by omega) d_X_chain_6 (by decide) ?_
    refine b_aload_n hb d_X_chain_17 rfl rfl ?_
    refine g_getA hg 14 fl_X_14 (Or.inl rfl) d_X_chain_18 ?_
    refine b_iload_n hb d_X_chain_21 rfl rfl ?_
    refine g_iald (n := 145) hg rfl rfl (by omega) d_X_chain_22 (e) ?_
    refine b_istore_n (lv' := [(3, _), (0, _), (1, _), (2, _)]) hb d_X_chain_23 rfl (by decide) rfl ?_
    refine b_iconst (v := nI 0) hb d_X_chain_24 rfl ?_
    refine b_istore (lv' := [(4, _), (3, _), (0, _), (1, _), (2, _)]) hb d_X_chain_25 (by decide) rfl ?_
    exact loop L0 [] a rfl ha hT2
theorem x_findCore {g : Sg} {pa : Nat → List Int32} {w : List Int32} (hT : TP (g.1 12) (g.2 13) pa) (hw : RW (g.1 21) (g.2 20) w) (hl : w.length ≤ 20) (h8 : ∀ c ∈ w, lt8 c) : mMi 0 0 y_X_findCore b_X_findCore 3 .int [] g (fun r t => t = g ∧ ((r = -1 ∧ ∀ x : Nat, x < g.1 12 → pa x ≠ w) ∨ ∃ x : Nat, x < g.1 12 ∧ r = nI x ∧ pa x = w)) := by
  refine m_i (Nat.zero_le _) (by decide) rfl (fun _ => Nat.le_of_ble_eq_true rfl) (fun h ad K hg hret => ?_)
  have hb := hg.b
  obtain ⟨hn, hrw⟩ := hw
  have hN := hT.2.1
  have loop : ∀ n i v : Nat, i + n = w.length → v < g.1 12 → pa v = w.take i → K g 4 [(2, .int (nI i)), (1, .int (nI v)), (0, .ref h)] [] := by
    intro n
    induction n with
    | zero =>
      intro i v hi hv e
      refine b_iload_n hb d_X_findCore_4 rfl rfl ?_
      refine b_aload_n hb d_X_findCore_5 rfl rfl ?_
      refine g_getN hg 21 fl_X_21 rfl d_X_findCore_6 (hn) ?_
      refine b_geN (tgt := 43) hb (by omega) (by omega) d_X_findCore_9 (by decide) (fun c1 => ?_) (fun c1 => ?_)
      · refine b_iload_n hb d_X_findCore_43 rfl rfl ?_
        refine hret _ _ _ _ d_X_findCore_44 rfl ⟨rfl, Or.inr ⟨v, hv, rfl, ?_⟩⟩
        rw [e, List.take_of_length_le (by omega)]
      · exact absurd c1 (by omega)
    | succ n ih =>
      intro i v hi hv e
      refine b_iload_n hb d_X_findCore_4 rfl rfl ?_
      refine b_aload_n hb d_X_findCore_5 rfl rfl ?_
      refine g_getN hg 21 fl_X_21 rfl d_X_findCore_6 (hn) ?_
      refine b_geN (tgt := 43) hb (by omega) (by omega) d_X_findCore_9 (by decide) (fun c1 => ?_) (fun c1 => ?_)
      · exact absurd c1 (by omega)
      · obtain ⟨c, hc1, hc8, ec⟩ := h8 _ (gd_mem c1)
        obtain ⟨u, eu, hu⟩ := hT.2.2.2.1 v c hv hc1 hc8
        have ej : v * 8 + c - 1 = v * 8 + (c - 1) := by omega
        refine b_aload_n hb d_X_findCore_12 rfl rfl ?_
        refine g_getA hg 13 fl_X_13 (Or.inl rfl) d_X_findCore_13 ?_
        refine b_iload_n hb d_X_findCore_16 rfl rfl ?_
        refine b_bipush (v := nI 8) hb d_X_findCore_17 rfl ?_
        refine b_imulN hb d_X_findCore_19 ?_
        refine b_aload_n hb d_X_findCore_20 rfl rfl ?_
        refine g_getA hg 20 fl_X_20 (Or.inl rfl) d_X_findCore_21 ?_
        refine b_iload_n hb d_X_findCore_24 rfl rfl ?_
        refine g_iald (n := 20) hg rfl rfl (by omega) d_X_findCore_25 ((rep_0 hrw c1).trans ec) ?_
        refine b_iaddN hb d_X_findCore_26 ?_
        refine b_iconst (v := nI 1) hb d_X_findCore_27 rfl ?_
        refine b_isubN hb d_X_findCore_28 (by omega) ?_
        refine g_iald (n := 1160) hg rfl rfl (by omega) d_X_findCore_29 ((show g.2 13 (v * 8 + c - 1) = nI u by rw [ej]; exact eu)) ?_
        refine b_istore_n (lv' := [(1, _), (2, _), (0, _)]) hb d_X_findCore_30 rfl (by decide) rfl ?_
        refine b_iload_n hb d_X_findCore_31 rfl rfl ?_
        have hu31 : u < 2 ^ 31 := by rcases hu with q | q <;> omega
        refine b_ne0N (tgt := 37) hb (by omega) d_X_findCore_32 (by decide) (fun c2 => ?_) (fun c2 => ?_)
        · rcases hu with hu | hu
          · exact absurd hu c2
          · refine b_iincN (lv' := [(2, _), (1, _), (0, _)]) hb d_X_findCore_37 rfl (by decide) rfl ?_
            refine b_goto (tgt := 4) hb d_X_findCore_40 (by decide) ?_
            refine b_sub hb [0, 1, 2] rfl ?_
            exact ih (i + 1) u (by omega) hu.1 (by rw [hu.2, e, gd_snoc c1, ec])
        · subst c2
          refine b_iconst (v := -1) hb d_X_findCore_35 rfl ?_
          refine hret _ _ _ _ d_X_findCore_36 rfl ⟨rfl, Or.inl ⟨rfl, fun x hx ex => ?_⟩⟩
          refine TP_miss hT hv hc1 hc8 eu hx (w.drop (i + 1)) ?_
          rw [ex, e, ← ec]
          have e5 : w = w.take (i + 1) ++ w.drop (i + 1) := (List.take_append_drop _ _).symm
          rw [gd_snoc c1] at e5
          rw [List.append_assoc] at e5
          exact e5
  show K g 0 [(0, .ref h)] []
  refine b_iconst (v := nI 0) hb d_X_findCore_0 rfl ?_
  refine b_istore_n (lv' := [(1, _), (0, _)]) hb d_X_findCore_1 rfl (by decide) rfl ?_
  refine b_iconst (v := nI 0) hb d_X_findCore_2 rfl ?_
  refine b_istore_n (lv' := [(2, _), (1, _), (0, _)]) hb d_X_findCore_3 rfl (by decide) rfl ?_
  refine b_sub hb [0, 1, 2] rfl ?_
  exact loop w.length 0 0 (by omega) hT.1 (by rw [hT.2.2.1]; rfl)
end
section
/-! stem, both -/
theorem x_stem {g : Sg} {A : Ab} {f : Int32} (hJ : JX g A) : mMi 0 1 y_X_stem b_X_stem 5 .int [.int f] g (fun r u => r = (opS A f).1 ∧ JX u (opS A f).2) := by
  refine m_i (Nat.zero_le _) (by decide) rfl (fun _ => Nat.le_of_ble_eq_true rfl) (fun h ad K hg hret => ?_)
  have hb := hg.b
  have hJ0 := hJ
  obtain ⟨hw, ⟨hn, hrw⟩, hk, hr, hN, hG, pa, hTP, hN1, hTC, hst⟩ := hJ
  have hle : (aw A).length ≤ 12 := hw.1.1
  have hNle : aN A ≤ 12 := hw.2.2.2.2.1
  show K g 0 [(0, .ref h), (1, .int f)] []
  refine b_aload_n hb d_X_stem_0 rfl rfl ?_
  refine g_calli hg (x_hasAny ⟨hn, hrw⟩ hle) lk_X_X_hasAny (by decide) d_X_stem_1 rfl (Nat.le_of_ble_eq_true rfl) (fun r u hp => ?_)
  obtain ⟨rfl, rfl⟩ := hp
  refine b_istore_n (lv' := [(2, _), (0, _), (1, _)]) hb d_X_stem_4 rfl (by decide) rfl ?_
  refine b_aload_n hb d_X_stem_5 rfl rfl ?_
  refine g_getN hg 1 fl_X_1 rfl d_X_stem_6 (hn) ?_
  have bad : ∀ lv, ((aw A).length = 0 ∨ any9 (aw A) = true) → K u 16 lv [] := by
    intro lv hc
    refine b_bipush (v := -3) hb d_X_stem_16 rfl ?_
    exact hret _ _ _ _ d_X_stem_18 rfl ⟨by rw [opS, if_pos hc], by rw [opS, if_pos hc]; exact hJ0⟩
  refine b_eq0N (tgt := 16) hb (by omega) d_X_stem_9 (by decide) (fun c1 => ?_) (fun c1 => ?_)
  · exact bad _ (Or.inl c1)
  · refine b_iload_n hb d_X_stem_12 rfl rfl ?_
    refine b_if_eq (tgt := 19) hb d_X_stem_13 (by decide) (fun c2 => ?_) (fun c2 => ?_)
    · have h9 : any9 (aw A) = false := b2_0.mp c2
      have no : ¬ ((aw A).length = 0 ∨ any9 (aw A) = true) := fun z => z.elim c1 (fun z => by rw [h9] at z; cases z)
      have h8 := any9_8 hw.1.2 h9
      refine b_aload_n hb d_X_stem_19 rfl rfl ?_
      refine g_getN hg 10 fl_X_10 rfl d_X_stem_20 (hN) ?_
      refine b_bipush (v := nI 12) hb d_X_stem_23 rfl ?_
      refine b_ltN (tgt := 31) hb (by omega) (by omega) d_X_stem_25 (by decide) (fun c3 => ?_) (fun c3 => ?_)
      · have e : opS A f = (nI (aN A), stm A (m8 f)) := by rw [opS, if_neg no, if_neg (by omega)]
        have fin : ∀ (t : Sg) (v : Nat) (pa2 : Nat → List Int32) (lv3 : Int32), fr [12, 13, 14] u t → TP (t.1 12) (t.2 13) pa2 → v < t.1 12 → pa2 v = aw A → u.1 12 ≤ t.1 12 → t.1 12 ≤ u.1 12 + 12 → (∀ x : Nat, x < u.1 12 → pa2 x = pa x ∧ t.2 14 x = u.2 14 x) → (∀ x : Nat, u.1 12 ≤ x → x < t.1 12 → t.2 14 x = -1) → K t 66 [(4, .int lv3), (3, .int (nI v)), (2, .int (b2 (any9 (aw A)))), (0, .ref h), (1, .int f)] [] := by
          intro t v pa2 lv3 ft hT2 hv hpv hNN hNN2 hold hnew
          have ht10 : t.1 10 = aN A := by rw [(ft 10 (by decide)).1]; exact hN
          have hTCv := TC_at hTC hst hT2 hNN hold hnew hv hpv
          have hTCt : TC (t.2 15) (t.2 14 v) (sts A (aw A)) := by rw [(ft 15 (by decide)).2]; exact hTCv
          refine b_aload_n hb d_X_stem_66 rfl rfl ?_
          refine g_getN hg 10 fl_X_10 rfl d_X_stem_67 (ht10) ?_
          refine b_istore (lv' := [(4, _), (3, _), (2, _), (0, _), (1, _)]) hb d_X_stem_70 (by decide) rfl ?_
          refine b_aload_n hb d_X_stem_72 rfl rfl ?_
          refine g_getA hg 11 fl_X_11 (Or.inl rfl) d_X_stem_73 ?_
          refine b_iload hb d_X_stem_76 rfl ?_
          refine b_iload_n hb d_X_stem_78 rfl rfl ?_
          refine b_sipush (v := nI 255) hb d_X_stem_79 rfl ?_
          refine b_iand hb d_X_stem_82 ?_
          refine b_top (m8_and f) ?_
          refine g_iast (n := 12) hg rfl rfl (by omega) d_X_stem_83 ?_
          refine b_aload_n hb d_X_stem_84 rfl rfl ?_
          refine g_getA hg 15 fl_X_15 (Or.inl rfl) d_X_stem_85 ?_
          refine b_iload hb d_X_stem_88 rfl ?_
          refine b_iconst (v := -1) hb d_X_stem_90 rfl ?_
          refine g_iast (n := 12) hg rfl rfl (by omega) d_X_stem_91 ?_
          refine b_aload_n hb d_X_stem_92 rfl rfl ?_
          refine b_iload_n hb d_X_stem_93 rfl rfl ?_
          refine b_iload hb d_X_stem_94 rfl ?_
          have hns : aN A ∉ sts A (aw A) := fun z => absurd (sts_mem.mp z).1 (Nat.lt_irrefl _)
          have h145 := hT2.2.1
          have hlen := sts_len A (aw A)
          refine g_callv hg (x_chain (L := sts A (aw A)) (v := v) (s := aN A) (TC_keep _ _ hTCt (fun x hx => pk_un (fun z => hns (z ▸ hx)))) (by omega) (by omega) (by omega) (sts_nodup A _) hns pk_us) lk_X_X_chain (by decide) d_X_stem_96 rfl (Nat.le_of_ble_eq_true rfl) (fun t3 ht3 => ?_)
          obtain ⟨f3, hc1, hc2, hc3⟩ := ht3
          refine b_aload_n hb d_X_stem_99 rfl rfl ?_
          refine b_dup hb d_X_stem_100 rfl ?_
          refine g_getN hg 10 fl_X_10 rfl d_X_stem_101 (show _ = aN A from (f3 10 (by decide)).1.trans ht10) ?_
          refine b_iconst (v := nI 1) hb d_X_stem_104 rfl ?_
          refine b_iaddN hb d_X_stem_105 ?_
          refine g_putN hg 10 fl_X_10 rfl d_X_stem_106 ?_
          refine b_aload_n hb d_X_stem_109 rfl rfl ?_
          refine b_iconst (v := nI 0) hb d_X_stem_110 rfl ?_
          refine g_putN hg 1 fl_X_1 rfl d_X_stem_111 ?_
          refine b_iload hb d_X_stem_114 rfl ?_
          refine hret _ _ _ _ d_X_stem_116 rfl ⟨by rw [e], ?_⟩
          rw [e]
          refine ⟨WA_stm hw c1 h9 c3 (m8_lt f), ⟨rfl, fun i hi => absurd hi (Nat.not_lt_zero i)⟩, ?_, ?_, rfl, ?_, ?_⟩
          · show RK (t3.2 2) (t3.2 3) (akp A)
            rw [(f3 2 (by decide)).2, (f3 3 (by decide)).2]
            show RK (t.2 2) (t.2 3) (akp A)
            rw [(ft 2 (by decide)).2, (ft 3 (by decide)).2]
            exact hk
          · show RR A (t3.1 4) (t3.2 5) (t3.2 6) (t3.2 7) (t3.2 8) (t3.2 9)
            rw [(f3 4 (by decide)).1, (f3 5 (by decide)).2, (f3 6 (by decide)).2, (f3 7 (by decide)).2, (f3 8 (by decide)).2, (f3 9 (by decide)).2]
            show RR A (t.1 4) (t.2 5) (t.2 6) (t.2 7) (t.2 8) (t.2 9)
            rw [(ft 4 (by decide)).1, (ft 5 (by decide)).2, (ft 6 (by decide)).2, (ft 7 (by decide)).2, (ft 8 (by decide)).2, (ft 9 (by decide)).2]
            exact hr
          · intro s hs
            have hs : s < aN A + 1 := hs
            show t3.2 11 s = nI (va_up (aG A) (aN A) (m8 f) s)
            rw [(f3 11 (by decide)).2]
            show upd (t.2 11) (aN A) (nI (m8 f)) s = _
            by_cases q : s = aN A
            · subst q; rw [pk_us, up_s]
            · rw [pk_un q, up_n q, (ft 11 (by decide)).2]; exact hG s (by omega)
          · show TR (stm A (m8 f)) (t3.1 12) (t3.2 13) (t3.2 14) (t3.2 15)
            rw [(f3 12 (by decide)).1, (f3 13 (by decide)).2]
            refine TR_stm (ch := u.2 13) (fi1 := t.2 14) hN1 (N := u.1 12) hNN2 hTC hst hT2 hNN hold hnew hv hpv hc1 (fun x hx => hc2 x hx) (fun x hx hx2 => ?_)
            rw [hc3 x hx]
            show upd (t.2 15) (aN A) (-1) x = _
            rw [pk_un hx2, (ft 15 (by decide)).2]
        have loop : ∀ (n i v : Nat) (t : Sg) (pa2 : Nat → List Int32), i + n = (aw A).length → fr [12, 13, 14] u t → TP (t.1 12) (t.2 13) pa2 → v < t.1 12 → pa2 v = (aw A).take i → u.1 12 ≤ t.1 12 → t.1 12 ≤ u.1 12 + i → (∀ x : Nat, x < u.1 12 → pa2 x = pa x ∧ t.2 14 x = u.2 14 x) → (∀ x : Nat, u.1 12 ≤ x → x < t.1 12 → t.2 14 x = -1) → K t 36 [(4, .int (nI i)), (3, .int (nI v)), (2, .int (b2 (any9 (aw A)))), (0, .ref h), (1, .int f)] [] := by
          intro n
          induction n with
          | zero =>
            intro i v t pa2 hi ft hT2 hv hpv hNN hNN2 hold hnew
            refine b_iload hb d_X_stem_36 rfl ?_
            refine b_aload_n hb d_X_stem_38 rfl rfl ?_
            refine g_getN hg 1 fl_X_1 rfl d_X_stem_39 (show _ = (aw A).length from (ft 1 (by decide)).1.trans hn) ?_
            refine b_geN (tgt := 66) hb (by omega) (by omega) d_X_stem_42 (by decide) (fun c4 => ?_) (fun c4 => ?_)
            · exact fin t v pa2 _ ft hT2 hv (by rw [hpv, List.take_of_length_le (by omega)]) hNN (by omega) hold hnew
            · exact absurd c4 (by omega)
          | succ n ih =>
            intro i v t pa2 hi ft hT2 hv hpv hNN hNN2 hold hnew
            refine b_iload hb d_X_stem_36 rfl ?_
            refine b_aload_n hb d_X_stem_38 rfl rfl ?_
            refine g_getN hg 1 fl_X_1 rfl d_X_stem_39 (show _ = (aw A).length from (ft 1 (by decide)).1.trans hn) ?_
            refine b_geN (tgt := 66) hb (by omega) (by omega) d_X_stem_42 (by decide) (fun c4 => ?_) (fun c4 => ?_)
            · exact absurd c4 (by omega)
            · obtain ⟨c, hc1, hc8, ec⟩ := h8 _ (gd_mem c4)
              refine b_aload_n hb d_X_stem_45 rfl rfl ?_
              refine b_iload_n hb d_X_stem_46 rfl rfl ?_
              refine b_aload_n hb d_X_stem_47 rfl rfl ?_
              refine g_getA hg 0 fl_X_0 (Or.inl rfl) d_X_stem_48 ?_
              refine b_iload hb d_X_stem_51 rfl ?_
              refine g_iald (n := 12) hg rfl rfl (by omega) d_X_stem_53 ((show t.2 0 i = nI c by rw [(ft 0 (by decide)).2]; exact (rep_0 hrw c4).trans ec)) ?_
              refine b_iconst (v := nI 1) hb d_X_stem_54 rfl ?_
              refine b_isubN hb d_X_stem_55 (by omega) ?_
              refine g_calli hg (x_childOf hT2 hv hc1 hc8 (by omega)) lk_X_X_childOf (by decide) d_X_stem_56 rfl (Nat.le_of_ble_eq_true rfl) (fun r t2 ht => ?_)
              obtain ⟨v2, pa3, rfl, f2, hT3, hv3, e3, n1, n2, o1, o2⟩ := ht
              refine b_istore_n (lv' := [(3, _), (4, _), (2, _), (0, _), (1, _)]) hb d_X_stem_59 rfl (by decide) rfl ?_
              refine b_iincN (lv' := [(4, _), (3, _), (2, _), (0, _), (1, _)]) hb d_X_stem_60 rfl (by decide) rfl ?_
              refine b_goto (tgt := 36) hb d_X_stem_63 (by decide) ?_
              refine b_sub hb [0, 1, 2, 3, 4] rfl ?_
              refine ih (i + 1) v2 t2 pa3 (by omega) (fr_tr ft f2) hT3 hv3 (by rw [e3, hpv, gd_snoc c4, ec]) (by omega) (by omega) (fun x hx => ?_) (fun x h1 h2 => ?_)
              · obtain ⟨q1, q2⟩ := o1 x (by omega)
                exact ⟨q1.trans (hold x hx).1, q2.trans (hold x hx).2⟩
              · rcases Nat.lt_or_ge x (t.1 12) with q | q
                · rw [(o1 x q).2]; exact hnew x h1 q
                · exact o2 x q h2
        refine b_iconst (v := nI 0) hb d_X_stem_31 rfl ?_
        refine b_istore_n (lv' := [(3, _), (2, _), (0, _), (1, _)]) hb d_X_stem_32 rfl (by decide) rfl ?_
        refine b_iconst (v := nI 0) hb d_X_stem_33 rfl ?_
        refine b_istore (lv' := [(4, _), (3, _), (2, _), (0, _), (1, _)]) hb d_X_stem_34 (by decide) rfl ?_
        exact loop (aw A).length 0 0 u pa (by omega) fr_rf hTP hTP.1 (by rw [hTP.2.2.1]; rfl) (Nat.le_refl _) (by omega) (fun x _ => ⟨rfl, rfl⟩) (fun x h1 h2 => absurd h1 (by omega))
      · refine b_bipush (v := -2) hb d_X_stem_28 rfl ?_
        have e : opS A f = (-2, A) := by rw [opS, if_neg no, if_pos c3]
        exact hret _ _ _ _ d_X_stem_30 rfl ⟨by rw [e], by rw [e]; exact hJ0⟩
    · refine bad _ (Or.inr ?_)
      cases e9 : any9 (aw A) with
      | false => exact absurd (b2_0.mpr e9) c2
      | true => rfl
theorem m_stem {g : Sg} {A : Ab} {f : Int32} (hJ : JM g A) : mMi 1 1 y_M_stem b_M_stem 3 .int [.int f] g (fun r u => r = (opS A f).1 ∧ JM u (opS A f).2) := by
  refine m_i (Nat.le_refl _) (by decide) rfl (fun _ => Nat.le_of_ble_eq_true rfl) (fun h ad K hg hret => ?_)
  have hb := hg.b
  have hJ0 := hJ
  obtain ⟨hw, ⟨hn, hrw⟩, hk, hr, hN, hG⟩ := hJ
  have hle : (aw A).length ≤ 12 := hw.1.1
  have hNle : aN A ≤ 12 := hw.2.2.2.2.1
  show K g 0 [(0, .ref h), (1, .int f)] []
  have bad : ∀ lv, ((aw A).length = 0 ∨ any9 (aw A) = true) → K g 14 lv [] := by
    intro lv hc
    refine b_bipush (v := -3) hb d_M_stem_14 rfl ?_
    exact hret _ _ _ _ d_M_stem_16 rfl ⟨by rw [opS, if_pos hc], by rw [opS, if_pos hc]; exact hJ0⟩
  refine b_aload_n hb d_M_stem_0 rfl rfl ?_
  refine g_getN hg 1 fl_M_1 rfl d_M_stem_1 (hn) ?_
  refine b_eq0N (tgt := 14) hb (by omega) d_M_stem_4 (by decide) (fun c1 => ?_) (fun c1 => ?_)
  · exact bad _ (Or.inl c1)
  · refine b_aload_n hb d_M_stem_7 rfl rfl ?_
    refine g_calli hg (m_nine ⟨hn, hrw⟩ hle) lk_M_M_nine (by decide) d_M_stem_8 rfl (Nat.le_of_ble_eq_true rfl) (fun r u hp => ?_)
    obtain ⟨rfl, rfl⟩ := hp
    refine b_if_eq (tgt := 17) hb d_M_stem_11 (by decide) (fun c2 => ?_) (fun c2 => ?_)
    · have h9 : any9 (aw A) = false := b2_0.mp c2
      have no : ¬ ((aw A).length = 0 ∨ any9 (aw A) = true) := fun z => z.elim c1 (fun z => by rw [h9] at z; cases z)
      refine b_aload_n hb d_M_stem_17 rfl rfl ?_
      refine g_getN hg 10 fl_M_10 rfl d_M_stem_18 (hN) ?_
      refine b_bipush (v := nI 12) hb d_M_stem_21 rfl ?_
      refine b_neN (tgt := 29) hb (by omega) (by omega) d_M_stem_23 (by decide) (fun c3 => ?_) (fun c3 => ?_)
      · have e : opS A f = (nI (aN A), stm A (m8 f)) := by rw [opS, if_neg no, if_neg (by omega)]
        have loop : ∀ (n i : Nat) (p : Nat → Int32), i + n = (aw A).length → (∀ t : Nat, t < i → p (aN A * 12 + t) = (aw A).getD t 0) → (∀ m : Nat, m < aN A * 12 → p m = u.2 13 m) → K (xa u 13 p) 31 [(2, .int (nI i)), (0, .ref h), (1, .int f)] [] := by
          intro n
          induction n with
          | zero =>
            intro i p hi hp ho
            refine b_iload_n hb d_M_stem_31 rfl rfl ?_
            refine b_aload_n hb d_M_stem_32 rfl rfl ?_
            refine g_getN hg 1 fl_M_1 rfl d_M_stem_33 (hn) ?_
            refine b_geN (tgt := 65) hb (by omega) (by omega) d_M_stem_36 (by decide) (fun c4 => ?_) (fun c4 => ?_)
            · refine b_aload_n hb d_M_stem_65 rfl rfl ?_
              refine g_getA hg 12 fl_M_12 (Or.inl rfl) d_M_stem_66 ?_
              refine b_aload_n hb d_M_stem_69 rfl rfl ?_
              refine g_getN hg 10 fl_M_10 rfl d_M_stem_70 (hN) ?_
              refine b_aload_n hb d_M_stem_73 rfl rfl ?_
              refine g_getN hg 1 fl_M_1 rfl d_M_stem_74 (hn) ?_
              refine g_iast (n := 12) hg rfl rfl (by omega) d_M_stem_77 ?_
              refine b_aload_n hb d_M_stem_78 rfl rfl ?_
              refine g_getA hg 11 fl_M_11 (Or.inl rfl) d_M_stem_79 ?_
              refine b_aload_n hb d_M_stem_82 rfl rfl ?_
              refine g_getN hg 10 fl_M_10 rfl d_M_stem_83 (hN) ?_
              refine b_iload_n hb d_M_stem_86 rfl rfl ?_
              refine b_sipush (v := nI 255) hb d_M_stem_87 rfl ?_
              refine b_iand hb d_M_stem_90 ?_
              refine b_top (m8_and f) ?_
              refine g_iast (n := 12) hg rfl rfl (by omega) d_M_stem_91 ?_
              refine b_aload_n hb d_M_stem_92 rfl rfl ?_
              refine b_iconst (v := nI 0) hb d_M_stem_93 rfl ?_
              refine g_putN hg 1 fl_M_1 rfl d_M_stem_94 ?_
              refine b_aload_n hb d_M_stem_97 rfl rfl ?_
              refine b_aload_n hb d_M_stem_98 rfl rfl ?_
              refine g_getN hg 10 fl_M_10 rfl d_M_stem_99 (hN) ?_
              refine b_iconst (v := nI 1) hb d_M_stem_102 rfl ?_
              refine b_iaddN hb d_M_stem_103 ?_
              refine g_putN hg 10 fl_M_10 rfl d_M_stem_104 ?_
              refine b_aload_n hb d_M_stem_107 rfl rfl ?_
              refine g_getN hg 10 fl_M_10 rfl d_M_stem_108 (show _ = aN A + 1 from rfl) ?_
              refine b_iconst (v := nI 1) hb d_M_stem_111 rfl ?_
              refine b_isubN hb d_M_stem_112 (by omega) ?_
              have hi2 : i = (aw A).length := by omega
              subst hi2
              refine hret _ _ _ _ d_M_stem_113 rfl ⟨by rw [e]; rfl, ?_⟩
              rw [e]
              refine ⟨WA_stm hw c1 h9 (by omega) (m8_lt f), ⟨rfl, fun i hi => absurd hi (Nat.not_lt_zero i)⟩, hk, hr, rfl, ?_⟩
              intro s hs
              have hs : s < aN A + 1 := hs
              show upd (u.2 11) (aN A) (nI (m8 f)) s = nI (va_up (aG A) (aN A) (m8 f) s) ∧ upd (u.2 12) (aN A) (nI (aw A).length) s = nI (va_up (aL A) (aN A) (aw A) s).length ∧ rep p (s * 12) (va_up (aL A) (aN A) (aw A) s)
              by_cases q : s = aN A
              · subst q
                rw [pk_us, pk_us, up_s, up_s]
                exact ⟨rfl, rfl, hp⟩
              · rw [pk_un q, pk_un q, up_n q, up_n q]
                obtain ⟨a1, a2, a3⟩ := hG s (by omega)
                refine ⟨a1, a2, fun i hi => ?_⟩
                have := (hw.2.2.2.2.2 s (by omega)).2.1
                rw [ho _ (by omega)]
                exact a3 i hi
            · exact absurd c4 (by omega)
          | succ n ih =>
            intro i p hi hp ho
            refine b_iload_n hb d_M_stem_31 rfl rfl ?_
            refine b_aload_n hb d_M_stem_32 rfl rfl ?_
            refine g_getN hg 1 fl_M_1 rfl d_M_stem_33 (hn) ?_
            refine b_geN (tgt := 65) hb (by omega) (by omega) d_M_stem_36 (by decide) (fun c4 => ?_) (fun c4 => ?_)
            · exact absurd c4 (by omega)
            · refine b_aload_n hb d_M_stem_39 rfl rfl ?_
              refine g_getA hg 13 fl_M_13 (Or.inl rfl) d_M_stem_40 ?_
              refine b_aload_n hb d_M_stem_43 rfl rfl ?_
              refine g_getN hg 10 fl_M_10 rfl d_M_stem_44 (hN) ?_
              refine b_bipush (v := nI 12) hb d_M_stem_47 rfl ?_
              refine b_imulN hb d_M_stem_49 ?_
              refine b_iload_n hb d_M_stem_50 rfl rfl ?_
              refine b_iaddN hb d_M_stem_51 ?_
              refine b_aload_n hb d_M_stem_52 rfl rfl ?_
              refine g_getA hg 0 fl_M_0 (Or.inl rfl) d_M_stem_53 ?_
              refine b_iload_n hb d_M_stem_56 rfl rfl ?_
              refine g_iald (n := 12) hg rfl rfl (by omega) d_M_stem_57 (rep_0 hrw c4) ?_
              refine g_iast (n := 144) hg rfl rfl (by omega) d_M_stem_58 ?_
              rw [xa_xa]
              refine b_iincN (lv' := [(2, _), (0, _), (1, _)]) hb d_M_stem_59 rfl (by decide) rfl ?_
              refine b_goto (tgt := 31) hb d_M_stem_62 (by decide) ?_
              refine ih (i + 1) _ (by omega) (fun t ht => ?_) (fun m hm => ?_)
              · show upd p (aN A * 12 + i) _ (aN A * 12 + t) = _
                by_cases q : t = i
                · subst q; exact pk_us
                · rw [pk_un (by omega)]; exact hp t (by omega)
              · show upd p (aN A * 12 + i) _ m = _
                rw [pk_un (by omega)]; exact ho m hm
        refine b_iconst (v := nI 0) hb d_M_stem_29 rfl ?_
        refine b_istore_n (lv' := [(2, _), (0, _), (1, _)]) hb d_M_stem_30 rfl (by decide) rfl ?_
        have h0 := loop (aw A).length 0 (u.2 13) (by omega) (fun t ht => absurd ht (Nat.not_lt_zero t)) (fun m _ => rfl)
        rw [xa_id] at h0
        exact h0
      · refine b_bipush (v := -2) hb d_M_stem_26 rfl ?_
        have e : opS A f = (-2, A) := by rw [opS, if_neg no, if_pos (by omega)]
        exact hret _ _ _ _ d_M_stem_28 rfl ⟨by rw [e], by rw [e]; exact hJ0⟩
    · refine bad _ (Or.inr ?_)
      cases e9 : any9 (aw A) with
      | false => exact absurd (b2_0.mpr e9) c2
      | true => rfl
end
section
/-! derivations on the picture -/
def pB (x w : List Int32) : Prop := x.length ≤ w.length ∧ ∀ i : Nat, i < x.length → w.getD i 0 = x.getD i 0
def pE (x w : List Int32) : Prop := x.length ≤ w.length ∧ ∀ i : Nat, i < x.length → w.getD (w.length - x.length + i) 0 = x.getD i 0
def qB (x w : List Int32) : Prop := x.length ≤ w.length ∧ ∀ i : Nat, i < x.length → x.getD i 0 = 9 ∨ x.getD i 0 = w.getD i 0
def qE (x w : List Int32) : Prop := x.length ≤ w.length ∧ ∀ i : Nat, i < x.length → x.getD i 0 = 9 ∨ x.getD i 0 = w.getD (w.length - x.length + i) 0
/-- v is w with the prefix rule r undone; c is v with the suffix rule r undone -/
def UP (A : Ab) (r : Nat) (w v : List Int32) : Prop := pB (aP A r 1) w ∧ v = aP A r 0 ++ w.drop (aP A r 1).length ∧ qB (aP A r 2) v
def US (A : Ab) (r : Nat) (v c : List Int32) : Prop := pE (aP A r 1) v ∧ c = v.take (v.length - (aP A r 1).length) ++ aP A r 0 ∧ qE (aP A r 2) c
def okk (A : Ab) (s u : Nat) : Prop := u = 0 ∨ aG A s / 2 ^ (aF A (u - 1)) % 2 = 1
def inn (A : Ab) (q : Nat) (w v : List Int32) : Prop := (q = 0 ∧ v = w) ∨ (q ≠ 0 ∧ aS A (q - 1) = false ∧ UP A (q - 1) w v)
def cor (A : Ab) (q u : Nat) (v c : List Int32) : Prop := (u = 0 ∧ c = v) ∨ (u ≠ 0 ∧ aS A (u - 1) = true ∧ (q = 0 ∨ (aC A (u - 1) = true ∧ aC A (q - 1) = true)) ∧ US A (u - 1) v c)
def derP (A : Ab) (w : List Int32) (s u q : Nat) : Prop := w.length ≠ 0 ∧ s < aN A ∧ u ≤ aR A ∧ q ≤ aR A ∧ okk A s u ∧ okk A s q ∧ ∃ v : List Int32, inn A q w v ∧ cor A q u v (aL A s)
theorem rl {A : Ab} {R : Nat} {fl su cr pl pt : Nat → Int32} (hw : WA A) (h : RR A R fl su cr pl pt) {r : Nat} (hr : r < aR A) : (pl (r * 3) = nI (aP A r 0).length ∧ pl (r * 3 + 1) = nI (aP A r 1).length ∧ pl (r * 3 + 2) = nI (aP A r 2).length) ∧ ((∀ i : Nat, i < (aP A r 0).length → pt (r * 9 + i) = (aP A r 0).getD i 0) ∧ (∀ i : Nat, i < (aP A r 1).length → pt (r * 9 + 3 + i) = (aP A r 1).getD i 0) ∧ ∀ i : Nat, i < (aP A r 2).length → pt (r * 9 + 6 + i) = (aP A r 2).getD i 0) ∧ (aP A r 0).length ≤ 3 ∧ (aP A r 1).length ≤ 3 ∧ (aP A r 2).length ≤ 3 := by
  obtain ⟨-, -, -, a4⟩ := h.2 r hr
  have b := (hw.2.2.2.1 r hr).2
  exact ⟨⟨(a4 0 (by decide)).1, (a4 1 (by decide)).1, (a4 2 (by decide)).1⟩, ⟨(a4 0 (by decide)).2, (a4 1 (by decide)).2, (a4 2 (by decide)).2⟩, (b 0 (by decide)).1, (b 1 (by decide)).1, (b 2 (by decide)).1⟩
end
section
/-! AffixSpeller: undoing rules -/
theorem x_undoPrefix {g : Sg} {A : Ab} {w : List Int32} {r : Nat} (hJ : JX g A) (hW : RW (g.1 17) (g.2 16) w) (hl : w.length ≤ 12) (hr : r < aR A) : mMi 0 0 y_X_undoPrefix b_X_undoPrefix 7 .boolean [.int (nI r)] g (fun q t => fr [18, 19] g t ∧ ((q = 1 ∧ ∃ v : List Int32, UP A r w v ∧ RW (t.1 19) (t.2 18) v) ∨ (q = 0 ∧ ∀ v : List Int32, ¬ UP A r w v))) := by
  refine m_i (Nat.zero_le _) (by decide) rfl (fun _ => Nat.le_of_ble_eq_true rfl) (fun h ad K hg hret => ?_)
  have hb := hg.b
  obtain ⟨hn, hrw⟩ := hW
  have hR10 : aR A ≤ 10 := hJ.1.2.2.1
  obtain ⟨⟨l0, l1, l2⟩, ⟨p0, p1, p2⟩, s0, s1, s2⟩ := rl hJ.1 hJ.2.2.2.1 hr
  obtain ⟨v, ev⟩ : ∃ v : List Int32, v = aP A r 0 ++ w.drop (aP A r 1).length := ⟨_, rfl⟩
  have hvl : v.length = (aP A r 0).length + (w.length - (aP A r 1).length) := by rw [ev, List.length_append, List.length_drop]
  have zero : ∀ (t : Sg) (lv : List (Nat × Value)) (pc : Nat), fr [18, 19] g t → (∀ v : List Int32, ¬ UP A r w v) → decode b_X_undoPrefix pc = .ok (.ireturn, 1) → K t pc lv [.int (nI 0)] := fun t lv pc ft hno hd => hret _ _ _ _ hd rfl ⟨ft, Or.inr ⟨rfl, hno⟩⟩
  have loop4 : ∀ (t : Sg), fr [18, 19] g t → RW (t.1 19) (t.2 18) v → pB (aP A r 1) w → (aP A r 2).length ≤ v.length → ∀ n i : Nat, i + n = (aP A r 2).length → (∀ j : Nat, j < i → (aP A r 2).getD j 0 = 9 ∨ (aP A r 2).getD j 0 = v.getD j 0) → K t 179 [(5, .int (nI i)), (4, .int (nI (aP A r 2).length)), (3, .int (nI (aP A r 0).length)), (2, .int (nI (aP A r 1).length)), (0, .ref h), (1, .int (nI r))] [] := by
    intro t ft hv hp hc n
    induction n with
    | zero =>
      intro i hi hj
      refine b_iload hb d_X_undoPrefix_179 rfl ?_
      refine b_iload hb d_X_undoPrefix_181 rfl ?_
      refine b_geN (tgt := 230) hb (by omega) (by omega) d_X_undoPrefix_183 (by decide) (fun c1 => ?_) (fun c1 => ?_)
      · refine b_iconst (v := nI 1) hb d_X_undoPrefix_230 rfl ?_
        exact hret _ _ _ _ d_X_undoPrefix_231 rfl ⟨ft, Or.inl ⟨rfl, v, ⟨hp, ev, hc, fun j hj2 => hj j (by omega)⟩, hv⟩⟩
      · exact absurd c1 (by omega)
    | succ n ih =>
      intro i hi hj
      have next : ((aP A r 2).getD i 0 = 9 ∨ (aP A r 2).getD i 0 = v.getD i 0) → K t 224 [(6, .int ((aP A r 2).getD i 0)), (5, .int (nI i)), (4, .int (nI (aP A r 2).length)), (3, .int (nI (aP A r 0).length)), (2, .int (nI (aP A r 1).length)), (0, .ref h), (1, .int (nI r))] [] := by
        intro hq
        refine b_iincN (lv' := [(5, _), (6, _), (4, _), (3, _), (2, _), (0, _), (1, _)]) hb d_X_undoPrefix_224 rfl (by decide) rfl ?_
        refine b_goto (tgt := 179) hb d_X_undoPrefix_227 (by decide) ?_
        refine b_sub hb [0, 2, 3, 4, 5, 6] rfl ?_
        exact ih (i + 1) (by omega) (fun j hj2 => by
          rcases Nat.lt_or_ge j i with q | q
          · exact hj j q
          · have : j = i := by omega
            subst this; exact hq)
      refine b_iload hb d_X_undoPrefix_179 rfl ?_
      refine b_iload hb d_X_undoPrefix_181 rfl ?_
      refine b_geN (tgt := 230) hb (by omega) (by omega) d_X_undoPrefix_183 (by decide) (fun c1 => ?_) (fun c1 => ?_)
      · exact absurd c1 (by omega)
      · refine b_aload_n hb d_X_undoPrefix_186 rfl rfl ?_
        refine g_getA hg 9 fl_X_9 (Or.inl rfl) d_X_undoPrefix_187 ?_
        refine b_iload_n hb d_X_undoPrefix_190 rfl rfl ?_
        refine b_bipush (v := nI 9) hb d_X_undoPrefix_191 rfl ?_
        refine b_imulN hb d_X_undoPrefix_193 ?_
        refine b_bipush (v := nI 6) hb d_X_undoPrefix_194 rfl ?_
        refine b_iaddN hb d_X_undoPrefix_196 ?_
        refine b_iload hb d_X_undoPrefix_197 rfl ?_
        refine b_iaddN hb d_X_undoPrefix_199 ?_
        refine g_iald (n := 90) hg rfl rfl (by omega) d_X_undoPrefix_200 ((show t.2 9 (r * 9 + 6 + i) = (aP A r 2).getD i 0 by rw [(ft 9 (by decide)).2]; exact p2 i c1)) ?_
        refine b_istore (lv' := [(6, _), (5, _), (4, _), (3, _), (2, _), (0, _), (1, _)]) hb d_X_undoPrefix_201 (by decide) rfl ?_
        refine b_iload hb d_X_undoPrefix_203 rfl ?_
        refine b_bipush (v := 9) hb d_X_undoPrefix_205 rfl ?_
        refine b_icmp_eq (tgt := 224) hb d_X_undoPrefix_207 (by decide) (fun c2 => ?_) (fun c2 => ?_)
        · exact next (Or.inl c2)
        · refine b_iload hb d_X_undoPrefix_210 rfl ?_
          refine b_aload_n hb d_X_undoPrefix_212 rfl rfl ?_
          refine g_getA hg 18 fl_X_18 (Or.inl rfl) d_X_undoPrefix_213 ?_
          refine b_iload hb d_X_undoPrefix_216 rfl ?_
          refine g_iald (n := 16) hg rfl rfl (by omega) d_X_undoPrefix_218 (rep_0 hv.2 (by omega)) ?_
          refine b_icmp_eq (tgt := 224) hb d_X_undoPrefix_219 (by decide) (fun c3 => ?_) (fun c3 => ?_)
          · exact next (Or.inr c3)
          · refine b_iconst (v := nI 0) hb d_X_undoPrefix_222 rfl ?_
            exact zero t _ _ ft (fun v2 hv2 => by
              have e2 : v2 = v := hv2.2.1.trans ev.symm
              subst e2
              rcases hv2.2.2.2 i c1 with q | q
              · exact c2 q
              · exact c3 q) d_X_undoPrefix_223
  have loop3 : pB (aP A r 1) w → ∀ (n i : Nat) (t : Sg), i + n = w.length → (aP A r 1).length ≤ i → fr [18, 19] g t → (∀ j : Nat, j < (aP A r 0).length → t.2 18 j = (aP A r 0).getD j 0) → (∀ j : Nat, (aP A r 1).length ≤ j → j < i → t.2 18 ((aP A r 0).length + j - (aP A r 1).length) = w.getD j 0) → K t 108 [(4, .int (nI i)), (3, .int (nI (aP A r 0).length)), (2, .int (nI (aP A r 1).length)), (0, .ref h), (1, .int (nI r))] [] := by
    intro hp n
    induction n with
    | zero =>
      intro i t hi hai ft h1 h2
      refine b_iload hb d_X_undoPrefix_108 rfl ?_
      refine b_aload_n hb d_X_undoPrefix_110 rfl rfl ?_
      refine g_getN hg 17 fl_X_17 rfl d_X_undoPrefix_111 (show _ = w.length from (ft 17 (by decide)).1.trans hn) ?_
      refine b_geN (tgt := 141) hb (by omega) (by omega) d_X_undoPrefix_114 (by decide) (fun c1 => ?_) (fun c1 => ?_)
      · refine b_aload_n hb d_X_undoPrefix_141 rfl rfl ?_
        refine b_iload_n hb d_X_undoPrefix_142 rfl rfl ?_
        refine b_aload_n hb d_X_undoPrefix_143 rfl rfl ?_
        refine g_getN hg 17 fl_X_17 rfl d_X_undoPrefix_144 (show _ = w.length from (ft 17 (by decide)).1.trans hn) ?_
        refine b_iaddN hb d_X_undoPrefix_147 ?_
        refine b_iload_n hb d_X_undoPrefix_148 rfl rfl ?_
        refine b_isubN hb d_X_undoPrefix_149 (by omega) ?_
        refine g_putN hg 19 fl_X_19 rfl d_X_undoPrefix_150 ?_
        refine b_aload_n hb d_X_undoPrefix_153 rfl rfl ?_
        refine g_getA hg 8 fl_X_8 (Or.inl rfl) d_X_undoPrefix_154 ?_
        refine b_iload_n hb d_X_undoPrefix_157 rfl rfl ?_
        refine b_iconst (v := nI 3) hb d_X_undoPrefix_158 rfl ?_
        refine b_imulN hb d_X_undoPrefix_159 ?_
        refine b_iconst (v := nI 2) hb d_X_undoPrefix_160 rfl ?_
        refine b_iaddN hb d_X_undoPrefix_161 ?_
        refine g_iald (n := 30) hg rfl rfl (by omega) d_X_undoPrefix_162 ((show t.2 8 (r * 3 + 2) = nI (aP A r 2).length by rw [(ft 8 (by decide)).2]; exact l2)) ?_
        refine b_istore (lv' := [(4, _), (3, _), (2, _), (0, _), (1, _)]) hb d_X_undoPrefix_163 (by decide) rfl ?_
        refine b_aload_n hb d_X_undoPrefix_165 rfl rfl ?_
        refine g_getN hg 19 fl_X_19 rfl d_X_undoPrefix_166 (show _ = (aP A r 0).length + w.length - (aP A r 1).length from rfl) ?_
        refine b_iload hb d_X_undoPrefix_169 rfl ?_
        have hpl := hp.1
        have hv : RW ((aP A r 0).length + w.length - (aP A r 1).length) (t.2 18) v := by
          refine ⟨by rw [hvl]; omega, fun j hj => ?_⟩
          rw [Nat.zero_add, ev, gd_app]
          by_cases q : j < (aP A r 0).length
          · rw [if_pos q]; exact h1 j q
          · rw [if_neg q, gd_drop]
            exact (congrArg (t.2 18) (by omega)).trans (h2 ((aP A r 1).length + (j - (aP A r 0).length)) (by omega) (by omega))
        have ft2 : fr [18, 19] g (xi t 19 ((aP A r 0).length + w.length - (aP A r 1).length)) := fr_xi ft (by decide)
        refine b_geN (tgt := 176) hb (by omega) (by omega) d_X_undoPrefix_171 (by decide) (fun c2 => ?_) (fun c2 => ?_)
        · refine b_iconst (v := nI 0) hb d_X_undoPrefix_176 rfl ?_
          refine b_istore (lv' := [(5, _), (4, _), (3, _), (2, _), (0, _), (1, _)]) hb d_X_undoPrefix_177 (by decide) rfl ?_
          exact loop4 _ ft2 hv hp (by rw [← hv.1]; exact c2) (aP A r 2).length 0 (by omega) (fun j hj => absurd hj (Nat.not_lt_zero j))
        · refine b_iconst (v := nI 0) hb d_X_undoPrefix_174 rfl ?_
          exact zero _ _ _ ft2 (fun v2 hv2 => by
            have e2 : v2 = v := hv2.2.1.trans ev.symm
            subst e2
            have := hv2.2.2.1
            rw [← hv.1] at this
            omega) d_X_undoPrefix_175
      · exact absurd c1 (by omega)
    | succ n ih =>
      intro i t hi hai ft h1 h2
      refine b_iload hb d_X_undoPrefix_108 rfl ?_
      refine b_aload_n hb d_X_undoPrefix_110 rfl rfl ?_
      refine g_getN hg 17 fl_X_17 rfl d_X_undoPrefix_111 (show _ = w.length from (ft 17 (by decide)).1.trans hn) ?_
      refine b_geN (tgt := 141) hb (by omega) (by omega) d_X_undoPrefix_114 (by decide) (fun c1 => ?_) (fun c1 => ?_)
      · exact absurd c1 (by omega)
      · refine b_aload_n hb d_X_undoPrefix_117 rfl rfl ?_
        refine g_getA hg 18 fl_X_18 (Or.inl rfl) d_X_undoPrefix_118 ?_
        refine b_iload_n hb d_X_undoPrefix_121 rfl rfl ?_
        refine b_iload hb d_X_undoPrefix_122 rfl ?_
        refine b_iaddN hb d_X_undoPrefix_124 ?_
        refine b_iload_n hb d_X_undoPrefix_125 rfl rfl ?_
        refine b_isubN hb d_X_undoPrefix_126 (by omega) ?_
        refine b_aload_n hb d_X_undoPrefix_127 rfl rfl ?_
        refine g_getA hg 16 fl_X_16 (Or.inl rfl) d_X_undoPrefix_128 ?_
        refine b_iload hb d_X_undoPrefix_131 rfl ?_
        refine g_iald (n := 13) hg rfl rfl (by omega) d_X_undoPrefix_133 ((show t.2 16 i = w.getD i 0 by rw [(ft 16 (by decide)).2]; exact rep_0 hrw c1)) ?_
        refine g_iast (n := 16) hg rfl rfl (by omega) d_X_undoPrefix_134 ?_
        refine b_iincN (lv' := [(4, _), (3, _), (2, _), (0, _), (1, _)]) hb d_X_undoPrefix_135 rfl (by decide) rfl ?_
        refine b_goto (tgt := 108) hb d_X_undoPrefix_138 (by decide) ?_
        refine ih (i + 1) _ (by omega) (by omega) (fr_xa ft (by decide)) (fun j hj => ?_) (fun j hj1 hj2 => ?_)
        · show upd (t.2 18) _ _ j = _
          rw [pk_un (by omega)]; exact h1 j hj
        · show upd (t.2 18) _ _ _ = _
          by_cases q : j = i
          · subst q; exact pk_us
          · rw [pk_un (by omega)]; exact h2 j hj1 (by omega)
  have loop2 : pB (aP A r 1) w → ∀ (n i : Nat) (t : Sg), i + n = (aP A r 0).length → fr [18, 19] g t → (∀ j : Nat, j < i → t.2 18 j = (aP A r 0).getD j 0) → K t 74 [(4, .int (nI i)), (3, .int (nI (aP A r 0).length)), (2, .int (nI (aP A r 1).length)), (0, .ref h), (1, .int (nI r))] [] := by
    intro hp n
    induction n with
    | zero =>
      intro i t hi ft h1
      refine b_iload hb d_X_undoPrefix_74 rfl ?_
      refine b_iload_n hb d_X_undoPrefix_76 rfl rfl ?_
      refine b_geN (tgt := 105) hb (by omega) (by omega) d_X_undoPrefix_77 (by decide) (fun c1 => ?_) (fun c1 => ?_)
      · refine b_iload_n hb d_X_undoPrefix_105 rfl rfl ?_
        refine b_istore (lv' := [(4, _), (3, _), (2, _), (0, _), (1, _)]) hb d_X_undoPrefix_106 (by decide) rfl ?_
        have hpl := hp.1
        exact loop3 hp (w.length - (aP A r 1).length) (aP A r 1).length t (by omega) (Nat.le_refl _) ft (fun j hj => h1 j (by omega)) (fun j hj1 hj2 => absurd hj1 (by omega))
      · exact absurd c1 (by omega)
    | succ n ih =>
      intro i t hi ft h1
      refine b_iload hb d_X_undoPrefix_74 rfl ?_
      refine b_iload_n hb d_X_undoPrefix_76 rfl rfl ?_
      refine b_geN (tgt := 105) hb (by omega) (by omega) d_X_undoPrefix_77 (by decide) (fun c1 => ?_) (fun c1 => ?_)
      · exact absurd c1 (by omega)
      · refine b_aload_n hb d_X_undoPrefix_80 rfl rfl ?_
        refine g_getA hg 18 fl_X_18 (Or.inl rfl) d_X_undoPrefix_81 ?_
        refine b_iload hb d_X_undoPrefix_84 rfl ?_
        refine b_aload_n hb d_X_undoPrefix_86 rfl rfl ?_
        refine g_getA hg 9 fl_X_9 (Or.inl rfl) d_X_undoPrefix_87 ?_
        refine b_iload_n hb d_X_undoPrefix_90 rfl rfl ?_
        refine b_bipush (v := nI 9) hb d_X_undoPrefix_91 rfl ?_
        refine b_imulN hb d_X_undoPrefix_93 ?_
        refine b_iload hb d_X_undoPrefix_94 rfl ?_
        refine b_iaddN hb d_X_undoPrefix_96 ?_
        refine g_iald (n := 90) hg rfl rfl (by omega) d_X_undoPrefix_97 ((show t.2 9 (r * 9 + i) = (aP A r 0).getD i 0 by rw [(ft 9 (by decide)).2]; exact p0 i c1)) ?_
        refine g_iast (n := 16) hg rfl rfl (by omega) d_X_undoPrefix_98 ?_
        refine b_iincN (lv' := [(4, _), (3, _), (2, _), (0, _), (1, _)]) hb d_X_undoPrefix_99 rfl (by decide) rfl ?_
        refine b_goto (tgt := 74) hb d_X_undoPrefix_102 (by decide) ?_
        refine ih (i + 1) _ (by omega) (fr_xa ft (by decide)) (fun j hj => ?_)
        show upd (t.2 18) _ _ j = _
        by_cases q : j = i
        · subst q; exact pk_us
        · rw [pk_un q]; exact h1 j (by omega)
  have loop1 : (aP A r 1).length ≤ w.length → ∀ n i : Nat, i + n = (aP A r 1).length → (∀ j : Nat, j < i → w.getD j 0 = (aP A r 1).getD j 0) → K g 33 [(4, .int (nI i)), (3, .int (nI (aP A r 0).length)), (2, .int (nI (aP A r 1).length)), (0, .ref h), (1, .int (nI r))] [] := by
    intro hpl n
    induction n with
    | zero =>
      intro i hi h1
      refine b_iload hb d_X_undoPrefix_33 rfl ?_
      refine b_iload_n hb d_X_undoPrefix_35 rfl rfl ?_
      refine b_geN (tgt := 71) hb (by omega) (by omega) d_X_undoPrefix_36 (by decide) (fun c1 => ?_) (fun c1 => ?_)
      · refine b_iconst (v := nI 0) hb d_X_undoPrefix_71 rfl ?_
        refine b_istore (lv' := [(4, _), (3, _), (2, _), (0, _), (1, _)]) hb d_X_undoPrefix_72 (by decide) rfl ?_
        exact loop2 ⟨hpl, fun j hj => h1 j (by omega)⟩ (aP A r 0).length 0 g (by omega) fr_rf (fun j hj => absurd hj (Nat.not_lt_zero j))
      · exact absurd c1 (by omega)
    | succ n ih =>
      intro i hi h1
      refine b_iload hb d_X_undoPrefix_33 rfl ?_
      refine b_iload_n hb d_X_undoPrefix_35 rfl rfl ?_
      refine b_geN (tgt := 71) hb (by omega) (by omega) d_X_undoPrefix_36 (by decide) (fun c1 => ?_) (fun c1 => ?_)
      · exact absurd c1 (by omega)
      · refine b_aload_n hb d_X_undoPrefix_39 rfl rfl ?_
        refine g_getA hg 16 fl_X_16 (Or.inl rfl) d_X_undoPrefix_40 ?_
        refine b_iload hb d_X_undoPrefix_43 rfl ?_
        refine g_iald (n := 13) hg rfl rfl (by omega) d_X_undoPrefix_45 (rep_0 hrw (by omega)) ?_
        refine b_aload_n hb d_X_undoPrefix_46 rfl rfl ?_
        refine g_getA hg 9 fl_X_9 (Or.inl rfl) d_X_undoPrefix_47 ?_
        refine b_iload_n hb d_X_undoPrefix_50 rfl rfl ?_
        refine b_bipush (v := nI 9) hb d_X_undoPrefix_51 rfl ?_
        refine b_imulN hb d_X_undoPrefix_53 ?_
        refine b_iconst (v := nI 3) hb d_X_undoPrefix_54 rfl ?_
        refine b_iaddN hb d_X_undoPrefix_55 ?_
        refine b_iload hb d_X_undoPrefix_56 rfl ?_
        refine b_iaddN hb d_X_undoPrefix_58 ?_
        refine g_iald (n := 90) hg rfl rfl (by omega) d_X_undoPrefix_59 (p1 i c1) ?_
        refine b_icmp_eq (tgt := 65) hb d_X_undoPrefix_60 (by decide) (fun c2 => ?_) (fun c2 => ?_)
        · refine b_iincN (lv' := [(4, _), (3, _), (2, _), (0, _), (1, _)]) hb d_X_undoPrefix_65 rfl (by decide) rfl ?_
          refine b_goto (tgt := 33) hb d_X_undoPrefix_68 (by decide) ?_
          exact ih (i + 1) (by omega) (fun j hj => by
            rcases Nat.lt_or_ge j i with q | q
            · exact h1 j q
            · have : j = i := by omega
              subst this; exact c2)
        · refine b_iconst (v := nI 0) hb d_X_undoPrefix_63 rfl ?_
          exact zero g _ _ fr_rf (fun v2 hv2 => c2 (hv2.1.2 i c1)) d_X_undoPrefix_64
  show K g 0 [(0, .ref h), (1, .int (nI r))] []
  refine b_aload_n hb d_X_undoPrefix_0 rfl rfl ?_
  refine g_getA hg 8 fl_X_8 (Or.inl rfl) d_X_undoPrefix_1 ?_
  refine b_iload_n hb d_X_undoPrefix_4 rfl rfl ?_
  refine b_iconst (v := nI 3) hb d_X_undoPrefix_5 rfl ?_
  refine b_imulN hb d_X_undoPrefix_6 ?_
  refine b_iconst (v := nI 1) hb d_X_undoPrefix_7 rfl ?_
  refine b_iaddN hb d_X_undoPrefix_8 ?_
  refine g_iald (n := 30) hg rfl rfl (by omega) d_X_undoPrefix_9 (l1) ?_
  refine b_istore_n (lv' := [(2, _), (0, _), (1, _)]) hb d_X_undoPrefix_10 rfl (by decide) rfl ?_
  refine b_aload_n hb d_X_undoPrefix_11 rfl rfl ?_
  refine g_getA hg 8 fl_X_8 (Or.inl rfl) d_X_undoPrefix_12 ?_
  refine b_iload_n hb d_X_undoPrefix_15 rfl rfl ?_
  refine b_iconst (v := nI 3) hb d_X_undoPrefix_16 rfl ?_
  refine b_imulN hb d_X_undoPrefix_17 ?_
  refine g_iald (n := 30) hg rfl rfl (by omega) d_X_undoPrefix_18 (l0) ?_
  refine b_istore_n (lv' := [(3, _), (2, _), (0, _), (1, _)]) hb d_X_undoPrefix_19 rfl (by decide) rfl ?_
  refine b_aload_n hb d_X_undoPrefix_20 rfl rfl ?_
  refine g_getN hg 17 fl_X_17 rfl d_X_undoPrefix_21 (hn) ?_
  refine b_iload_n hb d_X_undoPrefix_24 rfl rfl ?_
  refine b_geN (tgt := 30) hb (by omega) (by omega) d_X_undoPrefix_25 (by decide) (fun c1 => ?_) (fun c1 => ?_)
  · refine b_iconst (v := nI 0) hb d_X_undoPrefix_30 rfl ?_
    refine b_istore (lv' := [(4, _), (3, _), (2, _), (0, _), (1, _)]) hb d_X_undoPrefix_31 (by decide) rfl ?_
    exact loop1 c1 (aP A r 1).length 0 (by omega) (fun j hj => absurd hj (Nat.not_lt_zero j))
  · refine b_iconst (v := nI 0) hb d_X_undoPrefix_28 rfl ?_
    exact zero g _ _ fr_rf (fun v2 hv2 => absurd hv2.1.1 (by omega)) d_X_undoPrefix_29
theorem x_undoSuffix {g : Sg} {A : Ab} {w : List Int32} {r : Nat} (hJ : JX g A) (hW : RW (g.1 19) (g.2 18) w) (hl : w.length ≤ 15) (hr : r < aR A) : mMi 0 0 y_X_undoSuffix b_X_undoSuffix 8 .boolean [.int (nI r)] g (fun q t => fr [20, 21] g t ∧ ((q = 1 ∧ ∃ v : List Int32, US A r w v ∧ RW (t.1 21) (t.2 20) v) ∨ (q = 0 ∧ ∀ v : List Int32, ¬ US A r w v))) := by
  refine m_i (Nat.zero_le _) (by decide) rfl (fun _ => Nat.le_of_ble_eq_true rfl) (fun h ad K hg hret => ?_)
  have hb := hg.b
  obtain ⟨hn, hrw⟩ := hW
  have hR10 : aR A ≤ 10 := hJ.1.2.2.1
  obtain ⟨⟨l0, l1, l2⟩, ⟨p0, p1, p2⟩, s0, s1, s2⟩ := rl hJ.1 hJ.2.2.2.1 hr
  obtain ⟨v, ev⟩ : ∃ v : List Int32, v = w.take (w.length - (aP A r 1).length) ++ aP A r 0 := ⟨_, rfl⟩
  have hvl : v.length = (w.length - (aP A r 1).length) + (aP A r 0).length := by rw [ev, List.length_append, List.length_take]; omega
  have zero : ∀ (t : Sg) (lv : List (Nat × Value)) (pc : Nat), fr [20, 21] g t → (∀ v : List Int32, ¬ US A r w v) → decode b_X_undoSuffix pc = .ok (.ireturn, 1) → K t pc lv [.int (nI 0)] := fun t lv pc ft hno hd => hret _ _ _ _ hd rfl ⟨ft, Or.inr ⟨rfl, hno⟩⟩
  have loop4 : ∀ (t : Sg), fr [20, 21] g t → RW (t.1 21) (t.2 20) v → pE (aP A r 1) w → (aP A r 2).length ≤ v.length → ∀ n i : Nat, i + n = (aP A r 2).length → (∀ j : Nat, j < i → (aP A r 2).getD j 0 = 9 ∨ (aP A r 2).getD j 0 = v.getD (v.length - (aP A r 2).length + j) 0) → K t 180 [(6, .int (nI i)), (5, .int (nI (aP A r 2).length)), (4, .int (nI (w.length - (aP A r 1).length))), (3, .int (nI (aP A r 0).length)), (2, .int (nI (aP A r 1).length)), (0, .ref h), (1, .int (nI r))] [] := by
    intro t ft hv hp hc n
    induction n with
    | zero =>
      intro i hi hj
      refine b_iload hb d_X_undoSuffix_180 rfl ?_
      refine b_iload hb d_X_undoSuffix_182 rfl ?_
      refine b_geN (tgt := 239) hb (by omega) (by omega) d_X_undoSuffix_184 (by decide) (fun c1 => ?_) (fun c1 => ?_)
      · refine b_iconst (v := nI 1) hb d_X_undoSuffix_239 rfl ?_
        exact hret _ _ _ _ d_X_undoSuffix_240 rfl ⟨ft, Or.inl ⟨rfl, v, ⟨hp, ev, hc, fun j hj2 => hj j (by omega)⟩, hv⟩⟩
      · exact absurd c1 (by omega)
    | succ n ih =>
      intro i hi hj
      have next : ((aP A r 2).getD i 0 = 9 ∨ (aP A r 2).getD i 0 = v.getD (v.length - (aP A r 2).length + i) 0) → K t 233 [(7, .int ((aP A r 2).getD i 0)), (6, .int (nI i)), (5, .int (nI (aP A r 2).length)), (4, .int (nI (w.length - (aP A r 1).length))), (3, .int (nI (aP A r 0).length)), (2, .int (nI (aP A r 1).length)), (0, .ref h), (1, .int (nI r))] [] := by
        intro hq
        refine b_iincN (lv' := [(6, _), (7, _), (5, _), (4, _), (3, _), (2, _), (0, _), (1, _)]) hb d_X_undoSuffix_233 rfl (by decide) rfl ?_
        refine b_goto (tgt := 180) hb d_X_undoSuffix_236 (by decide) ?_
        refine b_sub hb [0, 2, 3, 4, 5, 6, 7] rfl ?_
        exact ih (i + 1) (by omega) (fun j hj2 => by
          rcases Nat.lt_or_ge j i with q | q
          · exact hj j q
          · have : j = i := by omega
            subst this; exact hq)
      refine b_iload hb d_X_undoSuffix_180 rfl ?_
      refine b_iload hb d_X_undoSuffix_182 rfl ?_
      refine b_geN (tgt := 239) hb (by omega) (by omega) d_X_undoSuffix_184 (by decide) (fun c1 => ?_) (fun c1 => ?_)
      · exact absurd c1 (by omega)
      · refine b_aload_n hb d_X_undoSuffix_187 rfl rfl ?_
        refine g_getA hg 9 fl_X_9 (Or.inl rfl) d_X_undoSuffix_188 ?_
        refine b_iload_n hb d_X_undoSuffix_191 rfl rfl ?_
        refine b_bipush (v := nI 9) hb d_X_undoSuffix_192 rfl ?_
        refine b_imulN hb d_X_undoSuffix_194 ?_
        refine b_bipush (v := nI 6) hb d_X_undoSuffix_195 rfl ?_
        refine b_iaddN hb d_X_undoSuffix_197 ?_
        refine b_iload hb d_X_undoSuffix_198 rfl ?_
        refine b_iaddN hb d_X_undoSuffix_200 ?_
        refine g_iald (n := 90) hg rfl rfl (by omega) d_X_undoSuffix_201 ((show t.2 9 (r * 9 + 6 + i) = (aP A r 2).getD i 0 by rw [(ft 9 (by decide)).2]; exact p2 i c1)) ?_
        refine b_istore (lv' := [(7, _), (6, _), (5, _), (4, _), (3, _), (2, _), (0, _), (1, _)]) hb d_X_undoSuffix_202 (by decide) rfl ?_
        refine b_iload hb d_X_undoSuffix_204 rfl ?_
        refine b_bipush (v := 9) hb d_X_undoSuffix_206 rfl ?_
        refine b_icmp_eq (tgt := 233) hb d_X_undoSuffix_208 (by decide) (fun c2 => ?_) (fun c2 => ?_)
        · exact next (Or.inl c2)
        · refine b_iload hb d_X_undoSuffix_211 rfl ?_
          refine b_aload_n hb d_X_undoSuffix_213 rfl rfl ?_
          refine g_getA hg 20 fl_X_20 (Or.inl rfl) d_X_undoSuffix_214 ?_
          refine b_aload_n hb d_X_undoSuffix_217 rfl rfl ?_
          refine g_getN hg 21 fl_X_21 rfl d_X_undoSuffix_218 (hv.1) ?_
          refine b_iload hb d_X_undoSuffix_221 rfl ?_
          refine b_isubN hb d_X_undoSuffix_223 (by omega) ?_
          refine b_iload hb d_X_undoSuffix_224 rfl ?_
          refine b_iaddN hb d_X_undoSuffix_226 ?_
          refine g_iald (n := 20) hg rfl rfl (by omega) d_X_undoSuffix_227 (rep_0 hv.2 (by omega)) ?_
          refine b_icmp_eq (tgt := 233) hb d_X_undoSuffix_228 (by decide) (fun c3 => ?_) (fun c3 => ?_)
          · exact next (Or.inr c3)
          · refine b_iconst (v := nI 0) hb d_X_undoSuffix_231 rfl ?_
            exact zero t _ _ ft (fun v2 hv2 => by
              have e2 : v2 = v := hv2.2.1.trans ev.symm
              subst e2
              rcases hv2.2.2.2 i c1 with q | q
              · exact c2 q
              · exact c3 q) d_X_undoSuffix_232
  have loop3 : pE (aP A r 1) w → ∀ (n i : Nat) (t : Sg), i + n = (aP A r 0).length → fr [20, 21] g t → (∀ j : Nat, j < w.length - (aP A r 1).length → t.2 20 j = w.getD j 0) → (∀ j : Nat, j < i → t.2 20 (w.length - (aP A r 1).length + j) = (aP A r 0).getD j 0) → K t 112 [(5, .int (nI i)), (4, .int (nI (w.length - (aP A r 1).length))), (3, .int (nI (aP A r 0).length)), (2, .int (nI (aP A r 1).length)), (0, .ref h), (1, .int (nI r))] [] := by
    intro hp n
    induction n with
    | zero =>
      intro i t hi ft h1 h2
      refine b_iload hb d_X_undoSuffix_112 rfl ?_
      refine b_iload_n hb d_X_undoSuffix_114 rfl rfl ?_
      refine b_geN (tgt := 146) hb (by omega) (by omega) d_X_undoSuffix_115 (by decide) (fun c1 => ?_) (fun c1 => ?_)
      · refine b_aload_n hb d_X_undoSuffix_146 rfl rfl ?_
        refine b_iload hb d_X_undoSuffix_147 rfl ?_
        refine b_iload_n hb d_X_undoSuffix_149 rfl rfl ?_
        refine b_iaddN hb d_X_undoSuffix_150 ?_
        refine g_putN hg 21 fl_X_21 rfl d_X_undoSuffix_151 ?_
        refine b_aload_n hb d_X_undoSuffix_154 rfl rfl ?_
        refine g_getA hg 8 fl_X_8 (Or.inl rfl) d_X_undoSuffix_155 ?_
        refine b_iload_n hb d_X_undoSuffix_158 rfl rfl ?_
        refine b_iconst (v := nI 3) hb d_X_undoSuffix_159 rfl ?_
        refine b_imulN hb d_X_undoSuffix_160 ?_
        refine b_iconst (v := nI 2) hb d_X_undoSuffix_161 rfl ?_
        refine b_iaddN hb d_X_undoSuffix_162 ?_
        refine g_iald (n := 30) hg rfl rfl (by omega) d_X_undoSuffix_163 ((show t.2 8 (r * 3 + 2) = nI (aP A r 2).length by rw [(ft 8 (by decide)).2]; exact l2)) ?_
        refine b_istore (lv' := [(5, _), (4, _), (3, _), (2, _), (0, _), (1, _)]) hb d_X_undoSuffix_164 (by decide) rfl ?_
        refine b_aload_n hb d_X_undoSuffix_166 rfl rfl ?_
        refine g_getN hg 21 fl_X_21 rfl d_X_undoSuffix_167 (show _ = w.length - (aP A r 1).length + (aP A r 0).length from rfl) ?_
        refine b_iload hb d_X_undoSuffix_170 rfl ?_
        have hpl := hp.1
        have hv : RW (w.length - (aP A r 1).length + (aP A r 0).length) (t.2 20) v := by
          refine ⟨by rw [hvl], fun j hj => ?_⟩
          rw [Nat.zero_add, ev, gd_app, List.length_take]
          have em : min (w.length - (aP A r 1).length) w.length = w.length - (aP A r 1).length := by omega
          rw [em]
          by_cases q : j < w.length - (aP A r 1).length
          · rw [if_pos q, gd_take q]; exact h1 j q
          · rw [if_neg q]
            exact (congrArg (t.2 20) (by omega)).trans (h2 (j - (w.length - (aP A r 1).length)) (by omega))
        have ft2 : fr [20, 21] g (xi t 21 (w.length - (aP A r 1).length + (aP A r 0).length)) := fr_xi ft (by decide)
        refine b_geN (tgt := 177) hb (by omega) (by omega) d_X_undoSuffix_172 (by decide) (fun c2 => ?_) (fun c2 => ?_)
        · refine b_iconst (v := nI 0) hb d_X_undoSuffix_177 rfl ?_
          refine b_istore (lv' := [(6, _), (5, _), (4, _), (3, _), (2, _), (0, _), (1, _)]) hb d_X_undoSuffix_178 (by decide) rfl ?_
          exact loop4 _ ft2 hv hp (by rw [← hv.1]; exact c2) (aP A r 2).length 0 (by omega) (fun j hj => absurd hj (Nat.not_lt_zero j))
        · refine b_iconst (v := nI 0) hb d_X_undoSuffix_175 rfl ?_
          exact zero _ _ _ ft2 (fun v2 hv2 => by
            have e2 : v2 = v := hv2.2.1.trans ev.symm
            subst e2
            have := hv2.2.2.1
            rw [← hv.1] at this
            omega) d_X_undoSuffix_176
      · exact absurd c1 (by omega)
    | succ n ih =>
      intro i t hi ft h1 h2
      refine b_iload hb d_X_undoSuffix_112 rfl ?_
      refine b_iload_n hb d_X_undoSuffix_114 rfl rfl ?_
      refine b_geN (tgt := 146) hb (by omega) (by omega) d_X_undoSuffix_115 (by decide) (fun c1 => ?_) (fun c1 => ?_)
      · exact absurd c1 (by omega)
      · refine b_aload_n hb d_X_undoSuffix_118 rfl rfl ?_
        refine g_getA hg 20 fl_X_20 (Or.inl rfl) d_X_undoSuffix_119 ?_
        refine b_iload hb d_X_undoSuffix_122 rfl ?_
        refine b_iload hb d_X_undoSuffix_124 rfl ?_
        refine b_iaddN hb d_X_undoSuffix_126 ?_
        refine b_aload_n hb d_X_undoSuffix_127 rfl rfl ?_
        refine g_getA hg 9 fl_X_9 (Or.inl rfl) d_X_undoSuffix_128 ?_
        refine b_iload_n hb d_X_undoSuffix_131 rfl rfl ?_
        refine b_bipush (v := nI 9) hb d_X_undoSuffix_132 rfl ?_
        refine b_imulN hb d_X_undoSuffix_134 ?_
        refine b_iload hb d_X_undoSuffix_135 rfl ?_
        refine b_iaddN hb d_X_undoSuffix_137 ?_
        refine g_iald (n := 90) hg rfl rfl (by omega) d_X_undoSuffix_138 ((show t.2 9 (r * 9 + i) = (aP A r 0).getD i 0 by rw [(ft 9 (by decide)).2]; exact p0 i c1)) ?_
        refine g_iast (n := 20) hg rfl rfl (by omega) d_X_undoSuffix_139 ?_
        refine b_iincN (lv' := [(5, _), (4, _), (3, _), (2, _), (0, _), (1, _)]) hb d_X_undoSuffix_140 rfl (by decide) rfl ?_
        refine b_goto (tgt := 112) hb d_X_undoSuffix_143 (by decide) ?_
        refine ih (i + 1) _ (by omega) (fr_xa ft (by decide)) (fun j hj => ?_) (fun j hj2 => ?_)
        · show upd (t.2 20) _ _ j = _
          rw [pk_un (by omega)]; exact h1 j hj
        · show upd (t.2 20) _ _ _ = _
          by_cases q : j = i
          · subst q; exact pk_us
          · rw [pk_un (by omega)]; exact h2 j (by omega)
  have loop2 : pE (aP A r 1) w → ∀ (n i : Nat) (t : Sg), i + n = w.length - (aP A r 1).length → fr [20, 21] g t → (∀ j : Nat, j < i → t.2 20 j = w.getD j 0) → K t 82 [(5, .int (nI i)), (4, .int (nI (w.length - (aP A r 1).length))), (3, .int (nI (aP A r 0).length)), (2, .int (nI (aP A r 1).length)), (0, .ref h), (1, .int (nI r))] [] := by
    intro hp n
    induction n with
    | zero =>
      intro i t hi ft h1
      refine b_iload hb d_X_undoSuffix_82 rfl ?_
      refine b_iload hb d_X_undoSuffix_84 rfl ?_
      refine b_geN (tgt := 109) hb (by omega) (by omega) d_X_undoSuffix_86 (by decide) (fun c1 => ?_) (fun c1 => ?_)
      · refine b_iconst (v := nI 0) hb d_X_undoSuffix_109 rfl ?_
        refine b_istore (lv' := [(5, _), (4, _), (3, _), (2, _), (0, _), (1, _)]) hb d_X_undoSuffix_110 (by decide) rfl ?_
        exact loop3 hp (aP A r 0).length 0 t (by omega) ft (fun j hj => h1 j (by omega)) (fun j hj => absurd hj (Nat.not_lt_zero j))
      · exact absurd c1 (by omega)
    | succ n ih =>
      intro i t hi ft h1
      refine b_iload hb d_X_undoSuffix_82 rfl ?_
      refine b_iload hb d_X_undoSuffix_84 rfl ?_
      refine b_geN (tgt := 109) hb (by omega) (by omega) d_X_undoSuffix_86 (by decide) (fun c1 => ?_) (fun c1 => ?_)
      · exact absurd c1 (by omega)
      · refine b_aload_n hb d_X_undoSuffix_89 rfl rfl ?_
        refine g_getA hg 20 fl_X_20 (Or.inl rfl) d_X_undoSuffix_90 ?_
        refine b_iload hb d_X_undoSuffix_93 rfl ?_
        refine b_aload_n hb d_X_undoSuffix_95 rfl rfl ?_
        refine g_getA hg 18 fl_X_18 (Or.inl rfl) d_X_undoSuffix_96 ?_
        refine b_iload hb d_X_undoSuffix_99 rfl ?_
        refine g_iald (n := 16) hg rfl rfl (by omega) d_X_undoSuffix_101 ((show t.2 18 i = w.getD i 0 by rw [(ft 18 (by decide)).2]; exact rep_0 hrw (by omega))) ?_
        refine g_iast (n := 20) hg rfl rfl (by omega) d_X_undoSuffix_102 ?_
        refine b_iincN (lv' := [(5, _), (4, _), (3, _), (2, _), (0, _), (1, _)]) hb d_X_undoSuffix_103 rfl (by decide) rfl ?_
        refine b_goto (tgt := 82) hb d_X_undoSuffix_106 (by decide) ?_
        refine ih (i + 1) _ (by omega) (fr_xa ft (by decide)) (fun j hj => ?_)
        show upd (t.2 20) _ _ j = _
        by_cases q : j = i
        · subst q; exact pk_us
        · rw [pk_un q]; exact h1 j (by omega)
  have loop1 : (aP A r 1).length ≤ w.length → ∀ n i : Nat, i + n = (aP A r 1).length → (∀ j : Nat, j < i → w.getD (w.length - (aP A r 1).length + j) 0 = (aP A r 1).getD j 0) → K g 38 [(5, .int (nI i)), (4, .int (nI (w.length - (aP A r 1).length))), (3, .int (nI (aP A r 0).length)), (2, .int (nI (aP A r 1).length)), (0, .ref h), (1, .int (nI r))] [] := by
    intro hpl n
    induction n with
    | zero =>
      intro i hi h1
      refine b_iload hb d_X_undoSuffix_38 rfl ?_
      refine b_iload_n hb d_X_undoSuffix_40 rfl rfl ?_
      refine b_geN (tgt := 79) hb (by omega) (by omega) d_X_undoSuffix_41 (by decide) (fun c1 => ?_) (fun c1 => ?_)
      · refine b_iconst (v := nI 0) hb d_X_undoSuffix_79 rfl ?_
        refine b_istore (lv' := [(5, _), (4, _), (3, _), (2, _), (0, _), (1, _)]) hb d_X_undoSuffix_80 (by decide) rfl ?_
        exact loop2 ⟨hpl, fun j hj => h1 j (by omega)⟩ (w.length - (aP A r 1).length) 0 g (by omega) fr_rf (fun j hj => absurd hj (Nat.not_lt_zero j))
      · exact absurd c1 (by omega)
    | succ n ih =>
      intro i hi h1
      refine b_iload hb d_X_undoSuffix_38 rfl ?_
      refine b_iload_n hb d_X_undoSuffix_40 rfl rfl ?_
      refine b_geN (tgt := 79) hb (by omega) (by omega) d_X_undoSuffix_41 (by decide) (fun c1 => ?_) (fun c1 => ?_)
      · exact absurd c1 (by omega)
      · refine b_aload_n hb d_X_undoSuffix_44 rfl rfl ?_
        refine g_getA hg 18 fl_X_18 (Or.inl rfl) d_X_undoSuffix_45 ?_
        refine b_iload hb d_X_undoSuffix_48 rfl ?_
        refine b_iload hb d_X_undoSuffix_50 rfl ?_
        refine b_iaddN hb d_X_undoSuffix_52 ?_
        refine g_iald (n := 16) hg rfl rfl (by omega) d_X_undoSuffix_53 (rep_0 hrw (by omega)) ?_
        refine b_aload_n hb d_X_undoSuffix_54 rfl rfl ?_
        refine g_getA hg 9 fl_X_9 (Or.inl rfl) d_X_undoSuffix_55 ?_
        refine b_iload_n hb d_X_undoSuffix_58 rfl rfl ?_
        refine b_bipush (v := nI 9) hb d_X_undoSuffix_59 rfl ?_
        refine b_imulN hb d_X_undoSuffix_61 ?_
        refine b_iconst (v := nI 3) hb d_X_undoSuffix_62 rfl ?_
        refine b_iaddN hb d_X_undoSuffix_63 ?_
        refine b_iload hb d_X_undoSuffix_64 rfl ?_
        refine b_iaddN hb d_X_undoSuffix_66 ?_
        refine g_iald (n := 90) hg rfl rfl (by omega) d_X_undoSuffix_67 (p1 i c1) ?_
        refine b_icmp_eq (tgt := 73) hb d_X_undoSuffix_68 (by decide) (fun c2 => ?_) (fun c2 => ?_)
        · refine b_iincN (lv' := [(5, _), (4, _), (3, _), (2, _), (0, _), (1, _)]) hb d_X_undoSuffix_73 rfl (by decide) rfl ?_
          refine b_goto (tgt := 38) hb d_X_undoSuffix_76 (by decide) ?_
          exact ih (i + 1) (by omega) (fun j hj => by
            rcases Nat.lt_or_ge j i with q | q
            · exact h1 j q
            · have : j = i := by omega
              subst this; exact c2)
        · refine b_iconst (v := nI 0) hb d_X_undoSuffix_71 rfl ?_
          exact zero g _ _ fr_rf (fun v2 hv2 => c2 (hv2.1.2 i c1)) d_X_undoSuffix_72
  show K g 0 [(0, .ref h), (1, .int (nI r))] []
  refine b_aload_n hb d_X_undoSuffix_0 rfl rfl ?_
  refine g_getA hg 8 fl_X_8 (Or.inl rfl) d_X_undoSuffix_1 ?_
  refine b_iload_n hb d_X_undoSuffix_4 rfl rfl ?_
  refine b_iconst (v := nI 3) hb d_X_undoSuffix_5 rfl ?_
  refine b_imulN hb d_X_undoSuffix_6 ?_
  refine b_iconst (v := nI 1) hb d_X_undoSuffix_7 rfl ?_
  refine b_iaddN hb d_X_undoSuffix_8 ?_
  refine g_iald (n := 30) hg rfl rfl (by omega) d_X_undoSuffix_9 (l1) ?_
  refine b_istore_n (lv' := [(2, _), (0, _), (1, _)]) hb d_X_undoSuffix_10 rfl (by decide) rfl ?_
  refine b_aload_n hb d_X_undoSuffix_11 rfl rfl ?_
  refine g_getA hg 8 fl_X_8 (Or.inl rfl) d_X_undoSuffix_12 ?_
  refine b_iload_n hb d_X_undoSuffix_15 rfl rfl ?_
  refine b_iconst (v := nI 3) hb d_X_undoSuffix_16 rfl ?_
  refine b_imulN hb d_X_undoSuffix_17 ?_
  refine g_iald (n := 30) hg rfl rfl (by omega) d_X_undoSuffix_18 (l0) ?_
  refine b_istore_n (lv' := [(3, _), (2, _), (0, _), (1, _)]) hb d_X_undoSuffix_19 rfl (by decide) rfl ?_
  refine b_aload_n hb d_X_undoSuffix_20 rfl rfl ?_
  refine g_getN hg 19 fl_X_19 rfl d_X_undoSuffix_21 (hn) ?_
  refine b_iload_n hb d_X_undoSuffix_24 rfl rfl ?_
  by_cases c1 : (aP A r 1).length ≤ w.length
  · refine b_isubN hb d_X_undoSuffix_25 (by omega) ?_
    refine b_istore (lv' := [(4, _), (3, _), (2, _), (0, _), (1, _)]) hb d_X_undoSuffix_26 (by decide) rfl ?_
    refine b_iload hb d_X_undoSuffix_28 rfl ?_
    refine b_ge0N (tgt := 35) hb (by omega) d_X_undoSuffix_30 (by decide) ?_
    refine b_iconst (v := nI 0) hb d_X_undoSuffix_35 rfl ?_
    refine b_istore (lv' := [(5, _), (4, _), (3, _), (2, _), (0, _), (1, _)]) hb d_X_undoSuffix_36 (by decide) rfl ?_
    exact loop1 c1 (aP A r 1).length 0 (by omega) (fun j hj => absurd hj (Nat.not_lt_zero j))
  · refine b_isub hb d_X_undoSuffix_25 ?_
    refine b_istore (lv' := [(4, _), (3, _), (2, _), (0, _), (1, _)]) hb d_X_undoSuffix_26 (by decide) rfl ?_
    refine b_iload hb d_X_undoSuffix_28 rfl ?_
    refine b_if_ge (tgt := 35) hb d_X_undoSuffix_30 (by decide) (fun c2 => ?_) (fun c2 => ?_)
    · exact absurd (pk_sneg (by omega) (by omega)) (Int32.not_lt.mpr c2)
    · refine b_iconst (v := nI 0) hb d_X_undoSuffix_33 rfl ?_
      exact zero g _ _ fr_rf (fun v2 hv2 => absurd hv2.1.1 c1) d_X_undoSuffix_34
end
section
/-! codes of derivations, in a sorted list -/
theorem ng_app {v w : List Nat} {i : Nat} : (v ++ w).getD i 0 = if i < v.length then v.getD i 0 else w.getD (i - v.length) 0 := by
  rw [List.getD_eq_getElem?_getD, List.getD_eq_getElem?_getD, List.getD_eq_getElem?_getD, List.getElem?_append]
  split <;> rfl
theorem ng_drop {w : List Nat} {n i : Nat} : (w.drop n).getD i 0 = w.getD (n + i) 0 := by
  rw [List.getD_eq_getElem?_getD, List.getD_eq_getElem?_getD, List.getElem?_drop]
theorem ng_take {w : List Nat} {n i : Nat} (h : i < n) : (w.take n).getD i 0 = w.getD i 0 := by
  rw [List.getD_eq_getElem?_getD, List.getD_eq_getElem?_getD, List.getElem?_take]
  simp [h]
theorem ng_mem {w : List Nat} {i : Nat} (h : i < w.length) : w.getD i 0 ∈ w := by
  rw [List.getD_eq_getElem?_getD, List.getElem?_eq_getElem h]
  exact List.getElem_mem h
theorem ng_dropc {w : List Nat} {i : Nat} (h : i < w.length) : w.drop i = w.getD i 0 :: w.drop (i + 1) := by
  rw [List.drop_eq_getElem_cons h, List.getD_eq_getElem?_getD, List.getElem?_eq_getElem h]
  rfl
theorem ng_takes {w : List Nat} {i : Nat} (h : i < w.length) : w.take (i + 1) = w.take i ++ [w.getD i 0] := by
  rw [List.take_add_one, List.getD_eq_getElem?_getD, List.getElem?_eq_getElem h]
  rfl
def LI (g : Sg) (L : List Nat) : Prop := g.1 22 = L.length ∧ (∀ i : Nat, i < L.length → g.2 23 i = nI (L.getD i 0)) ∧ L.Pairwise (· < ·) ∧ ∀ x ∈ L, x < 1452
theorem LI_fr {S : List Nat} {a b : Sg} {L : List Nat} (h : fr S a b) (h1 : 22 ∉ S) (h2 : 23 ∉ S) (hL : LI a L) : LI b L := by
  unfold LI at hL ⊢
  rw [(h 22 h1).1, (h 23 h2).2]
  exact hL
theorem ins_pw {L : List Nat} {a k : Nat} (hp : L.Pairwise (· < ·)) (h1 : ∀ x ∈ L.take a, x < k) (h2 : ∀ y ∈ L.drop a, k < y) : (L.take a ++ k :: L.drop a).Pairwise (· < ·) := by
  have hp2 : (L.take a ++ L.drop a).Pairwise (· < ·) := by rw [List.take_append_drop]; exact hp
  obtain ⟨q1, q2, q3⟩ := List.pairwise_append.mp hp2
  refine List.pairwise_append.mpr ⟨q1, List.pairwise_cons.mpr ⟨h2, q2⟩, fun x hx y hy => ?_⟩
  rcases List.mem_cons.mp hy with rfl | hy
  · exact h1 x hx
  · exact q3 x hx y hy
theorem ins_mem {L : List Nat} {a k x : Nat} : x ∈ L.take a ++ k :: L.drop a ↔ x = k ∨ x ∈ L := by
  have : x ∈ L ↔ x ∈ L.take a ∨ x ∈ L.drop a := by
    rw [← List.mem_append, List.take_append_drop]
  rw [List.mem_append, List.mem_cons, this]
  constructor
  · rintro (h | h | h)
    · exact Or.inr (Or.inl h)
    · exact Or.inl h
    · exact Or.inr (Or.inr h)
  · rintro (h | h | h)
    · exact Or.inr (Or.inl h)
    · exact Or.inl h
    · exact Or.inr (Or.inr h)
theorem take_lt {L : List Nat} {a k : Nat} (hp : L.Pairwise (· < ·)) (ha : a < L.length) (hk : L.getD a 0 < k) : ∀ x ∈ L.take (a + 1), x < k := by
  intro x hx
  rw [ng_takes ha] at hx
  have hp2 : (L.take (a + 1) ++ L.drop (a + 1)).Pairwise (· < ·) := by rw [List.take_append_drop]; exact hp
  rw [ng_takes ha] at hp2
  have q1 := (List.pairwise_append.mp hp2).1
  have q3 := (List.pairwise_append.mp q1).2.2
  rcases List.mem_append.mp hx with h | h
  · exact Nat.lt_trans (q3 x h _ List.mem_cons_self) hk
  · rw [List.mem_singleton.mp h]; exact hk
theorem so_ext : ∀ (L M : List Nat), L.Pairwise (· < ·) → M.Pairwise (· < ·) → (∀ x, x ∈ L ↔ x ∈ M) → L = M
  | [], [], _, _, _ => rfl
  | [], b :: M, _, _, h => absurd ((h b).mpr List.mem_cons_self) List.not_mem_nil
  | a :: L, [], _, _, h => absurd ((h a).mp List.mem_cons_self) List.not_mem_nil
  | a :: L, b :: M, h1, h2, h => by
    obtain ⟨p1, p2⟩ := List.pairwise_cons.mp h1
    obtain ⟨r1, r2⟩ := List.pairwise_cons.mp h2
    have e : a = b := by
      rcases List.mem_cons.mp ((h a).mp List.mem_cons_self) with q | q
      · exact q
      · rcases List.mem_cons.mp ((h b).mpr List.mem_cons_self) with q2 | q2
        · exact q2.symm
        · have := r1 a q
          have := p1 b q2
          omega
    subst e
    congr 1
    refine so_ext L M p2 r2 (fun x => ⟨fun hx => ?_, fun hx => ?_⟩)
    · rcases List.mem_cons.mp ((h x).mp (List.mem_cons_of_mem _ hx)) with q | q
      · have := p1 x hx; omega
      · exact q
    · rcases List.mem_cons.mp ((h x).mpr (List.mem_cons_of_mem _ hx)) with q | q
      · have := r1 x hx; omega
      · exact q
theorem cd_u {s u q : Nat} (hu : u ≤ 10) (hq : q ≤ 10) : (s * 121 + u * 11 + q) / 11 % 11 = u := by omega
theorem cd_q {s u q : Nat} (hq : q ≤ 10) : (s * 121 + u * 11 + q) % 11 = q := by omega
theorem cd_s {s u q : Nat} (hu : u ≤ 10) (hq : q ≤ 10) : (s * 121 + u * 11 + q) / 121 = s := by omega
theorem sh_l : ∀ n : Nat, n < 8 → ((nI n &&& 31).toBitVec.smod 32).toNat = n := by decide
theorem bit_1 {x f : Nat} (hx : x < 256) (hf : f ≤ 7) : (nI x >>> (nI f &&& 31)) &&& nI 1 = nI (x / 2 ^ f % 2) := by
  rw [pk_shrN (by omega) _ f (sh_l f (by omega))]
  exact pk_andN (Nat.lt_of_le_of_lt (Nat.div_le_self _ _) (by omega)) 1 (by decide)
theorem pI_ad (x q : Nat) : nI x + pI q + nI 1 = nI (x + q) := by
  rw [Int32.add_assoc]
  show nI x + (pI q + 1) = _
  rw [pI_1, nI_add]
/-- how many of the first k rules are suffix rules -/
def cS (A : Ab) : Nat → Nat
  | 0 => 0
  | k + 1 => cS A k + (if aS A k = true then 1 else 0)
theorem cS_le (A : Ab) : ∀ k : Nat, cS A k ≤ k
  | 0 => Nat.le_refl _
  | k + 1 => by
    have := cS_le A k
    show cS A k + (if aS A k = true then 1 else 0) ≤ k + 1
    split <;> omega
theorem cS_mono (A : Ab) (k : Nat) : cS A k ≤ cS A (k + 1) := Nat.le_add_right _ _
theorem c36 : ∀ a : Nat, a < 11 → ∀ b : Nat, b < 11 → a + b ≤ 10 → 12 * ((1 + a) * (1 + b)) ≤ 432 := by decide
end
section
/-! AffixSpeller: finding derivations -/
theorem x_allows {g : Sg} {A : Ab} {s u : Nat} (hJ : JX g A) (hs : s < aN A) (hu : u ≤ aR A) : mMi 0 0 y_X_allows b_X_allows 3 .boolean [.int (nI s), .int (pI u)] g (fun q t => t = g ∧ ((q = 1 ∧ okk A s u) ∨ (q = 0 ∧ ¬ okk A s u))) := by
  refine m_i (Nat.zero_le _) (by decide) rfl (fun _ => Nat.le_of_ble_eq_true rfl) (fun h ad K hg hret => ?_)
  have hb := hg.b
  have hN := hJ.1.2.2.2.2.1
  have hR := hJ.1.2.2.1
  show K g 0 [(0, .ref h), (1, .int (nI s)), (2, .int (pI u))] []
  cases u with
  | zero =>
    refine b_iload_n hb d_X_allows_0 rfl rfl ?_
    refine b_if_lt (tgt := 23) hb d_X_allows_1 (by decide) (fun c1 => ?_) (fun c1 => ?_)
    · refine b_iconst (v := nI 1) hb d_X_allows_23 rfl ?_
      refine b_goto (tgt := 28) hb d_X_allows_24 (by decide) ?_
      exact hret _ _ _ _ d_X_allows_28 rfl ⟨rfl, Or.inl ⟨rfl, Or.inl rfl⟩⟩
    · exact absurd (by decide) c1
  | succ r =>
    rw [pI_s]
    have hf := (hJ.1.2.2.2.1 r hu).1
    have h2 := (hJ.1.2.2.2.2.2 s hs).2.2.2
    refine b_iload_n hb d_X_allows_0 rfl rfl ?_
    refine b_lt0N hb (by omega) d_X_allows_1 23 (by decide) ?_
    refine b_aload_n hb d_X_allows_4 rfl rfl ?_
    refine g_getA hg 11 fl_X_11 (Or.inl rfl) d_X_allows_5 ?_
    refine b_iload_n hb d_X_allows_8 rfl rfl ?_
    refine g_iald (n := 12) hg rfl rfl (by omega) d_X_allows_9 (hJ.2.2.2.2.2.1 s hs) ?_
    refine b_aload_n hb d_X_allows_10 rfl rfl ?_
    refine g_getA hg 5 fl_X_5 (Or.inl rfl) d_X_allows_11 ?_
    refine b_iload_n hb d_X_allows_14 rfl rfl ?_
    refine g_iald (n := 10) hg rfl rfl (by omega) d_X_allows_15 ((hJ.2.2.2.1.2 r hu).1) ?_
    refine b_ishr hb d_X_allows_16 ?_
    refine b_iconst (v := nI 1) hb d_X_allows_17 rfl ?_
    refine b_iand hb d_X_allows_18 ?_
    refine b_top (bit_1 h2 hf) ?_
    refine b_iconst (v := nI 1) hb d_X_allows_19 rfl ?_
    have hlt : aG A s / 2 ^ aF A r % 2 < 2 := Nat.mod_lt _ (by decide)
    refine b_neN (tgt := 27) hb (by omega) (by omega) d_X_allows_20 (by decide) (fun c2 => ?_) (fun c2 => ?_)
    · refine b_iconst (v := nI 0) hb d_X_allows_27 rfl ?_
      exact hret _ _ _ _ d_X_allows_28 rfl ⟨rfl, Or.inr ⟨rfl, fun z => z.elim (fun z => by cases z) c2⟩⟩
    · refine b_iconst (v := nI 1) hb d_X_allows_23 rfl ?_
      refine b_goto (tgt := 28) hb d_X_allows_24 (by decide) ?_
      exact hret _ _ _ _ d_X_allows_28 rfl ⟨rfl, Or.inl ⟨rfl, Or.inr c2⟩⟩
theorem x_addFound {g : Sg} {L : List Nat} {k : Nat} (hL : LI g L) (hl : L.length < 440) (hk : k < 1452) (hn : k ∉ L) : mMv 0 0 y_X_addFound b_X_addFound 3 [.int (nI k)] g (fun t => fr [22, 23] g t ∧ ∃ M : List Nat, LI t M ∧ M.length = L.length + 1 ∧ ∀ x : Nat, x ∈ M ↔ x = k ∨ x ∈ L) := by
  refine m_v (Nat.zero_le _) (by decide) rfl (fun _ => Nat.le_of_ble_eq_true rfl) (fun h ad K hg hret => ?_)
  have hb := hg.b
  obtain ⟨e1, e2, e3, e4⟩ := hL
  show K g 0 [(0, .ref h), (1, .int (nI k))] []
  have fin : ∀ (a : Nat) (f : Nat → Int32), a ≤ L.length → (∀ i : Nat, i < a → f i = nI (L.getD i 0)) → (∀ i : Nat, a ≤ i → i < L.length → f (i + 1) = nI (L.getD i 0)) → (∀ y ∈ L.drop a, k < y) → (∀ x ∈ L.take a, x < k) → K (xa g 23 f) 52 [(2, .int (nI a)), (0, .ref h), (1, .int (nI k))] [] := by
    intro a f ha h1 h2 h3 h4
    refine b_aload_n hb d_X_addFound_52 rfl rfl ?_
    refine g_getA hg 23 fl_X_23 (Or.inl rfl) d_X_addFound_53 ?_
    refine b_iload_n hb d_X_addFound_56 rfl rfl ?_
    refine b_iload_n hb d_X_addFound_57 rfl rfl ?_
    refine g_iast (n := 440) hg rfl rfl (by omega) d_X_addFound_58 ?_
    refine b_aload_n hb d_X_addFound_59 rfl rfl ?_
    refine b_dup hb d_X_addFound_60 rfl ?_
    refine g_getN hg 22 fl_X_22 rfl d_X_addFound_61 (e1) ?_
    refine b_iconst (v := nI 1) hb d_X_addFound_64 rfl ?_
    refine b_iaddN hb d_X_addFound_65 ?_
    refine g_putN hg 22 fl_X_22 rfl d_X_addFound_66 ?_
    refine hret _ _ _ d_X_addFound_69 ⟨fr_xi (fr_xa (fr_xa fr_rf (by decide)) (by decide)) (by decide), L.take a ++ k :: L.drop a, ⟨?_, ?_, ins_pw e3 h4 h3, ?_⟩, ?_, fun x => ins_mem⟩
    · show L.length + 1 = _
      rw [List.length_append, List.length_cons, List.length_take, List.length_drop]; omega
    · intro i hi
      show upd f a (nI k) i = _
      rw [List.length_append, List.length_cons, List.length_take, List.length_drop] at hi
      have em : min a L.length = a := by omega
      rw [em] at hi
      rw [ng_app, List.length_take, em]
      by_cases q : i < a
      · rw [if_pos q, pk_un (by omega), ng_take q]; exact h1 i q
      · rw [if_neg q]
        by_cases q2 : i = a
        · subst q2; rw [pk_us, Nat.sub_self]; rfl
        · rw [pk_un q2]
          obtain ⟨j, rfl⟩ : ∃ j, i = a + (j + 1) := ⟨i - a - 1, by omega⟩
          rw [show a + (j + 1) - a = j + 1 by omega, List.getD_cons_succ, ng_drop]
          exact h2 (a + j) (by omega) (by omega)
    · intro x hx
      rcases ins_mem.mp hx with q | q
      · omega
      · exact e4 x q
    · rw [List.length_append, List.length_cons, List.length_take, List.length_drop]; omega
  have loop : ∀ (a : Nat) (f : Nat → Int32), a ≤ L.length → (∀ i : Nat, i < a → f i = nI (L.getD i 0)) → (∀ i : Nat, a ≤ i → i < L.length → f (i + 1) = nI (L.getD i 0)) → (∀ y ∈ L.drop a, k < y) → K (xa g 23 f) 16 [(2, .int (nI a)), (0, .ref h), (1, .int (nI k))] [] := by
    intro a
    induction a with
    | zero =>
      intro f ha h1 h2 h3
      refine b_iload_n hb d_X_addFound_16 rfl rfl ?_
      refine b_le0N (tgt := 52) hb (by omega) d_X_addFound_17 (by decide) (fun c1 => ?_) (fun c1 => ?_)
      · exact fin 0 f ha h1 h2 h3 (fun x hx => by simp at hx)
      · exact absurd c1 (Nat.lt_irrefl _)
    | succ a ih =>
      intro f ha h1 h2 h3
      have hlt := e4 _ (ng_mem (w := L) (i := a) (by omega))
      refine b_iload_n hb d_X_addFound_16 rfl rfl ?_
      refine b_le0N (tgt := 52) hb (by omega) d_X_addFound_17 (by decide) (fun c1 => ?_) (fun c1 => ?_)
      · exact absurd c1 (Nat.succ_ne_zero a)
      · refine b_aload_n hb d_X_addFound_20 rfl rfl ?_
        refine g_getA hg 23 fl_X_23 (Or.inl rfl) d_X_addFound_21 ?_
        refine b_iload_n hb d_X_addFound_24 rfl rfl ?_
        refine b_iconst (v := nI 1) hb d_X_addFound_25 rfl ?_
        refine b_isubN hb d_X_addFound_26 (by omega) ?_
        refine g_iald (n := 440) hg rfl rfl (by omega) d_X_addFound_27 (h1 a (Nat.lt_succ_self a)) ?_
        refine b_iload_n hb d_X_addFound_28 rfl rfl ?_
        refine b_leN (tgt := 52) hb (by omega) (by omega) d_X_addFound_29 (by decide) (fun c2 => ?_) (fun c2 => ?_)
        · have hne : L.getD a 0 ≠ k := fun z => hn (by rw [← z]; exact ng_mem (by omega))
          exact fin (a + 1) f ha h1 h2 h3 (take_lt e3 (by omega) (by omega))
        · refine b_aload_n hb d_X_addFound_32 rfl rfl ?_
          refine g_getA hg 23 fl_X_23 (Or.inl rfl) d_X_addFound_33 ?_
          refine b_iload_n hb d_X_addFound_36 rfl rfl ?_
          refine b_aload_n hb d_X_addFound_37 rfl rfl ?_
          refine g_getA hg 23 fl_X_23 (Or.inl rfl) d_X_addFound_38 ?_
          refine b_iload_n hb d_X_addFound_41 rfl rfl ?_
          refine b_iconst (v := nI 1) hb d_X_addFound_42 rfl ?_
          refine b_isubN hb d_X_addFound_43 (by omega) ?_
          refine g_iald (n := 440) hg rfl rfl (by omega) d_X_addFound_44 (h1 a (Nat.lt_succ_self a)) ?_
          refine g_iast (n := 440) hg rfl rfl (by omega) d_X_addFound_45 ?_
          rw [xa_xa]
          refine b_idecN (lv' := [(2, _), (0, _), (1, _)]) hb d_X_addFound_46 (by omega) rfl (by decide) rfl ?_
          refine b_goto (tgt := 16) hb d_X_addFound_49 (by decide) ?_
          refine ih _ (by omega) (fun i hi => ?_) (fun i hi1 hi2 => ?_) (fun y hy => ?_)
          · show upd f (a + 1) _ i = _
            rw [pk_un (by omega)]; exact h1 i (by omega)
          · show upd f (a + 1) _ (i + 1) = _
            by_cases q : i = a
            · subst q; exact pk_us
            · rw [pk_un (by omega)]; exact h2 i (by omega) hi2
          · rw [ng_dropc (by omega)] at hy
            rcases List.mem_cons.mp hy with q | q
            · rw [q]; exact c2
            · exact h3 y q
  refine b_aload_n hb d_X_addFound_0 rfl rfl ?_
  refine g_getN hg 22 fl_X_22 rfl d_X_addFound_1 (e1) ?_
  refine b_sipush (v := nI 440) hb d_X_addFound_4 rfl ?_
  refine b_ltN (tgt := 11) hb (by omega) (by omega) d_X_addFound_7 (by decide) (fun c1 => ?_) (fun c1 => ?_)
  · refine b_aload_n hb d_X_addFound_11 rfl rfl ?_
    refine g_getN hg 22 fl_X_22 rfl d_X_addFound_12 (e1) ?_
    refine b_istore_n (lv' := [(2, _), (0, _), (1, _)]) hb d_X_addFound_15 rfl (by decide) rfl ?_
    have h0 := loop L.length (g.2 23) (Nat.le_refl _) e2 (fun i h1 h2 => absurd h1 (by omega)) (fun y hy => by rw [List.drop_length] at hy; cases hy)
    rw [xa_id] at h0
    exact h0
  · exact absurd c1 (by omega)
theorem x_takeStems {g : Sg} {A : Ab} {L : List Nat} {c : List Int32} {u q : Nat} (hJ : JX g A) (hW : RW (g.1 21) (g.2 20) c) (hl : c.length ≤ 20) (h8 : ∀ d ∈ c, lt8 d) (hL : LI g L) (hl2 : L.length ≤ 428) (hu : u ≤ aR A) (hq : q ≤ aR A) (hno : ∀ x ∈ L, ¬ (x / 11 % 11 = u ∧ x % 11 = q)) :
    mMv 0 1 y_X_takeStems b_X_takeStems 7 [.int (pI u), .int (pI q)] g (fun t => fr [22, 23] g t ∧ ∃ M : List Nat, LI t M ∧ M.length ≤ L.length + 12 ∧ ∀ x : Nat, x ∈ M ↔ x ∈ L ∨ ∃ s : Nat, s < aN A ∧ aL A s = c ∧ okk A s u ∧ okk A s q ∧ x = s * 121 + u * 11 + q) := by
  refine m_v (Nat.zero_le _) (by decide) rfl (fun _ => Nat.le_of_ble_eq_true rfl) (fun h ad K hg hret => ?_)
  have hb := hg.b
  have hR := hJ.1.2.2.1
  have hN := hJ.1.2.2.2.2.1
  obtain ⟨pa, hTP, -, hTC, hst⟩ := hJ.2.2.2.2.2.2
  have h145 := hTP.2.1
  show K g 0 [(0, .ref h), (1, .int (pI u)), (2, .int (pI q))] []
  refine b_aload_n hb d_X_takeStems_0 rfl rfl ?_
  refine g_calli hg (x_findCore hTP hW hl h8) lk_X_X_findCore (by decide) d_X_takeStems_1 rfl (Nat.le_of_ble_eq_true rfl) (fun r t hp => ?_)
  obtain ⟨rfl, hp⟩ := hp
  rcases hp with ⟨rfl, hp⟩ | ⟨v, hv, rfl, hp⟩
  · refine b_istore_n (lv' := [(3, _), (0, _), (1, _), (2, _)]) hb d_X_takeStems_4 rfl (by decide) rfl ?_
    refine b_iload_n hb d_X_takeStems_5 rfl rfl ?_
    refine b_if_ge (tgt := 10) hb d_X_takeStems_6 (by decide) (fun c1 => ?_) (fun c1 => ?_)
    · exact absurd c1 (by decide)
    · refine hret _ _ _ d_X_takeStems_9 ⟨fr_rf, L, hL, by omega, fun x => ⟨Or.inl, fun z => z.elim id (fun z => ?_)⟩⟩
      obtain ⟨s, hs, e, -⟩ := z
      obtain ⟨y, hy, ey⟩ := hst s hs
      exact absurd (ey.trans e) (hp y hy)
  · have hTv := hTC v hv
    rw [hp] at hTv
    have loop : ∀ (Lc D : List Nat) (hd : Int32) (u2 : Sg) (M : List Nat), sts A c = D ++ Lc → TC (t.2 15) hd Lc → fr [22, 23] t u2 → LI u2 M → M.length ≤ L.length + D.length → (∀ x : Nat, x ∈ M ↔ x ∈ L ∨ ∃ s : Nat, s ∈ D ∧ okk A s u ∧ okk A s q ∧ x = s * 121 + u * 11 + q) → K u2 21 [(5, .int (nI D.length)), (4, .int hd), (3, .int (nI v)), (0, .ref h), (1, .int (pI u)), (2, .int (pI q))] [] := by
      intro Lc
      induction Lc with
      | nil =>
        intro D hd u2 M eD hT fu hM hml hmem
        have hlen := sts_len A c
        rw [eD, List.length_append] at hlen
        have ehd : hd = -1 := hT
        subst ehd
        rw [List.append_nil] at eD
        have done : K u2 96 [(5, .int (nI D.length)), (4, .int (-1)), (3, .int (nI v)), (0, .ref h), (1, .int (pI u)), (2, .int (pI q))] [] := by
          refine hret _ _ _ d_X_takeStems_96 ⟨fu, M, hM, by omega, fun x => ?_⟩
          rw [hmem x]
          constructor
          · rintro (z | ⟨s, hs, z1, z2, z3⟩)
            · exact Or.inl z
            · rw [← eD] at hs
              obtain ⟨h1, h2⟩ := sts_mem.mp hs
              exact Or.inr ⟨s, h1, h2, z1, z2, z3⟩
          · rintro (z | ⟨s, h1, h2, z1, z2, z3⟩)
            · exact Or.inl z
            · exact Or.inr ⟨s, by rw [← eD]; exact sts_mem.mpr ⟨h1, h2⟩, z1, z2, z3⟩
        refine b_iload hb d_X_takeStems_21 rfl ?_
        refine b_bipush (v := nI 12) hb d_X_takeStems_23 rfl ?_
        refine b_geN (tgt := 96) hb (by omega) (by omega) d_X_takeStems_25 (by decide) (fun c1 => ?_) (fun c1 => ?_)
        · exact done
        · refine b_iload hb d_X_takeStems_28 rfl ?_
          refine b_if_lt (tgt := 96) hb d_X_takeStems_30 (by decide) (fun c2 => ?_) (fun c2 => ?_)
          · exact done
          · exact absurd (by decide) c2
      | cons s Lc ih =>
        intro D hd u2 M eD hT fu hM hml hmem
        have hlen := sts_len A c
        rw [eD, List.length_append, List.length_cons] at hlen
        obtain ⟨rfl, hs12, hT2⟩ := hT
        have hsm : s ∈ sts A c := by rw [eD]; simp
        have hsN := (sts_mem.mp hsm).1
        have hJ2 : JX u2 A := JX_fr fu (by decide) hJ
        have hsD : s ∉ D := by
          have hnd := sts_nodup A c
          rw [eD] at hnd
          have := (List.pairwise_append.mp hnd).2.2
          exact fun z => this s z s List.mem_cons_self rfl
        have next : ∀ (u3 : Sg) (M2 : List Nat) (x6 : Int32), fr [22, 23] t u3 → LI u3 M2 → M2.length ≤ L.length + D.length + 1 → (∀ x : Nat, x ∈ M2 ↔ x ∈ L ∨ ∃ s2 : Nat, s2 ∈ D ++ [s] ∧ okk A s2 u ∧ okk A s2 q ∧ x = s2 * 121 + u * 11 + q) → K u3 81 [(6, .int x6), (5, .int (nI D.length)), (4, .int (nI s)), (3, .int (nI v)), (0, .ref h), (1, .int (pI u)), (2, .int (pI q))] [] := by
          intro u3 M2 x6 f3 hM2 hl3 hm3
          refine b_aload_n hb d_X_takeStems_81 rfl rfl ?_
          refine g_getA hg 15 fl_X_15 (Or.inl rfl) d_X_takeStems_82 ?_
          refine b_iload hb d_X_takeStems_85 rfl ?_
          refine g_iald (n := 12) hg rfl rfl (by omega) d_X_takeStems_87 ((show u3.2 15 s = t.2 15 s by rw [(f3 15 (by decide)).2])) ?_
          refine b_istore (lv' := [(4, _), (6, _), (5, _), (3, _), (0, _), (1, _), (2, _)]) hb d_X_takeStems_88 (by decide) rfl ?_
          refine b_iincN (lv' := [(5, _), (4, _), (6, _), (3, _), (0, _), (1, _), (2, _)]) hb d_X_takeStems_90 rfl (by decide) rfl ?_
          refine b_goto (tgt := 21) hb d_X_takeStems_93 (by decide) ?_
          refine b_sub hb [0, 1, 3, 4, 5, 6] rfl ?_
          have h0 := ih (D ++ [s]) _ u3 M2 (by rw [eD]; simp) hT2 f3 hM2 (by rw [List.length_append, List.length_singleton]; omega) hm3
          rw [List.length_append, List.length_singleton] at h0
          exact h0
        have skip : ∀ x6 : Int32, ¬ (okk A s u ∧ okk A s q) → K u2 81 [(6, .int x6), (5, .int (nI D.length)), (4, .int (nI s)), (3, .int (nI v)), (0, .ref h), (1, .int (pI u)), (2, .int (pI q))] [] := by
          intro x6 hx
          refine next u2 M x6 fu hM (by omega) (fun x => ?_)
          rw [hmem x]
          constructor
          · rintro (z | ⟨s2, h1, z1, z2, z3⟩)
            · exact Or.inl z
            · exact Or.inr ⟨s2, List.mem_append_left _ h1, z1, z2, z3⟩
          · rintro (z | ⟨s2, h1, z1, z2, z3⟩)
            · exact Or.inl z
            · rcases List.mem_append.mp h1 with h1 | h1
              · exact Or.inr ⟨s2, h1, z1, z2, z3⟩
              · rw [List.mem_singleton.mp h1] at z1 z2
                exact absurd ⟨z1, z2⟩ hx
        refine b_iload hb d_X_takeStems_21 rfl ?_
        refine b_bipush (v := nI 12) hb d_X_takeStems_23 rfl ?_
        refine b_geN (tgt := 96) hb (by omega) (by omega) d_X_takeStems_25 (by decide) (fun c1 => ?_) (fun c1 => ?_)
        · exact absurd c1 (by omega)
        · refine b_iload hb d_X_takeStems_28 rfl ?_
          refine b_lt0N hb (by omega) d_X_takeStems_30 96 (by decide) ?_
          refine b_aload_n hb d_X_takeStems_33 rfl rfl ?_
          refine b_iload hb d_X_takeStems_34 rfl ?_
          refine b_iload_n hb d_X_takeStems_36 rfl rfl ?_
          refine g_calli hg (x_allows hJ2 hsN hu) lk_X_X_allows (by decide) d_X_takeStems_37 rfl (Nat.le_of_ble_eq_true rfl) (fun r1 u3 hp1 => ?_)
          obtain ⟨rfl, hp1⟩ := hp1
          refine b_istore (lv' := [(6, _), (5, _), (4, _), (3, _), (0, _), (1, _), (2, _)]) hb d_X_takeStems_40 (by decide) rfl ?_
          refine b_iload hb d_X_takeStems_42 rfl ?_
          rcases hp1 with ⟨rfl, hok⟩ | ⟨rfl, hok⟩
          · refine b_if_eq (tgt := 56) hb d_X_takeStems_44 (by decide) (fun c3 => ?_) (fun c3 => ?_)
            · exact absurd c3 (by decide)
            · refine b_aload_n hb d_X_takeStems_47 rfl rfl ?_
              refine b_iload hb d_X_takeStems_48 rfl ?_
              refine b_iload_n hb d_X_takeStems_50 rfl rfl ?_
              refine g_calli hg (x_allows hJ2 hsN hq) lk_X_X_allows (by decide) d_X_takeStems_51 rfl (Nat.le_of_ble_eq_true rfl) (fun r2 u4 hp2 => ?_)
              obtain ⟨rfl, hp2⟩ := hp2
              refine b_istore (lv' := [(6, _), (5, _), (4, _), (3, _), (0, _), (1, _), (2, _)]) hb d_X_takeStems_54 (by decide) rfl ?_
              refine b_iload hb d_X_takeStems_56 rfl ?_
              rcases hp2 with ⟨rfl, hok2⟩ | ⟨rfl, hok2⟩
              · refine b_if_eq (tgt := 81) hb d_X_takeStems_58 (by decide) (fun c4 => ?_) (fun c4 => ?_)
                · exact absurd c4 (by decide)
                · refine b_aload_n hb d_X_takeStems_61 rfl rfl ?_
                  refine b_iload hb d_X_takeStems_62 rfl ?_
                  refine b_bipush (v := nI 121) hb d_X_takeStems_64 rfl ?_
                  refine b_imulN hb d_X_takeStems_66 ?_
                  refine b_iload_n hb d_X_takeStems_67 rfl rfl ?_
                  refine b_iconst (v := nI 1) hb d_X_takeStems_68 rfl ?_
                  refine b_iadd hb d_X_takeStems_69 ?_
                  refine b_top (pI_1 u) ?_
                  refine b_bipush (v := nI 11) hb d_X_takeStems_70 rfl ?_
                  refine b_imulN hb d_X_takeStems_72 ?_
                  refine b_iaddN hb d_X_takeStems_73 ?_
                  refine b_iload_n hb d_X_takeStems_74 rfl rfl ?_
                  refine b_iadd hb d_X_takeStems_75 ?_
                  refine b_iconst (v := nI 1) hb d_X_takeStems_76 rfl ?_
                  refine b_iadd hb d_X_takeStems_77 ?_
                  refine b_top (pI_ad _ q) ?_
                  refine g_callv hg (x_addFound hM (by omega) (by omega) (fun z => ?z)) lk_X_X_addFound (by decide) d_X_takeStems_78 rfl (Nat.le_of_ble_eq_true rfl) (fun u5 hp5 => ?_)
                  case z =>
                    rcases (hmem _).mp z with z | ⟨s2, h1, -, -, z3⟩
                    · exact hno _ z ⟨cd_u (by omega) (by omega), cd_q (by omega)⟩
                    · have : s2 = s := by omega
                      exact hsD (this ▸ h1)
                  obtain ⟨f5, M5, hM5, hl5, hm5⟩ := hp5
                  refine next u5 M5 1 (fr_tr fu f5) hM5 (by omega) (fun x => ?_)
                  rw [hm5 x, hmem x]
                  constructor
                  · rintro (z | z | ⟨s2, h1, z1, z2, z3⟩)
                    · exact Or.inr ⟨s, by simp, hok, hok2, z⟩
                    · exact Or.inl z
                    · exact Or.inr ⟨s2, List.mem_append_left _ h1, z1, z2, z3⟩
                  · rintro (z | ⟨s2, h1, z1, z2, z3⟩)
                    · exact Or.inr (Or.inl z)
                    · rcases List.mem_append.mp h1 with h1 | h1
                      · exact Or.inr (Or.inr ⟨s2, h1, z1, z2, z3⟩)
                      · rw [List.mem_singleton.mp h1] at z3
                        exact Or.inl z3
              · refine b_if_eq (tgt := 81) hb d_X_takeStems_58 (by decide) (fun c4 => ?_) (fun c4 => ?_)
                · exact skip 0 (fun z => hok2 z.2)
                · exact absurd rfl c4
          · refine b_if_eq (tgt := 56) hb d_X_takeStems_44 (by decide) (fun c3 => ?_) (fun c3 => ?_)
            · refine b_iload hb d_X_takeStems_56 rfl ?_
              refine b_if_eq (tgt := 81) hb d_X_takeStems_58 (by decide) (fun c4 => ?_) (fun c4 => ?_)
              · exact skip 0 (fun z => hok z.1)
              · exact absurd rfl c4
            · exact absurd rfl c3
    refine b_istore_n (lv' := [(3, _), (0, _), (1, _), (2, _)]) hb d_X_takeStems_4 rfl (by decide) rfl ?_
    refine b_iload_n hb d_X_takeStems_5 rfl rfl ?_
    refine b_ge0N (tgt := 10) hb (by omega) d_X_takeStems_6 (by decide) ?_
    refine b_aload_n hb d_X_takeStems_10 rfl rfl ?_
    refine g_getA hg 14 fl_X_14 (Or.inl rfl) d_X_takeStems_11 ?_
    refine b_iload_n hb d_X_takeStems_14 rfl rfl ?_
    refine g_iald (n := 145) hg rfl rfl (by omega) d_X_takeStems_15 (rfl) ?_
    refine b_istore (lv' := [(4, _), (3, _), (0, _), (1, _), (2, _)]) hb d_X_takeStems_16 (by decide) rfl ?_
    refine b_iconst (v := nI 0) hb d_X_takeStems_18 rfl ?_
    refine b_istore (lv' := [(5, _), (4, _), (3, _), (0, _), (1, _), (2, _)]) hb d_X_takeStems_19 (by decide) rfl ?_
    exact loop (sts A c) [] _ t L rfl hTv fr_rf hL (by simp) (fun x => ⟨Or.inl, fun z => z.elim id (fun ⟨s2, h1, _⟩ => by cases h1)⟩)
end
section
/-! AffixSpeller: the search -/
theorem cS_up (A : Ab) : ∀ n k : Nat, cS A k ≤ cS A (k + n)
  | 0, k => Nat.le_refl _
  | n + 1, k => Nat.le_trans (cS_up A n k) (cS_mono A (k + n))
theorem cS_s {A : Ab} {r : Nat} (h : aS A r = true) : cS A (r + 1) = cS A r + 1 := by
  show cS A r + (if aS A r = true then 1 else 0) = _
  rw [if_pos h]
theorem cS_n {A : Ab} {r : Nat} (h : aS A r = false) : cS A (r + 1) = cS A r := by
  show cS A r + (if aS A r = true then 1 else 0) = _
  rw [if_neg (by rw [h]; decide)]
  rfl
def PS (A : Ab) (L : List Nat) (v : List Int32) (q r x : Nat) : Prop := x ∈ L ∨ ∃ s u : Nat, u ≤ r ∧ s < aN A ∧ okk A s u ∧ okk A s q ∧ cor A q u v (aL A s) ∧ x = s * 121 + u * 11 + q
theorem PS_skip {A : Ab} {L : List Nat} {v : List Int32} {q r : Nat} (h : ∀ c : List Int32, ¬ cor A q (r + 1) v c) (x : Nat) : PS A L v q r x ↔ PS A L v q (r + 1) x := by
  constructor
  · rintro (z | ⟨s, u, h1, z⟩)
    · exact Or.inl z
    · exact Or.inr ⟨s, u, by omega, z⟩
  · rintro (z | ⟨s, u, h1, z⟩)
    · exact Or.inl z
    · rcases Nat.lt_or_ge r u with e | e
      · have : u = r + 1 := by omega
        subst this
        exact absurd z.2.2.2.1 (h _)
      · exact Or.inr ⟨s, u, e, z⟩
theorem PS_step {A : Ab} {L M M2 : List Nat} {v c : List Int32} {q r : Nat} (hM : ∀ x : Nat, x ∈ M ↔ PS A L v q r x) (h2 : ∀ x : Nat, x ∈ M2 ↔ x ∈ M ∨ ∃ s : Nat, s < aN A ∧ aL A s = c ∧ okk A s (r + 1) ∧ okk A s q ∧ x = s * 121 + (r + 1) * 11 + q) (h : ∀ d : List Int32, cor A q (r + 1) v d ↔ d = c) (x : Nat) : x ∈ M2 ↔ PS A L v q (r + 1) x := by
  rw [h2 x, hM x]
  constructor
  · rintro ((z | ⟨s, u, h1, z⟩) | ⟨s, z1, z2, z3, z4, z5⟩)
    · exact Or.inl z
    · exact Or.inr ⟨s, u, by omega, z⟩
    · exact Or.inr ⟨s, r + 1, Nat.le_refl _, z1, z3, z4, (h _).mpr z2, z5⟩
  · rintro (z | ⟨s, u, h1, z⟩)
    · exact Or.inl (Or.inl z)
    · rcases Nat.lt_or_ge r u with e | e
      · have : u = r + 1 := by omega
        subst this
        exact Or.inr ⟨s, z.1, (h _).mp z.2.2.2.1, z.2.1, z.2.2.1, z.2.2.2.2⟩
      · exact Or.inl (Or.inr ⟨s, u, e, z⟩)
theorem PS_zero {A : Ab} {L M2 : List Nat} {v : List Int32} {q : Nat} (h2 : ∀ x : Nat, x ∈ M2 ↔ x ∈ L ∨ ∃ s : Nat, s < aN A ∧ aL A s = v ∧ okk A s 0 ∧ okk A s q ∧ x = s * 121 + 0 * 11 + q) (x : Nat) : x ∈ M2 ↔ PS A L v q 0 x := by
  rw [h2 x]
  constructor
  · rintro (z | ⟨s, z1, z2, z3, z4, z5⟩)
    · exact Or.inl z
    · exact Or.inr ⟨s, 0, Nat.le_refl _, z1, z3, z4, Or.inl ⟨rfl, z2⟩, z5⟩
  · rintro (z | ⟨s, u, h1, z⟩)
    · exact Or.inl z
    · have : u = 0 := by omega
      subst this
      rcases z.2.2.2.1 with e | e
      · exact Or.inr ⟨s, z.1, e.2, z.2.1, z.2.2.1, z.2.2.2.2⟩
      · exact absurd rfl e.1
theorem US_8 {A : Ab} {r : Nat} {v c : List Int32} (hw : WA A) (hr : r < aR A) (h : US A r v c) (h8 : ∀ d ∈ v, lt8 d) : c.length ≤ v.length + 3 ∧ ∀ d ∈ c, lt8 d := by
  have b := ((hw.2.2.2.1 r hr).2 0 (by decide))
  obtain ⟨-, e, -⟩ := h
  subst e
  refine ⟨?_, fun d hd => ?_⟩
  · rw [List.length_append, List.length_take]
    have := b.1
    omega
  · rcases List.mem_append.mp hd with q | q
    · exact h8 d (List.mem_of_mem_take q)
    · exact b.2.2 (by decide) d q
theorem UP_8 {A : Ab} {r : Nat} {v c : List Int32} (hw : WA A) (hr : r < aR A) (h : UP A r v c) (h8 : ∀ d ∈ v, lt8 d) : c.length ≤ v.length + 3 ∧ ∀ d ∈ c, lt8 d := by
  have b := ((hw.2.2.2.1 r hr).2 0 (by decide))
  obtain ⟨-, e, -⟩ := h
  subst e
  refine ⟨?_, fun d hd => ?_⟩
  · rw [List.length_append, List.length_drop]
    have := b.1
    omega
  · rcases List.mem_append.mp hd with q | q
    · exact b.2.2 (by decide) d q
    · exact h8 d (List.mem_of_mem_drop q)
theorem pI_neg {q : Nat} (h : q ≤ 10) : pI q < 0 ↔ q = 0 := by
  cases q with
  | zero => exact ⟨fun _ => rfl, fun _ => by decide⟩
  | succ q => rw [pI_s]; exact ⟨fun z => absurd z (nI_pos (by omega)), fun z => by cases z⟩
theorem x_searchSuffixes {g : Sg} {A : Ab} {L : List Nat} {v : List Int32} {q : Nat} (hJ : JX g A) (hW : RW (g.1 19) (g.2 18) v) (hl : v.length ≤ 15) (h8 : ∀ d ∈ v, lt8 d) (hL : LI g L) (hl2 : L.length + 12 * (1 + cS A (aR A)) ≤ 432) (hq : q ≤ aR A) (hno : ∀ x ∈ L, x % 11 < q) :
    mMv 0 2 y_X_searchSuffixes b_X_searchSuffixes 4 [.int (pI q)] g (fun t => fr [20, 21, 22, 23] g t ∧ ∃ M : List Nat, LI t M ∧ M.length ≤ L.length + 12 * (1 + cS A (aR A)) ∧ ∀ x : Nat, x ∈ M ↔ PS A L v q (aR A) x) := by
  refine m_v (Nat.zero_le _) (by decide) rfl (fun _ => Nat.le_of_ble_eq_true rfl) (fun h ad K hg hret => ?_)
  have hb := hg.b
  have hR := hJ.1.2.2.1
  obtain ⟨hn, hrw⟩ := hW
  have main : ∀ (n r : Nat) (t : Sg) (M : List Nat), r + n = aR A → fr [20, 21, 22, 23] g t → LI t M → M.length ≤ L.length + 12 * (1 + cS A r) → (∀ x : Nat, x ∈ M ↔ PS A L v q r x) → K t 44 [(2, .int (nI r)), (0, .ref h), (1, .int (pI q))] [] := by
    intro n
    induction n with
    | zero =>
      intro r t M hi ft hM hml hmem
      have hr : r = aR A := by omega
      subst hr
      have hJ2 : JX t A := JX_fr ft (by decide) hJ
      refine b_iload_n hb d_X_searchSuffixes_44 rfl rfl ?_
      refine b_aload_n hb d_X_searchSuffixes_45 rfl rfl ?_
      refine g_getN hg 4 fl_X_4 rfl d_X_searchSuffixes_46 (hJ2.2.2.2.1.1) ?_
      refine b_geN (tgt := 105) hb (by omega) (by omega) d_X_searchSuffixes_49 (by decide) (fun c1 => ?_) (fun c1 => ?_)
      · exact hret _ _ _ d_X_searchSuffixes_105 ⟨ft, M, hM, hml, hmem⟩
      · exact absurd c1 (by omega)
    | succ n ih =>
      intro r t M hi ft hM hml hmem
      have hr : r < aR A := by omega
      have hJ2 : JX t A := JX_fr ft (by decide) hJ
      obtain ⟨-, a2, a3, -⟩ := hJ2.2.2.2.1.2 r hr
      have next : ∀ (t2 : Sg) (M2 : List Nat), fr [20, 21, 22, 23] g t2 → LI t2 M2 → M2.length ≤ L.length + 12 * (1 + cS A (r + 1)) → (∀ x : Nat, x ∈ M2 ↔ PS A L v q (r + 1) x) → K t2 99 [(2, .int (nI r)), (0, .ref h), (1, .int (pI q))] [] := by
        intro t2 M2 f2 hM2 hl3 hm2
        refine b_iincN (lv' := [(2, _), (0, _), (1, _)]) hb d_X_searchSuffixes_99 rfl (by decide) rfl ?_
        refine b_goto (tgt := 44) hb d_X_searchSuffixes_102 (by decide) ?_
        exact ih (r + 1) t2 M2 (by omega) f2 hM2 hl3 hm2
      have skip : ∀ t2 : Sg, fr [20, 21] t t2 → (∀ c : List Int32, ¬ cor A q (r + 1) v c) → K t2 99 [(2, .int (nI r)), (0, .ref h), (1, .int (pI q))] [] := by
        intro t2 f2 hx
        have := cS_mono A r
        exact next t2 M (fr_tr ft (fr_mono f2 (by decide))) (LI_fr f2 (by decide) (by decide) hM) (by omega) (fun x => (hmem x).trans (PS_skip hx x))
      have go : aS A r = true → (q = 0 ∨ (aC A r = true ∧ aC A (q - 1) = true)) → K t 83 [(2, .int (nI r)), (0, .ref h), (1, .int (pI q))] [] := by
        intro hs hc
        refine b_aload_n hb d_X_searchSuffixes_83 rfl rfl ?_
        refine b_iload_n hb d_X_searchSuffixes_84 rfl rfl ?_
        refine g_calli hg (x_undoSuffix hJ2 (w := v) ⟨by rw [(ft 19 (by decide)).1]; exact hn, by rw [(ft 18 (by decide)).2]; exact hrw⟩ hl hr) lk_X_X_undoSuffix (by decide) d_X_searchSuffixes_85 rfl (Nat.le_of_ble_eq_true rfl) (fun r1 t2 hp => ?_)
        obtain ⟨f2, hp⟩ := hp
        refine b_istore_n (lv' := [(3, _), (2, _), (0, _), (1, _)]) hb d_X_searchSuffixes_88 rfl (by decide) rfl ?_
        refine b_iload_n hb d_X_searchSuffixes_89 rfl rfl ?_
        rcases hp with ⟨rfl, c, hUS, hWc⟩ | ⟨rfl, hUS⟩
        · refine b_if_eq (tgt := 99) hb d_X_searchSuffixes_90 (by decide) (fun c1 => ?_) (fun c1 => ?_)
          · exact absurd c1 (by decide)
          · have hcor : ∀ d : List Int32, cor A q (r + 1) v d ↔ d = c := by
              intro d
              constructor
              · rintro (z | z)
                · exact absurd z.1 (Nat.succ_ne_zero r)
                · exact z.2.2.2.2.1.trans hUS.2.1.symm
              · rintro rfl
                exact Or.inr ⟨Nat.succ_ne_zero r, hs, hc, hUS⟩
            have hUS2 := US_8 hJ.1 hr hUS h8
            have hcs := cS_s hs
            have hup := cS_up A (aR A - (r + 1)) (r + 1)
            rw [show r + 1 + (aR A - (r + 1)) = aR A by omega] at hup
            refine b_aload_n hb d_X_searchSuffixes_93 rfl rfl ?_
            refine b_iload_n hb d_X_searchSuffixes_94 rfl rfl ?_
            refine b_top (pI_s r).symm ?_
            refine b_iload_n hb d_X_searchSuffixes_95 rfl rfl ?_
            refine g_callv hg (x_takeStems (u := r + 1) (q := q) (L := M) (c := c) (JX_fr f2 (by decide) hJ2) hWc (by omega) hUS2.2 (LI_fr f2 (by decide) (by decide) hM) (by omega) hr hq (fun x hx z => ?z)) lk_X_X_takeStems (by decide) d_X_searchSuffixes_96 rfl (Nat.le_of_ble_eq_true rfl) (fun t3 hp3 => ?_)
            case z =>
              rcases (hmem x).mp hx with y | ⟨s, u, y1, -, -, -, -, y2⟩
              · have := hno x y; omega
              · subst y2
                rw [cd_u (by omega) (by omega)] at z
                omega
            obtain ⟨f3, M3, hM3, hl3, hm3⟩ := hp3
            refine b_sub hb [1, 2, 3] rfl ?_
            exact next t3 M3 (fr_tr ft (fr_tr (fr_mono f2 (by decide)) (fr_mono f3 (by decide)))) hM3 (by omega) (PS_step hmem hm3 hcor)
        · refine b_if_eq (tgt := 99) hb d_X_searchSuffixes_90 (by decide) (fun c1 => ?_) (fun c1 => ?_)
          · refine b_sub hb [1, 2, 3] rfl ?_
            refine skip t2 f2 (fun c z => ?_)
            rcases z with z | z
            · exact absurd z.1 (Nat.succ_ne_zero r)
            · exact hUS c z.2.2.2
          · exact absurd rfl c1
      refine b_iload_n hb d_X_searchSuffixes_44 rfl rfl ?_
      refine b_aload_n hb d_X_searchSuffixes_45 rfl rfl ?_
      refine g_getN hg 4 fl_X_4 rfl d_X_searchSuffixes_46 (hJ2.2.2.2.1.1) ?_
      refine b_geN (tgt := 105) hb (by omega) (by omega) d_X_searchSuffixes_49 (by decide) (fun c1 => ?_) (fun c1 => ?_)
      · exact absurd c1 (by omega)
      · refine b_aload_n hb d_X_searchSuffixes_52 rfl rfl ?_
        refine g_getA hg 6 fl_X_6 (Or.inr rfl) d_X_searchSuffixes_53 ?_
        refine b_iload_n hb d_X_searchSuffixes_56 rfl rfl ?_
        refine g_zald (n := 10) hg rfl rfl (by omega) d_X_searchSuffixes_57 (a2) ?_
        refine b_if_eq (tgt := 99) hb d_X_searchSuffixes_58 (by decide) (fun c2 => ?_) (fun c2 => ?_)
        · refine skip t fr_rf (fun c z => ?_)
          rcases z with z | z
          · exact absurd z.1 (Nat.succ_ne_zero r)
          · have h1 : aS A r = true := z.2.1
            rw [b2_0.mp c2] at h1
            cases h1
        · have hs : aS A r = true := by
            cases e : aS A r with
            | false => exact absurd (b2_0.mpr e) c2
            | true => rfl
          refine b_iload_n hb d_X_searchSuffixes_61 rfl rfl ?_
          refine b_if_lt (tgt := 83) hb d_X_searchSuffixes_62 (by decide) (fun c3 => ?_) (fun c3 => ?_)
          · exact go hs (Or.inl ((pI_neg (by omega)).mp c3))
          · have hq0 : q ≠ 0 := fun z => c3 ((pI_neg (by omega)).mpr z)
            refine b_aload_n hb d_X_searchSuffixes_65 rfl rfl ?_
            refine g_getA hg 7 fl_X_7 (Or.inr rfl) d_X_searchSuffixes_66 ?_
            refine b_iload_n hb d_X_searchSuffixes_69 rfl rfl ?_
            refine g_zald (n := 10) hg rfl rfl (by omega) d_X_searchSuffixes_70 (a3) ?_
            refine b_if_eq (tgt := 99) hb d_X_searchSuffixes_71 (by decide) (fun c4 => ?_) (fun c4 => ?_)
            · refine skip t fr_rf (fun c z => ?_)
              rcases z with z | z
              · exact absurd z.1 (Nat.succ_ne_zero r)
              · rcases z.2.2.1 with y | y
                · exact hq0 y
                · have h1 : aC A r = true := y.1
                  rw [b2_0.mp c4] at h1
                  cases h1
            · have hc1 : aC A r = true := by
                cases e : aC A r with
                | false => exact absurd (b2_0.mpr e) c4
                | true => rfl
              refine b_aload_n hb d_X_searchSuffixes_74 rfl rfl ?_
              refine g_getA hg 7 fl_X_7 (Or.inr rfl) d_X_searchSuffixes_75 ?_
              refine b_iload_n hb d_X_searchSuffixes_78 rfl rfl ?_
              have eq1 : pI q = nI (q - 1) := by
                obtain ⟨q1, rfl⟩ : ∃ q1, q = q1 + 1 := ⟨q - 1, by omega⟩
                exact pI_s q1
              refine b_top eq1 ?_
              refine g_zald (n := 10) hg rfl rfl (by omega) d_X_searchSuffixes_79 ((hJ2.2.2.2.1.2 (q - 1) (by omega)).2.2.1) ?_
              refine b_if_eq (tgt := 99) hb d_X_searchSuffixes_80 (by decide) (fun c5 => ?_) (fun c5 => ?_)
              · refine skip t fr_rf (fun c z => ?_)
                rcases z with z | z
                · exact absurd z.1 (Nat.succ_ne_zero r)
                · rcases z.2.2.1 with y | y
                  · exact hq0 y
                  · have h1 : aC A (q - 1) = true := y.2
                    rw [b2_0.mp c5] at h1
                    cases h1
              · refine go hs (Or.inr ⟨hc1, ?_⟩)
                cases e : aC A (q - 1) with
                | false => exact absurd (b2_0.mpr e) c5
                | true => rfl
  have copy : ∀ (n i : Nat) (t : Sg), i + n = v.length → fr [20, 21] g t → (∀ j : Nat, j < i → t.2 20 j = v.getD j 0) → K t 2 [(2, .int (nI i)), (0, .ref h), (1, .int (pI q))] [] := by
    intro n
    induction n with
    | zero =>
      intro i t hi ft h1
      have hJ2 : JX (xi t 21 v.length) A := JX_fr (fr_xi ft (by decide)) (by decide) hJ
      refine b_iload_n hb d_X_searchSuffixes_2 rfl rfl ?_
      refine b_aload_n hb d_X_searchSuffixes_3 rfl rfl ?_
      refine g_getN hg 19 fl_X_19 rfl d_X_searchSuffixes_4 (show _ = v.length from (ft 19 (by decide)).1.trans hn) ?_
      refine b_geN (tgt := 28) hb (by omega) (by omega) d_X_searchSuffixes_7 (by decide) (fun c1 => ?_) (fun c1 => ?_)
      · refine b_aload_n hb d_X_searchSuffixes_28 rfl rfl ?_
        refine b_aload_n hb d_X_searchSuffixes_29 rfl rfl ?_
        refine g_getN hg 19 fl_X_19 rfl d_X_searchSuffixes_30 (show _ = v.length from (ft 19 (by decide)).1.trans hn) ?_
        refine g_putN hg 21 fl_X_21 rfl d_X_searchSuffixes_33 ?_
        refine b_aload_n hb d_X_searchSuffixes_36 rfl rfl ?_
        refine b_iconst (v := -1) hb d_X_searchSuffixes_37 rfl ?_
        refine b_top pI_0.symm ?_
        refine b_iload_n hb d_X_searchSuffixes_38 rfl rfl ?_
        have f1 : fr [20, 21] g (xi t 21 v.length) := fr_xi ft (by decide)
        refine g_callv hg (x_takeStems (u := 0) (q := q) (L := L) (c := v) hJ2 ⟨rfl, fun j hj => by rw [Nat.zero_add]; exact h1 j (by omega)⟩ (by omega) h8 (LI_fr f1 (by decide) (by decide) hL) (by omega) (Nat.zero_le _) hq (fun x hx z => by have := hno x hx; omega)) lk_X_X_takeStems (by decide) d_X_searchSuffixes_39 rfl (Nat.le_of_ble_eq_true rfl) (fun t3 hp3 => ?_)
        obtain ⟨f3, M3, hM3, hl3, hm3⟩ := hp3
        refine b_iconst (v := nI 0) hb d_X_searchSuffixes_42 rfl ?_
        refine b_istore_n (lv' := [(2, _), (0, _), (1, _)]) hb d_X_searchSuffixes_43 rfl (by decide) rfl ?_
        exact main (aR A) 0 t3 M3 (by omega) (fr_tr (fr_mono f1 (by decide)) (fr_mono f3 (by decide))) hM3 hl3 (PS_zero hm3)
      · exact absurd c1 (by omega)
    | succ n ih =>
      intro i t hi ft h1
      refine b_iload_n hb d_X_searchSuffixes_2 rfl rfl ?_
      refine b_aload_n hb d_X_searchSuffixes_3 rfl rfl ?_
      refine g_getN hg 19 fl_X_19 rfl d_X_searchSuffixes_4 (show _ = v.length from (ft 19 (by decide)).1.trans hn) ?_
      refine b_geN (tgt := 28) hb (by omega) (by omega) d_X_searchSuffixes_7 (by decide) (fun c1 => ?_) (fun c1 => ?_)
      · exact absurd c1 (by omega)
      · refine b_aload_n hb d_X_searchSuffixes_10 rfl rfl ?_
        refine g_getA hg 20 fl_X_20 (Or.inl rfl) d_X_searchSuffixes_11 ?_
        refine b_iload_n hb d_X_searchSuffixes_14 rfl rfl ?_
        refine b_aload_n hb d_X_searchSuffixes_15 rfl rfl ?_
        refine g_getA hg 18 fl_X_18 (Or.inl rfl) d_X_searchSuffixes_16 ?_
        refine b_iload_n hb d_X_searchSuffixes_19 rfl rfl ?_
        refine g_iald (n := 16) hg rfl rfl (by omega) d_X_searchSuffixes_20 ((show t.2 18 i = v.getD i 0 by rw [(ft 18 (by decide)).2]; exact rep_0 hrw c1)) ?_
        refine g_iast (n := 20) hg rfl rfl (by omega) d_X_searchSuffixes_21 ?_
        refine b_iincN (lv' := [(2, _), (0, _), (1, _)]) hb d_X_searchSuffixes_22 rfl (by decide) rfl ?_
        refine b_goto (tgt := 2) hb d_X_searchSuffixes_25 (by decide) ?_
        refine ih (i + 1) _ (by omega) (fr_xa ft (by decide)) (fun j hj => ?_)
        show upd (t.2 20) _ _ j = _
        by_cases e : j = i
        · subst e; exact pk_us
        · rw [pk_un e]; exact h1 j (by omega)
  show K g 0 [(0, .ref h), (1, .int (pI q))] []
  refine b_iconst (v := nI 0) hb d_X_searchSuffixes_0 rfl ?_
  refine b_istore_n (lv' := [(2, _), (0, _), (1, _)]) hb d_X_searchSuffixes_1 rfl (by decide) rfl ?_
  exact copy v.length 0 g (by omega) fr_rf (fun j hj => absurd hj (Nat.not_lt_zero j))
end
section
/-! AffixSpeller: search, and the questions -/
noncomputable def ders (A : Ab) (w : List Int32) : List Nat := (List.range 1452).filter (fun x => @decide (derP A w (x / 121) (x / 11 % 11) (x % 11)) (Classical.propDecidable _))
theorem ders_pw (A : Ab) (w : List Int32) : (ders A w).Pairwise (· < ·) := List.Pairwise.filter _ List.pairwise_lt_range
theorem ders_mem {A : Ab} {w : List Int32} {x : Nat} : x ∈ ders A w ↔ x < 1452 ∧ derP A w (x / 121) (x / 11 % 11) (x % 11) := by
  unfold ders
  rw [List.mem_filter, List.mem_range]
  exact ⟨fun h => ⟨h.1, @of_decide_eq_true _ (Classical.propDecidable _) h.2⟩, fun h => ⟨h.1, @decide_eq_true _ (Classical.propDecidable _) h.2⟩⟩
theorem ders_mem2 {A : Ab} {w : List Int32} {x : Nat} (hw : WA A) : x ∈ ders A w ↔ ∃ s u q : Nat, derP A w s u q ∧ x = s * 121 + u * 11 + q := by
  have hR := hw.2.2.1
  have hN := hw.2.2.2.2.1
  rw [ders_mem]
  constructor
  · intro h
    exact ⟨_, _, _, h.2, by omega⟩
  · rintro ⟨s, u, q, h, rfl⟩
    have h2 := h.2.1
    have h3 := h.2.2.1
    have h4 := h.2.2.2.1
    refine ⟨by omega, ?_⟩
    rw [cd_s (by omega) (by omega), cd_u (by omega) (by omega), cd_q (by omega)]
    exact h
theorem ders_len (A : Ab) (w : List Int32) : (ders A w).length ≤ 1452 := by
  have := List.length_filter_le (fun x => @decide (derP A w (x / 121) (x / 11 % 11) (x % 11)) (Classical.propDecidable _)) (List.range 1452)
  rw [List.length_range] at this
  exact this
theorem ders_eq {A : Ab} {w : List Int32} {M : List Nat} (hw : WA A) (hp : M.Pairwise (· < ·)) (h : ∀ x : Nat, x ∈ M ↔ ∃ s u q : Nat, derP A w s u q ∧ x = s * 121 + u * 11 + q) : M = ders A w := so_ext _ _ hp (ders_pw A w) (fun x => (h x).trans (ders_mem2 hw).symm)
theorem ders_nil {A : Ab} {w : List Int32} (h : ∀ s u q : Nat, ¬ derP A w s u q) : ders A w = [] := by
  apply List.eq_nil_iff_forall_not_mem.mpr
  intro x hx
  exact h _ _ _ (ders_mem.mp hx).2
/-- the letters of a derived word are 1 to 8 -/
theorem der_8 {A : Ab} {w : List Int32} {s u q : Nat} (hw : WA A) (h : derP A w s u q) : ∀ c ∈ w, lt8 c := by
  obtain ⟨-, hs, hu, hq, -, -, v, hi, hc⟩ := h
  have hL := (hw.2.2.2.2.2 s hs).2.2.1
  have hv : ∀ c ∈ v, lt8 c := by
    rcases hc with ⟨-, e⟩ | ⟨h0, -, -, hE, e, -⟩
    · rw [← e]; exact hL
    · intro c hc
      have hap := ((hw.2.2.2.1 (u - 1) (by omega)).2 1 (by decide)).2.2 (by decide)
      obtain ⟨i, hi, rfl⟩ := gd_of hc
      by_cases z : i < v.length - (aP A (u - 1) 1).length
      · refine hL _ ?_
        rw [e]
        refine List.mem_append_left _ ?_
        rw [← gd_take z]
        exact gd_mem (by rw [List.length_take]; omega)
      · have h1 := hE.1
        have h2 := hE.2 (i - (v.length - (aP A (u - 1) 1).length)) (by omega)
        rw [show v.length - (aP A (u - 1) 1).length + (i - (v.length - (aP A (u - 1) 1).length)) = i by omega] at h2
        rw [h2]
        exact hap _ (gd_mem (by omega))
  rcases hi with ⟨-, e⟩ | ⟨h0, -, hB, e, -⟩
  · rw [← e]; exact hv
  · intro c hc
    have hap := ((hw.2.2.2.1 (q - 1) (by omega)).2 1 (by decide)).2.2 (by decide)
    obtain ⟨i, hi, rfl⟩ := gd_of hc
    by_cases z : i < (aP A (q - 1) 1).length
    · rw [hB.2 i z]
      exact hap _ (gd_mem z)
    · refine hv _ ?_
      rw [e]
      refine List.mem_append_right _ ?_
      have e2 : w.getD i 0 = (w.drop (aP A (q - 1) 1).length).getD (i - (aP A (q - 1) 1).length) 0 := by
        rw [gd_drop]
        congr 1
        omega
      rw [e2]
      exact gd_mem (by rw [List.length_drop]; omega)
theorem ders_9 {A : Ab} {w : List Int32} (hw : WA A) (h : any9 w = true) : ders A w = [] := by
  refine ders_nil (fun s u q hd => ?_)
  obtain ⟨c, hc, e⟩ := List.any_eq_true.mp h
  obtain ⟨n, h1, h2, h3⟩ := der_8 hw hd c hc
  have e2 : c = 9 := eq_of_beq e
  have := (nI_eq (b := 9) (by omega) (by decide)).mp (h3.symm.trans e2)
  omega
theorem ders_0 {A : Ab} {w : List Int32} (h : w.length = 0) : ders A w = [] := ders_nil (fun _ _ _ hd => hd.1 h)
def PQ (A : Ab) (w : List Int32) (r x : Nat) : Prop := ∃ s u q : Nat, q ≤ r ∧ s < aN A ∧ u ≤ aR A ∧ okk A s u ∧ okk A s q ∧ (∃ v : List Int32, inn A q w v ∧ cor A q u v (aL A s)) ∧ x = s * 121 + u * 11 + q
theorem PQ_zero {A : Ab} {w : List Int32} {M : List Nat} (h : ∀ x : Nat, x ∈ M ↔ PS A [] w 0 (aR A) x) (x : Nat) : x ∈ M ↔ PQ A w 0 x := by
  rw [h x]
  constructor
  · rintro (z | ⟨s, u, h1, h2, h3, h4, h5, h6⟩)
    · cases z
    · exact ⟨s, u, 0, Nat.le_refl _, h2, h1, h3, h4, ⟨w, Or.inl ⟨rfl, rfl⟩, h5⟩, h6⟩
  · rintro ⟨s, u, q, h0, h2, h1, h3, h4, ⟨v, hi, h5⟩, h6⟩
    have : q = 0 := by omega
    subst this
    rcases hi with ⟨-, rfl⟩ | z
    · exact Or.inr ⟨s, u, h1, h2, h3, h4, h5, h6⟩
    · exact absurd rfl z.1
theorem PQ_skip {A : Ab} {w : List Int32} {r : Nat} (h : ∀ v : List Int32, ¬ inn A (r + 1) w v) (x : Nat) : PQ A w r x ↔ PQ A w (r + 1) x := by
  constructor
  · rintro ⟨s, u, q, h0, z⟩
    exact ⟨s, u, q, by omega, z⟩
  · rintro ⟨s, u, q, h0, z⟩
    rcases Nat.lt_or_ge r q with e | e
    · have : q = r + 1 := by omega
      subst this
      obtain ⟨v, hv, -⟩ := z.2.2.2.2.1
      exact absurd hv (h v)
    · exact ⟨s, u, q, e, z⟩
theorem PQ_step {A : Ab} {w v : List Int32} {M M2 : List Nat} {r : Nat} (hM : ∀ x : Nat, x ∈ M ↔ PQ A w r x) (h2 : ∀ x : Nat, x ∈ M2 ↔ PS A M v (r + 1) (aR A) x) (h : ∀ d : List Int32, inn A (r + 1) w d ↔ d = v) (x : Nat) : x ∈ M2 ↔ PQ A w (r + 1) x := by
  rw [h2 x]
  constructor
  · rintro (z | ⟨s, u, h1, h2, h3, h4, h5, h6⟩)
    · obtain ⟨s, u, q, h0, z⟩ := (hM x).mp z
      exact ⟨s, u, q, by omega, z⟩
    · exact ⟨s, u, r + 1, Nat.le_refl _, h2, h1, h3, h4, ⟨v, (h v).mpr rfl, h5⟩, h6⟩
  · rintro ⟨s, u, q, h0, z⟩
    rcases Nat.lt_or_ge r q with e | e
    · have : q = r + 1 := by omega
      subst this
      obtain ⟨v2, hv, hc⟩ := z.2.2.2.2.1
      have := (h v2).mp hv
      subst this
      exact Or.inr ⟨s, u, z.2.1, z.1, z.2.2.1, z.2.2.2.1, hc, z.2.2.2.2.2⟩
    · exact Or.inl ((hM x).mpr ⟨s, u, q, e, z⟩)
theorem x_search {g : Sg} {A : Ab} {w : List Int32} (hJ : JX g A) (hW : RW (g.1 17) (g.2 16) w) (hl : w.length ≤ 12) (h8 : ∀ d ∈ w, lt8 d) :
    mMv 0 3 y_X_search b_X_search 3 [] g (fun t => fr [18, 19, 20, 21, 22, 23] g t ∧ LI t (ders A w) ∧ (ders A w).length ≤ 432) := by
  refine m_v (Nat.zero_le _) (by decide) rfl (fun _ => Nat.le_of_ble_eq_true rfl) (fun h ad K hg hret => ?_)
  have hb := hg.b
  have hR := hJ.1.2.2.1
  obtain ⟨hn, hrw⟩ := hW
  have hcR := cS_le A (aR A)
  have main : w.length ≠ 0 → ∀ (n r : Nat) (t : Sg) (M : List Nat), r + n = aR A → fr [18, 19, 20, 21, 22, 23] g t → LI t M → M.length ≤ 12 * ((1 + cS A (aR A)) * (1 + (r - cS A r))) → (∀ x : Nat, x ∈ M ↔ PQ A w r x) → K t 56 [(1, .int (nI r)), (0, .ref h)] [] := by
    intro hw0 n
    induction n with
    | zero =>
      intro r t M hi ft hM hml hmem
      have hr : r = aR A := by omega
      subst hr
      have hJ2 : JX t A := JX_fr ft (by decide) hJ
      refine b_iload_n hb d_X_search_56 rfl rfl ?_
      refine b_aload_n hb d_X_search_57 rfl rfl ?_
      refine g_getN hg 4 fl_X_4 rfl d_X_search_58 (hJ2.2.2.2.1.1) ?_
      refine b_geN (tgt := 94) hb (by omega) (by omega) d_X_search_61 (by decide) (fun c1 => ?_) (fun c1 => ?_)
      · have e : M = ders A w := by
          refine ders_eq hJ.1 hM.2.2.1 (fun x => (hmem x).trans ⟨?_, ?_⟩)
          · rintro ⟨s, u, q, h0, h1, h2, h3, h4, h5, h6⟩
            exact ⟨s, u, q, ⟨hw0, h1, h2, h0, h3, h4, h5⟩, h6⟩
          · rintro ⟨s, u, q, ⟨-, h1, h2, h0, h3, h4, h5⟩, h6⟩
            exact ⟨s, u, q, h0, h1, h2, h3, h4, h5, h6⟩
        exact hret _ _ _ d_X_search_94 ⟨ft, e ▸ hM, e ▸ Nat.le_trans hml (c36 (cS A (aR A)) (by omega) (aR A - cS A (aR A)) (by omega) (by omega))⟩
      · exact absurd c1 (by omega)
    | succ n ih =>
      intro r t M hi ft hM hml hmem
      have hr : r < aR A := by omega
      have hJ2 : JX t A := JX_fr ft (by decide) hJ
      obtain ⟨-, a2, -, -⟩ := hJ2.2.2.2.1.2 r hr
      have hcr := cS_le A r
      have next : ∀ (t2 : Sg) (M2 : List Nat), fr [18, 19, 20, 21, 22, 23] g t2 → LI t2 M2 → M2.length ≤ 12 * ((1 + cS A (aR A)) * (1 + (r + 1 - cS A (r + 1)))) → (∀ x : Nat, x ∈ M2 ↔ PQ A w (r + 1) x) → K t2 88 [(1, .int (nI r)), (0, .ref h)] [] := by
        intro t2 M2 f2 hM2 hl3 hm2
        refine b_iincN (lv' := [(1, _), (0, _)]) hb d_X_search_88 rfl (by decide) rfl ?_
        refine b_goto (tgt := 56) hb d_X_search_91 (by decide) ?_
        exact ih (r + 1) t2 M2 (by omega) f2 hM2 hl3 hm2
      have skip : ∀ t2 : Sg, fr [18, 19] t t2 → (∀ v : List Int32, ¬ inn A (r + 1) w v) → K t2 88 [(1, .int (nI r)), (0, .ref h)] [] := by
        intro t2 f2 hx
        refine next t2 M (fr_tr ft (fr_mono f2 (by decide))) (LI_fr f2 (by decide) (by decide) hM) (Nat.le_trans hml ?_) (fun x => (hmem x).trans (PQ_skip hx x))
        refine Nat.mul_le_mul_left _ (Nat.mul_le_mul_left _ ?_)
        have : cS A (r + 1) ≤ cS A r + 1 := by
          show cS A r + (if aS A r = true then 1 else 0) ≤ _
          split <;> omega
        omega
      refine b_iload_n hb d_X_search_56 rfl rfl ?_
      refine b_aload_n hb d_X_search_57 rfl rfl ?_
      refine g_getN hg 4 fl_X_4 rfl d_X_search_58 (hJ2.2.2.2.1.1) ?_
      refine b_geN (tgt := 94) hb (by omega) (by omega) d_X_search_61 (by decide) (fun c1 => ?_) (fun c1 => ?_)
      · exact absurd c1 (by omega)
      · refine b_aload_n hb d_X_search_64 rfl rfl ?_
        refine g_getA hg 6 fl_X_6 (Or.inr rfl) d_X_search_65 ?_
        refine b_iload_n hb d_X_search_68 rfl rfl ?_
        refine g_zald (n := 10) hg rfl rfl (by omega) d_X_search_69 (a2) ?_
        refine b_if_ne (tgt := 88) hb d_X_search_70 (by decide) (fun c2 => ?_) (fun c2 => ?_)
        · refine skip t fr_rf (fun c z => ?_)
          rcases z with z | z
          · exact absurd z.1 (Nat.succ_ne_zero r)
          · exact c2 (b2_0.mpr z.2.1)
        · have hs : aS A r = false := b2_0.mp c2
          have hcs := cS_n hs
          refine b_aload_n hb d_X_search_73 rfl rfl ?_
          refine b_iload_n hb d_X_search_74 rfl rfl ?_
          refine g_calli hg (x_undoPrefix hJ2 (w := w) ⟨by rw [(ft 17 (by decide)).1]; exact hn, by rw [(ft 16 (by decide)).2]; exact hrw⟩ hl hr) lk_X_X_undoPrefix (by decide) d_X_search_75 rfl (Nat.le_of_ble_eq_true rfl) (fun r1 t2 hp => ?_)
          obtain ⟨f2, hp⟩ := hp
          refine b_istore_n (lv' := [(2, _), (1, _), (0, _)]) hb d_X_search_78 rfl (by decide) rfl ?_
          refine b_iload_n hb d_X_search_79 rfl rfl ?_
          rcases hp with ⟨rfl, v, hUP, hWv⟩ | ⟨rfl, hUP⟩
          · refine b_if_eq (tgt := 88) hb d_X_search_80 (by decide) (fun c3 => ?_) (fun c3 => ?_)
            · exact absurd c3 (by decide)
            · have hinn : ∀ d : List Int32, inn A (r + 1) w d ↔ d = v := by
                intro d
                constructor
                · rintro (z | z)
                  · exact absurd z.1 (Nat.succ_ne_zero r)
                  · exact z.2.2.2.1.trans hUP.2.1.symm
                · rintro rfl
                  exact Or.inr ⟨Nat.succ_ne_zero r, hs, hUP⟩
              have hUP2 := UP_8 hJ.1 hr hUP h8
              have hup := cS_up A (aR A - (r + 1)) (r + 1)
              rw [show r + 1 + (aR A - (r + 1)) = aR A by omega] at hup
              have hbnd : M.length + 12 * (1 + cS A (aR A)) ≤ 12 * ((1 + cS A (aR A)) * (1 + (r + 1 - cS A (r + 1)))) := by
                rw [hcs, show 1 + (r + 1 - cS A r) = (1 + (r - cS A r)) + 1 by omega, Nat.mul_succ, Nat.mul_add]
                omega
              have h432 : 12 * ((1 + cS A (aR A)) * (1 + (r + 1 - cS A (r + 1)))) ≤ 432 := by
                have hc36 := c36 (cS A (aR A)) (by omega) (aR A - cS A (aR A)) (by omega) (by omega)
                refine Nat.le_trans (Nat.mul_le_mul_left _ (Nat.mul_le_mul_left _ ?_)) hc36
                have hs2 : cS A (aR A) ≤ cS A (r + 1) + (aR A - (r + 1)) := by
                  have key : ∀ n k : Nat, cS A (k + n) ≤ cS A k + n := by
                    intro n
                    induction n with
                    | zero => intro k; exact Nat.le_refl _
                    | succ n ih2 =>
                      intro k
                      have := ih2 k
                      show cS A (k + n) + (if aS A (k + n) = true then 1 else 0) ≤ _
                      split <;> omega
                  have := key (aR A - (r + 1)) (r + 1)
                  rw [show r + 1 + (aR A - (r + 1)) = aR A by omega] at this
                  exact this
                omega
              refine b_aload_n hb d_X_search_83 rfl rfl ?_
              refine b_iload_n hb d_X_search_84 rfl rfl ?_
              refine b_top (pI_s r).symm ?_
              refine g_callv hg (x_searchSuffixes (q := r + 1) (L := M) (v := v) (JX_fr f2 (by decide) hJ2) hWv (by omega) hUP2.2 (LI_fr f2 (by decide) (by decide) hM) (by omega) hr (fun x hx => ?z)) lk_X_X_searchSuffixes (by decide) d_X_search_85 rfl (Nat.le_of_ble_eq_true rfl) (fun t3 hp3 => ?_)
              case z =>
                obtain ⟨s, u, q, y1, -, y3, -, -, -, y2⟩ := (hmem x).mp hx
                subst y2
                rw [cd_q (by omega)]
                omega
              obtain ⟨f3, M3, hM3, hl3, hm3⟩ := hp3
              refine b_sub hb [1, 2] rfl ?_
              exact next t3 M3 (fr_tr ft (fr_tr (fr_mono f2 (by decide)) (fr_mono f3 (by decide)))) hM3 (Nat.le_trans hl3 hbnd) (PQ_step hmem hm3 hinn)
          · refine b_if_eq (tgt := 88) hb d_X_search_80 (by decide) (fun c3 => ?_) (fun c3 => ?_)
            · refine b_sub hb [1, 2] rfl ?_
              refine skip t2 f2 (fun c z => ?_)
              rcases z with z | z
              · exact absurd z.1 (Nat.succ_ne_zero r)
              · exact hUP c z.2.2
            · exact absurd rfl c3
  have copy : w.length ≠ 0 → ∀ (n i : Nat) (t : Sg), i + n = w.length → fr [18, 19, 22] g t → LI t [] → (∀ j : Nat, j < i → t.2 18 j = w.getD j 0) → K t 15 [(1, .int (nI i)), (0, .ref h)] [] := by
    intro hw0 n
    induction n with
    | zero =>
      intro i t hi ft hLI h1
      have hJ2 : JX (xi t 19 w.length) A := JX_fr (fr_xi ft (by decide)) (by decide) hJ
      refine b_iload_n hb d_X_search_15 rfl rfl ?_
      refine b_aload_n hb d_X_search_16 rfl rfl ?_
      refine g_getN hg 17 fl_X_17 rfl d_X_search_17 (show _ = w.length from (ft 17 (by decide)).1.trans hn) ?_
      refine b_geN (tgt := 41) hb (by omega) (by omega) d_X_search_20 (by decide) (fun c1 => ?_) (fun c1 => ?_)
      · refine b_aload_n hb d_X_search_41 rfl rfl ?_
        refine b_aload_n hb d_X_search_42 rfl rfl ?_
        refine g_getN hg 17 fl_X_17 rfl d_X_search_43 (show _ = w.length from (ft 17 (by decide)).1.trans hn) ?_
        refine g_putN hg 19 fl_X_19 rfl d_X_search_46 ?_
        refine b_aload_n hb d_X_search_49 rfl rfl ?_
        refine b_iconst (v := -1) hb d_X_search_50 rfl ?_
        refine b_top pI_0.symm ?_
        have f1 : fr [18, 19, 22] g (xi t 19 w.length) := fr_xi ft (by decide)
        refine g_callv hg (x_searchSuffixes (q := 0) (L := []) (v := w) hJ2 ⟨rfl, fun j hj => by rw [Nat.zero_add]; exact h1 j (by omega)⟩ (by omega) h8 (LI_fr (a := t) (S := [19]) (fr_xi fr_rf (by decide)) (by decide) (by decide) hLI) (by show 0 + 12 * (1 + cS A (aR A)) ≤ 432; omega) (Nat.zero_le _) (fun x hx => by cases hx)) lk_X_X_searchSuffixes (by decide) d_X_search_51 rfl (Nat.le_of_ble_eq_true rfl) (fun t3 hp3 => ?_)
        obtain ⟨f3, M3, hM3, hl3, hm3⟩ := hp3
        refine b_iconst (v := nI 0) hb d_X_search_54 rfl ?_
        refine b_istore_n (lv' := [(1, _), (0, _)]) hb d_X_search_55 rfl (by decide) rfl ?_
        refine main hw0 (aR A) 0 t3 M3 (by omega) (fr_tr (fr_mono f1 (by decide)) (fr_mono f3 (by decide))) hM3 ?_ (PQ_zero hm3)
        have hl4 : M3.length ≤ 0 + 12 * (1 + cS A (aR A)) := hl3
        rw [show 1 + (0 - cS A 0) = 1 from rfl, Nat.mul_one]
        omega
      · exact absurd c1 (by omega)
    | succ n ih =>
      intro i t hi ft hLI h1
      refine b_iload_n hb d_X_search_15 rfl rfl ?_
      refine b_aload_n hb d_X_search_16 rfl rfl ?_
      refine g_getN hg 17 fl_X_17 rfl d_X_search_17 (show _ = w.length from (ft 17 (by decide)).1.trans hn) ?_
      refine b_geN (tgt := 41) hb (by omega) (by omega) d_X_search_20 (by decide) (fun c1 => ?_) (fun c1 => ?_)
      · exact absurd c1 (by omega)
      · refine b_aload_n hb d_X_search_23 rfl rfl ?_
        refine g_getA hg 18 fl_X_18 (Or.inl rfl) d_X_search_24 ?_
        refine b_iload_n hb d_X_search_27 rfl rfl ?_
        refine b_aload_n hb d_X_search_28 rfl rfl ?_
        refine g_getA hg 16 fl_X_16 (Or.inl rfl) d_X_search_29 ?_
        refine b_iload_n hb d_X_search_32 rfl rfl ?_
        refine g_iald (n := 13) hg rfl rfl (by omega) d_X_search_33 ((show t.2 16 i = w.getD i 0 by rw [(ft 16 (by decide)).2]; exact rep_0 hrw c1)) ?_
        refine g_iast (n := 16) hg rfl rfl (by omega) d_X_search_34 ?_
        refine b_iincN (lv' := [(1, _), (0, _)]) hb d_X_search_35 rfl (by decide) rfl ?_
        refine b_goto (tgt := 15) hb d_X_search_38 (by decide) ?_
        refine ih (i + 1) _ (by omega) (fr_xa ft (by decide)) (LI_fr (a := t) (S := [18]) (fr_xa fr_rf (by decide)) (by decide) (by decide) hLI) (fun j hj => ?_)
        show upd (t.2 18) _ _ j = _
        by_cases e : j = i
        · subst e; exact pk_us
        · rw [pk_un e]; exact h1 j (by omega)
  show K g 0 [(0, .ref h)] []
  have hnil : LI (xi g 22 0) [] := ⟨rfl, fun i hi => absurd hi (Nat.not_lt_zero i), List.Pairwise.nil, fun x hx => by cases hx⟩
  refine b_aload_n hb d_X_search_0 rfl rfl ?_
  refine b_iconst (v := nI 0) hb d_X_search_1 rfl ?_
  refine g_putN hg 22 fl_X_22 rfl d_X_search_2 ?_
  refine b_aload_n hb d_X_search_5 rfl rfl ?_
  refine g_getN hg 17 fl_X_17 rfl d_X_search_6 (hn) ?_
  refine b_ne0N (tgt := 13) hb (by omega) d_X_search_9 (by decide) (fun c1 => ?_) (fun c1 => ?_)
  · refine b_iconst (v := nI 0) hb d_X_search_13 rfl ?_
    refine b_istore_n (lv' := [(1, _), (0, _)]) hb d_X_search_14 rfl (by decide) rfl ?_
    exact copy c1 w.length 0 _ (by omega) (fr_xi fr_rf (by decide)) hnil (fun j hj => absurd hj (Nat.not_lt_zero j))
  · exact hret _ _ _ d_X_search_12 ⟨fr_xi fr_rf (by decide), by rw [ders_0 c1]; exact hnil, by rw [ders_0 c1]; exact Nat.zero_le _⟩
theorem x_searchTyped {g : Sg} {A : Ab} (hJ : JX g A) : mMv 0 4 y_X_searchTyped b_X_searchTyped 3 [] g (fun t => JX t A ∧ LI t (ders A (aw A)) ∧ (ders A (aw A)).length ≤ 432) := by
  refine m_v (Nat.zero_le _) (by decide) rfl (fun _ => Nat.le_of_ble_eq_true rfl) (fun h ad K hg hret => ?_)
  have hb := hg.b
  obtain ⟨hw, ⟨hn, hrw⟩, hrest⟩ := id hJ
  have hle : (aw A).length ≤ 12 := hw.1.1
  have copy : ∀ (w : List Int32) (b : Int32), w.length ≤ 12 → (∀ j : Nat, j < w.length → w.getD j 0 = (aw A).getD j 0) → w.length ≤ (aw A).length → (∀ d ∈ w, lt8 d) → ders A w = ders A (aw A) → ∀ (n i : Nat) (t : Sg), i + n = w.length → fr [16, 17] g t → t.1 17 = w.length → (∀ j : Nat, j < i → t.2 16 j = w.getD j 0) → K t 23 [(2, .int (nI i)), (1, .int b), (0, .ref h)] [] := by
    intro w b hwl hwe hwl2 h8 hde n
    induction n with
    | zero =>
      intro i t hi ft h17 h1
      have hJ2 : JX t A := JX_fr ft (by decide) hJ
      refine b_iload_n hb d_X_searchTyped_23 rfl rfl ?_
      refine b_aload_n hb d_X_searchTyped_24 rfl rfl ?_
      refine g_getN hg 17 fl_X_17 rfl d_X_searchTyped_25 (h17) ?_
      refine b_geN (tgt := 49) hb (by omega) (by omega) d_X_searchTyped_28 (by decide) (fun c1 => ?_) (fun c1 => ?_)
      · refine b_aload_n hb d_X_searchTyped_49 rfl rfl ?_
        refine g_callv hg (x_search hJ2 (w := w) ⟨h17, fun j hj => by rw [Nat.zero_add]; exact h1 j (by omega)⟩ hwl h8) lk_X_X_search (by decide) d_X_searchTyped_50 rfl (Nat.le_of_ble_eq_true rfl) (fun t3 hp3 => ?_)
        exact hret _ _ _ d_X_searchTyped_53 ⟨JX_fr hp3.1 (by decide) hJ2, hde ▸ hp3.2.1, hde ▸ hp3.2.2⟩
      · exact absurd c1 (by omega)
    | succ n ih =>
      intro i t hi ft h17 h1
      refine b_iload_n hb d_X_searchTyped_23 rfl rfl ?_
      refine b_aload_n hb d_X_searchTyped_24 rfl rfl ?_
      refine g_getN hg 17 fl_X_17 rfl d_X_searchTyped_25 (h17) ?_
      refine b_geN (tgt := 49) hb (by omega) (by omega) d_X_searchTyped_28 (by decide) (fun c1 => ?_) (fun c1 => ?_)
      · exact absurd c1 (by omega)
      · refine b_aload_n hb d_X_searchTyped_31 rfl rfl ?_
        refine g_getA hg 16 fl_X_16 (Or.inl rfl) d_X_searchTyped_32 ?_
        refine b_iload_n hb d_X_searchTyped_35 rfl rfl ?_
        refine b_aload_n hb d_X_searchTyped_36 rfl rfl ?_
        refine g_getA hg 0 fl_X_0 (Or.inl rfl) d_X_searchTyped_37 ?_
        refine b_iload_n hb d_X_searchTyped_40 rfl rfl ?_
        refine g_iald (n := 12) hg rfl rfl (by omega) d_X_searchTyped_41 ((show t.2 0 i = w.getD i 0 by rw [(ft 0 (by decide)).2, hwe i c1]; exact rep_0 hrw (by omega))) ?_
        refine g_iast (n := 13) hg rfl rfl (by omega) d_X_searchTyped_42 ?_
        refine b_iincN (lv' := [(2, _), (1, _), (0, _)]) hb d_X_searchTyped_43 rfl (by decide) rfl ?_
        refine b_goto (tgt := 23) hb d_X_searchTyped_46 (by decide) ?_
        refine ih (i + 1) _ (by omega) (fr_xa ft (by decide)) h17 (fun j hj => ?_)
        show upd (t.2 16) _ _ j = _
        by_cases e : j = i
        · subst e; exact pk_us
        · rw [pk_un e]; exact h1 j (by omega)
  show K g 0 [(0, .ref h)] []
  refine b_aload_n hb d_X_searchTyped_0 rfl rfl ?_
  refine g_calli hg (x_hasAny ⟨hn, hrw⟩ hle) lk_X_X_hasAny (by decide) d_X_searchTyped_1 rfl (Nat.le_of_ble_eq_true rfl) (fun r u hp => ?_)
  obtain ⟨rfl, rfl⟩ := hp
  refine b_istore_n (lv' := [(1, _), (0, _)]) hb d_X_searchTyped_4 rfl (by decide) rfl ?_
  refine b_aload_n hb d_X_searchTyped_5 rfl rfl ?_
  refine b_iload_n hb d_X_searchTyped_6 rfl rfl ?_
  refine b_if_eq (tgt := 14) hb d_X_searchTyped_7 (by decide) (fun c1 => ?_) (fun c1 => ?_)
  · have h9 : any9 (aw A) = false := b2_0.mp c1
    refine b_aload_n hb d_X_searchTyped_14 rfl rfl ?_
    refine g_getN hg 1 fl_X_1 rfl d_X_searchTyped_15 (hn) ?_
    refine g_putN hg 17 fl_X_17 rfl d_X_searchTyped_18 ?_
    refine b_iconst (v := nI 0) hb d_X_searchTyped_21 rfl ?_
    refine b_istore_n (lv' := [(2, _), (1, _), (0, _)]) hb d_X_searchTyped_22 rfl (by decide) rfl ?_
    exact copy (aw A) _ hle (fun j _ => rfl) (Nat.le_refl _) (any9_8 hw.1.2 h9) rfl (aw A).length 0 _ (by omega) (fr_xi fr_rf (by decide)) rfl (fun j hj => absurd hj (Nat.not_lt_zero j))
  · have h9 : any9 (aw A) = true := by
      cases e : any9 (aw A) with
      | false => exact absurd (b2_0.mpr e) c1
      | true => rfl
    refine b_iconst (v := nI 0) hb d_X_searchTyped_10 rfl ?_
    refine b_goto (tgt := 18) hb d_X_searchTyped_11 (by decide) ?_
    refine g_putN hg 17 fl_X_17 rfl d_X_searchTyped_18 ?_
    refine b_iconst (v := nI 0) hb d_X_searchTyped_21 rfl ?_
    refine b_istore_n (lv' := [(2, _), (1, _), (0, _)]) hb d_X_searchTyped_22 rfl (by decide) rfl ?_
    exact copy [] _ (Nat.zero_le _) (fun j hj => absurd hj (Nat.not_lt_zero j)) (Nat.zero_le _) (fun d hd => by cases hd) (by rw [ders_9 hw h9, ders_0 rfl]) 0 0 _ (by rfl) (fr_xi fr_rf (by decide)) rfl (fun j hj => absurd hj (Nat.not_lt_zero j))
end
section
/-! AffixSpeller: the questions -/
noncomputable def nth (A : Ab) (n : Int32) : Option Nat := if n < 0 ∨ nI (ders A (aw A)).length ≤ n then none else some ((ders A (aw A)).getD n.toNatClampNeg 0)
def qS (o : Option Nat) : Int32 := match o with | none => -6 | some x => nI (x / 121)
def qU (o : Option Nat) : Int32 := match o with | none => -6 | some x => if x / 11 % 11 = 0 then -6 else nI (x / 11 % 11 - 1)
def qP (o : Option Nat) : Int32 := match o with | none => -6 | some x => if x % 11 = 0 then -6 else nI (x % 11 - 1)
/-- of the letters 1 to k, how many go on -/
noncomputable def cnt (A : Ab) : Nat → Nat
  | 0 => 0
  | k + 1 => cnt A k + (if (ders A (aw A ++ [nI (k + 1)])).length = 0 then 0 else 1)
theorem cnt_le (A : Ab) : ∀ k : Nat, cnt A k ≤ k
  | 0 => Nat.le_refl _
  | k + 1 => by
    have := cnt_le A k
    show cnt A k + (if (ders A (aw A ++ [nI (k + 1)])).length = 0 then 0 else 1) ≤ k + 1
    split <;> omega
noncomputable def opC (A : Ab) : Int32 := if any9 (aw A) = true ∨ 12 ≤ (aw A).length then 0 else nI (cnt A 8)
theorem x_derivations {g : Sg} {A : Ab} (hJ : JX g A) : mMi 0 5 y_X_derivations b_X_derivations 1 .int [] g (fun r u => r = nI (ders A (aw A)).length ∧ JX u A) := by
  refine m_i (Nat.zero_le _) (by decide) rfl (fun _ => Nat.le_of_ble_eq_true rfl) (fun h ad K hg hret => ?_)
  have hb := hg.b
  show K g 0 [(0, .ref h)] []
  refine b_aload_n hb d_X_derivations_0 rfl rfl ?_
  refine g_callv hg (x_searchTyped hJ) lk_X_X_searchTyped (by decide) d_X_derivations_1 rfl (Nat.le_of_ble_eq_true rfl) (fun t hp => ?_)
  refine b_aload_n hb d_X_derivations_4 rfl rfl ?_
  refine g_getN hg 22 fl_X_22 rfl d_X_derivations_5 (hp.2.1.1) ?_
  exact hret _ _ _ _ d_X_derivations_8 rfl ⟨rfl, hp.1⟩
theorem x_stemOf {g : Sg} {A : Ab} {n : Int32} (hJ : JX g A) : mMi 0 5 y_X_stemOf b_X_stemOf 2 .int [.int n] g (fun r u => r = qS (nth A n) ∧ JX u A) := by
  refine m_i (Nat.zero_le _) (by decide) rfl (fun _ => Nat.le_of_ble_eq_true rfl) (fun h ad K hg hret => ?_)
  have hb := hg.b
  have hdl := ders_len A (aw A)
  show K g 0 [(0, .ref h), (1, .int n)] []
  refine b_aload_n hb d_X_stemOf_0 rfl rfl ?_
  refine g_callv hg (x_searchTyped hJ) lk_X_X_searchTyped (by decide) d_X_stemOf_1 rfl (Nat.le_of_ble_eq_true rfl) (fun t hp => ?_)
  obtain ⟨hJ2, ⟨e1, e2, e3, e4⟩, h440⟩ := hp
  have bad : (n < 0 ∨ nI (ders A (aw A)).length ≤ n) → K t 16 [(0, .ref h), (1, .int n)] [] := by
    intro hc
    refine b_bipush (v := -6) hb d_X_stemOf_16 rfl ?_
    exact hret _ _ _ _ d_X_stemOf_18 rfl ⟨by rw [nth, if_pos hc]; rfl, hJ2⟩
  refine b_iload_n hb d_X_stemOf_4 rfl rfl ?_
  refine b_if_lt (tgt := 16) hb d_X_stemOf_5 (by decide) (fun c1 => ?_) (fun c1 => ?_)
  · exact bad (Or.inl c1)
  · refine b_iload_n hb d_X_stemOf_8 rfl rfl ?_
    refine b_aload_n hb d_X_stemOf_9 rfl rfl ?_
    refine g_getN hg 22 fl_X_22 rfl d_X_stemOf_10 (e1) ?_
    refine b_icmp_lt (tgt := 19) hb d_X_stemOf_13 (by decide) (fun c2 => ?_) (fun c2 => ?_)
    · obtain ⟨j, hj, rfl⟩ := nI_of c1
      have hjl : j < (ders A (aw A)).length := (nI_ltI hj (by omega)).mp c2
      have no : ¬ (nI j < 0 ∨ nI (ders A (aw A)).length ≤ nI j) := fun z => z.elim c1 (fun z => absurd ((nI_leI (by omega) hj).mp z) (by omega))
      have e : nth A (nI j) = some ((ders A (aw A)).getD j 0) := by rw [nth, if_neg no, nI_clamp hj]
      have hx := e4 _ (ng_mem hjl)
      refine b_aload_n hb d_X_stemOf_19 rfl rfl ?_
      refine g_getA hg 23 fl_X_23 (Or.inl rfl) d_X_stemOf_20 ?_
      refine b_iload_n hb d_X_stemOf_23 rfl rfl ?_
      refine g_iald (n := 440) hg rfl rfl (by omega) d_X_stemOf_24 (e2 j hjl) ?_
      refine b_bipush (v := nI 121) hb d_X_stemOf_25 rfl ?_
      refine b_idiv hb d_X_stemOf_27 (by decide) ?_
      refine b_top (pk_div (by omega) (by decide) (by decide)) ?_
      exact hret _ _ _ _ d_X_stemOf_28 rfl ⟨by rw [e]; rfl, hJ2⟩
    · exact bad (Or.inr (Int32.not_lt.mp c2))
theorem x_suffixOf {g : Sg} {A : Ab} {n : Int32} (hJ : JX g A) : mMi 0 5 y_X_suffixOf b_X_suffixOf 3 .int [.int n] g (fun r u => r = qU (nth A n) ∧ JX u A) := by
  refine m_i (Nat.zero_le _) (by decide) rfl (fun _ => Nat.le_of_ble_eq_true rfl) (fun h ad K hg hret => ?_)
  have hb := hg.b
  have hdl := ders_len A (aw A)
  show K g 0 [(0, .ref h), (1, .int n)] []
  refine b_aload_n hb d_X_suffixOf_0 rfl rfl ?_
  refine g_callv hg (x_searchTyped hJ) lk_X_X_searchTyped (by decide) d_X_suffixOf_1 rfl (Nat.le_of_ble_eq_true rfl) (fun t hp => ?_)
  obtain ⟨hJ2, ⟨e1, e2, e3, e4⟩, h440⟩ := hp
  have bad : (n < 0 ∨ nI (ders A (aw A)).length ≤ n) → K t 16 [(0, .ref h), (1, .int n)] [] := by
    intro hc
    refine b_bipush (v := -6) hb d_X_suffixOf_16 rfl ?_
    exact hret _ _ _ _ d_X_suffixOf_18 rfl ⟨by rw [nth, if_pos hc]; rfl, hJ2⟩
  refine b_iload_n hb d_X_suffixOf_4 rfl rfl ?_
  refine b_if_lt (tgt := 16) hb d_X_suffixOf_5 (by decide) (fun c1 => ?_) (fun c1 => ?_)
  · exact bad (Or.inl c1)
  · refine b_iload_n hb d_X_suffixOf_8 rfl rfl ?_
    refine b_aload_n hb d_X_suffixOf_9 rfl rfl ?_
    refine g_getN hg 22 fl_X_22 rfl d_X_suffixOf_10 (e1) ?_
    refine b_icmp_lt (tgt := 19) hb d_X_suffixOf_13 (by decide) (fun c2 => ?_) (fun c2 => ?_)
    · obtain ⟨j, hj, rfl⟩ := nI_of c1
      have hjl : j < (ders A (aw A)).length := (nI_ltI hj (by omega)).mp c2
      have no : ¬ (nI j < 0 ∨ nI (ders A (aw A)).length ≤ nI j) := fun z => z.elim c1 (fun z => absurd ((nI_leI (by omega) hj).mp z) (by omega))
      have e : nth A (nI j) = some ((ders A (aw A)).getD j 0) := by rw [nth, if_neg no, nI_clamp hj]
      have hx := e4 _ (ng_mem hjl)
      refine b_aload_n hb d_X_suffixOf_19 rfl rfl ?_
      refine g_getA hg 23 fl_X_23 (Or.inl rfl) d_X_suffixOf_20 ?_
      refine b_iload_n hb d_X_suffixOf_23 rfl rfl ?_
      refine g_iald (n := 440) hg rfl rfl (by omega) d_X_suffixOf_24 (e2 j hjl) ?_
      refine b_bipush (v := nI 11) hb d_X_suffixOf_25 rfl ?_
      refine b_idiv hb d_X_suffixOf_27 (by decide) ?_
      refine b_top (pk_div (by omega) (by decide) (by decide)) ?_
      refine b_bipush (v := nI 11) hb d_X_suffixOf_28 rfl ?_
      refine b_irem hb d_X_suffixOf_30 (by decide) ?_
      refine b_top (pk_rem (by omega) (by decide) (by decide)) ?_
      refine b_iconst (v := nI 1) hb d_X_suffixOf_31 rfl ?_
      refine b_isub hb d_X_suffixOf_32 ?_
      refine b_top (show _ = pI ((ders A (aw A)).getD j 0 / 11 % 11) from rfl) ?_
      refine b_istore_n (lv' := [(2, _), (0, _), (1, _)]) hb d_X_suffixOf_33 rfl (by decide) rfl ?_
      refine b_iload_n hb d_X_suffixOf_34 rfl rfl ?_
      refine b_if_ge (tgt := 43) hb d_X_suffixOf_35 (by decide) (fun c3 => ?_) (fun c3 => ?_)
      · have h0 : (ders A (aw A)).getD j 0 / 11 % 11 ≠ 0 := fun z => by rw [z] at c3; exact absurd c3 (by decide)
        refine b_iload_n hb d_X_suffixOf_43 rfl rfl ?_
        refine hret _ _ _ _ d_X_suffixOf_44 rfl ⟨?_, hJ2⟩
        rw [e]
        show pI _ = if (ders A (aw A)).getD j 0 / 11 % 11 = 0 then -6 else nI ((ders A (aw A)).getD j 0 / 11 % 11 - 1)
        rw [if_neg h0, ← pI_s, Nat.sub_add_cancel (Nat.pos_of_ne_zero h0)]
      · have h0 : (ders A (aw A)).getD j 0 / 11 % 11 = 0 := (pI_neg (by omega)).mp (Int32.not_le.mp c3)
        refine b_bipush (v := -6) hb d_X_suffixOf_38 rfl ?_
        refine b_goto (tgt := 44) hb d_X_suffixOf_40 (by decide) ?_
        refine hret _ _ _ _ d_X_suffixOf_44 rfl ⟨?_, hJ2⟩
        rw [e]
        show -6 = if (ders A (aw A)).getD j 0 / 11 % 11 = 0 then -6 else nI ((ders A (aw A)).getD j 0 / 11 % 11 - 1)
        rw [if_pos h0]
    · exact bad (Or.inr (Int32.not_lt.mp c2))
theorem x_prefixOf {g : Sg} {A : Ab} {n : Int32} (hJ : JX g A) : mMi 0 5 y_X_prefixOf b_X_prefixOf 3 .int [.int n] g (fun r u => r = qP (nth A n) ∧ JX u A) := by
  refine m_i (Nat.zero_le _) (by decide) rfl (fun _ => Nat.le_of_ble_eq_true rfl) (fun h ad K hg hret => ?_)
  have hb := hg.b
  have hdl := ders_len A (aw A)
  show K g 0 [(0, .ref h), (1, .int n)] []
  refine b_aload_n hb d_X_prefixOf_0 rfl rfl ?_
  refine g_callv hg (x_searchTyped hJ) lk_X_X_searchTyped (by decide) d_X_prefixOf_1 rfl (Nat.le_of_ble_eq_true rfl) (fun t hp => ?_)
  obtain ⟨hJ2, ⟨e1, e2, e3, e4⟩, h440⟩ := hp
  have bad : (n < 0 ∨ nI (ders A (aw A)).length ≤ n) → K t 16 [(0, .ref h), (1, .int n)] [] := by
    intro hc
    refine b_bipush (v := -6) hb d_X_prefixOf_16 rfl ?_
    exact hret _ _ _ _ d_X_prefixOf_18 rfl ⟨by rw [nth, if_pos hc]; rfl, hJ2⟩
  refine b_iload_n hb d_X_prefixOf_4 rfl rfl ?_
  refine b_if_lt (tgt := 16) hb d_X_prefixOf_5 (by decide) (fun c1 => ?_) (fun c1 => ?_)
  · exact bad (Or.inl c1)
  · refine b_iload_n hb d_X_prefixOf_8 rfl rfl ?_
    refine b_aload_n hb d_X_prefixOf_9 rfl rfl ?_
    refine g_getN hg 22 fl_X_22 rfl d_X_prefixOf_10 (e1) ?_
    refine b_icmp_lt (tgt := 19) hb d_X_prefixOf_13 (by decide) (fun c2 => ?_) (fun c2 => ?_)
    · obtain ⟨j, hj, rfl⟩ := nI_of c1
      have hjl : j < (ders A (aw A)).length := (nI_ltI hj (by omega)).mp c2
      have no : ¬ (nI j < 0 ∨ nI (ders A (aw A)).length ≤ nI j) := fun z => z.elim c1 (fun z => absurd ((nI_leI (by omega) hj).mp z) (by omega))
      have e : nth A (nI j) = some ((ders A (aw A)).getD j 0) := by rw [nth, if_neg no, nI_clamp hj]
      have hx := e4 _ (ng_mem hjl)
      refine b_aload_n hb d_X_prefixOf_19 rfl rfl ?_
      refine g_getA hg 23 fl_X_23 (Or.inl rfl) d_X_prefixOf_20 ?_
      refine b_iload_n hb d_X_prefixOf_23 rfl rfl ?_
      refine g_iald (n := 440) hg rfl rfl (by omega) d_X_prefixOf_24 (e2 j hjl) ?_
      refine b_bipush (v := nI 11) hb d_X_prefixOf_25 rfl ?_
      refine b_irem hb d_X_prefixOf_27 (by decide) ?_
      refine b_top (pk_rem (by omega) (by decide) (by decide)) ?_
      refine b_iconst (v := nI 1) hb d_X_prefixOf_28 rfl ?_
      refine b_isub hb d_X_prefixOf_29 ?_
      refine b_top (show _ = pI ((ders A (aw A)).getD j 0 % 11) from rfl) ?_
      refine b_istore_n (lv' := [(2, _), (0, _), (1, _)]) hb d_X_prefixOf_30 rfl (by decide) rfl ?_
      refine b_iload_n hb d_X_prefixOf_31 rfl rfl ?_
      refine b_if_ge (tgt := 40) hb d_X_prefixOf_32 (by decide) (fun c3 => ?_) (fun c3 => ?_)
      · have h0 : (ders A (aw A)).getD j 0 % 11 ≠ 0 := fun z => by rw [z] at c3; exact absurd c3 (by decide)
        refine b_iload_n hb d_X_prefixOf_40 rfl rfl ?_
        refine hret _ _ _ _ d_X_prefixOf_41 rfl ⟨?_, hJ2⟩
        rw [e]
        show pI _ = if (ders A (aw A)).getD j 0 % 11 = 0 then -6 else nI ((ders A (aw A)).getD j 0 % 11 - 1)
        rw [if_neg h0, ← pI_s, Nat.sub_add_cancel (Nat.pos_of_ne_zero h0)]
      · have h0 : (ders A (aw A)).getD j 0 % 11 = 0 := (pI_neg (by omega)).mp (Int32.not_le.mp c3)
        refine b_bipush (v := -6) hb d_X_prefixOf_35 rfl ?_
        refine b_goto (tgt := 41) hb d_X_prefixOf_37 (by decide) ?_
        refine hret _ _ _ _ d_X_prefixOf_41 rfl ⟨?_, hJ2⟩
        rw [e]
        show -6 = if (ders A (aw A)).getD j 0 % 11 = 0 then -6 else nI ((ders A (aw A)).getD j 0 % 11 - 1)
        rw [if_pos h0]
    · exact bad (Or.inr (Int32.not_lt.mp c2))
theorem x_continuations {g : Sg} {A : Ab} (hJ : JX g A) : mMi 0 5 y_X_continuations b_X_continuations 5 .int [] g (fun r u => r = opC A ∧ JX u A) := by
  refine m_i (Nat.zero_le _) (by decide) rfl (fun _ => Nat.le_of_ble_eq_true rfl) (fun h ad K hg hret => ?_)
  have hb := hg.b
  obtain ⟨hw, ⟨hn, hrw⟩, hrest⟩ := id hJ
  have hle : (aw A).length ≤ 12 := hw.1.1
  show K g 0 [(0, .ref h)] []
  refine b_aload_n hb d_X_continuations_0 rfl rfl ?_
  refine g_calli hg (x_hasAny ⟨hn, hrw⟩ hle) lk_X_X_hasAny (by decide) d_X_continuations_1 rfl (Nat.le_of_ble_eq_true rfl) (fun r u hp => ?_)
  obtain ⟨rfl, rfl⟩ := hp
  have bad : ∀ lv, (any9 (aw A) = true ∨ 12 ≤ (aw A).length) → K u 18 lv [] := by
    intro lv hc
    refine b_iconst (v := nI 0) hb d_X_continuations_18 rfl ?_
    exact hret _ _ _ _ d_X_continuations_19 rfl ⟨by rw [opC, if_pos hc]; rfl, hJ⟩
  refine b_istore_n (lv' := [(1, _), (0, _)]) hb d_X_continuations_4 rfl (by decide) rfl ?_
  refine b_iload_n hb d_X_continuations_5 rfl rfl ?_
  refine b_if_ne (tgt := 18) hb d_X_continuations_6 (by decide) (fun c1 => ?_) (fun c1 => ?_)
  · refine bad _ (Or.inl ?_)
    cases e : any9 (aw A) with
    | false => exact absurd (b2_0.mpr e) c1
    | true => rfl
  · have h9 : any9 (aw A) = false := b2_0.mp c1
    have h8 := any9_8 hw.1.2 h9
    refine b_aload_n hb d_X_continuations_9 rfl rfl ?_
    refine g_getN hg 1 fl_X_1 rfl d_X_continuations_10 (hn) ?_
    refine b_bipush (v := nI 12) hb d_X_continuations_13 rfl ?_
    refine b_ltN (tgt := 20) hb (by omega) (by omega) d_X_continuations_15 (by decide) (fun c2 => ?_) (fun c2 => ?_)
    · have no : ¬ (any9 (aw A) = true ∨ 12 ≤ (aw A).length) := fun z => z.elim (fun z => by rw [h9] at z; cases z) (fun z => by omega)
      have main : ∀ (n k : Nat) (t : Sg), k + n = 8 → fr [16, 17, 18, 19, 20, 21, 22, 23] u t → K t 24 [(3, .int (nI (k + 1))), (2, .int (nI (cnt A k))), (1, .int (b2 (any9 (aw A)))), (0, .ref h)] [] := by
        intro n
        induction n with
        | zero =>
          intro k t hk ft
          have : k = 8 := by omega
          subst this
          refine b_iload_n hb d_X_continuations_24 rfl rfl ?_
          refine b_bipush (v := nI 8) hb d_X_continuations_25 rfl ?_
          refine b_gtN (tgt := 102) hb (by omega) (by omega) d_X_continuations_27 (by decide) (fun c3 => ?_) (fun c3 => ?_)
          · refine b_iload_n hb d_X_continuations_102 rfl rfl ?_
            exact hret _ _ _ _ d_X_continuations_103 rfl ⟨by rw [opC, if_neg no], JX_fr ft (by decide) hJ⟩
          · exact absurd c3 (by omega)
        | succ n ih =>
          intro k t hk ft
          have hck := cnt_le A k
          have copy : ∀ (n i : Nat) (t2 : Sg), i + n = (aw A).length → fr [16, 17, 18, 19, 20, 21, 22, 23] u t2 → (∀ j : Nat, j < i → t2.2 16 j = (aw A).getD j 0) → K t2 33 [(4, .int (nI i)), (3, .int (nI (k + 1))), (2, .int (nI (cnt A k))), (1, .int (b2 (any9 (aw A)))), (0, .ref h)] [] := by
            intro n
            induction n with
            | zero =>
              intro i t2 hi f2 h1
              have hi2 : i = (aw A).length := by omega
              subst hi2
              have hn2 : t2.1 1 = (aw A).length := (f2 1 (by decide)).1.trans hn
              refine b_iload hb d_X_continuations_33 rfl ?_
              refine b_aload_n hb d_X_continuations_35 rfl rfl ?_
              refine g_getN hg 1 fl_X_1 rfl d_X_continuations_36 (hn2) ?_
              refine b_geN (tgt := 62) hb (by omega) (by omega) d_X_continuations_39 (by decide) (fun c4 => ?_) (fun c4 => ?_)
              · refine b_aload_n hb d_X_continuations_62 rfl rfl ?_
                refine g_getA hg 16 fl_X_16 (Or.inl rfl) d_X_continuations_63 ?_
                refine b_aload_n hb d_X_continuations_66 rfl rfl ?_
                refine g_getN hg 1 fl_X_1 rfl d_X_continuations_67 (hn2) ?_
                refine b_iload_n hb d_X_continuations_70 rfl rfl ?_
                refine g_iast (n := 13) hg rfl rfl (by omega) d_X_continuations_71 ?_
                refine b_aload_n hb d_X_continuations_72 rfl rfl ?_
                refine b_aload_n hb d_X_continuations_73 rfl rfl ?_
                refine g_getN hg 1 fl_X_1 rfl d_X_continuations_74 (hn2) ?_
                refine b_iconst (v := nI 1) hb d_X_continuations_77 rfl ?_
                refine b_iaddN hb d_X_continuations_78 ?_
                refine g_putN hg 17 fl_X_17 rfl d_X_continuations_79 ?_
                refine b_aload_n hb d_X_continuations_82 rfl rfl ?_
                have f3 : fr [16, 17, 18, 19, 20, 21, 22, 23] u (xi (xa t2 16 (upd (t2.2 16) (aw A).length (nI (k + 1)))) 17 ((aw A).length + 1)) := fr_xi (fr_xa f2 (by decide)) (by decide)
                have h8b : ∀ d ∈ aw A ++ [nI (k + 1)], lt8 d := by
                  intro d hd
                  rcases List.mem_append.mp hd with q | q
                  · exact h8 d q
                  · rw [List.mem_singleton.mp q]; exact ⟨k + 1, by omega, by omega, rfl⟩
                refine g_callv hg (x_search (w := aw A ++ [nI (k + 1)]) (JX_fr f3 (by decide) hJ) ⟨by rw [List.length_append]; rfl, rep_snoc (f := t2.2 16) (fun j hj => by rw [Nat.zero_add]; exact h1 j hj)⟩ (by rw [List.length_append, List.length_singleton]; omega) h8b) lk_X_X_search (by decide) d_X_continuations_83 rfl (Nat.le_of_ble_eq_true rfl) (fun t4 hp4 => ?_)
                obtain ⟨f4, hL4, -⟩ := hp4
                have hdl := ders_len A (aw A ++ [nI (k + 1)])
                have f5 := fr_tr f3 (fr_mono f4 (by decide))
                refine b_aload_n hb d_X_continuations_86 rfl rfl ?_
                refine g_getN hg 22 fl_X_22 rfl d_X_continuations_87 (hL4.1) ?_
                refine b_le0N (tgt := 96) hb (by omega) d_X_continuations_90 (by decide) (fun c5 => ?_) (fun c5 => ?_)
                · refine b_iincN (lv' := [(3, _), (4, _), (2, _), (1, _), (0, _)]) hb d_X_continuations_96 rfl (by decide) rfl ?_
                  refine b_goto (tgt := 24) hb d_X_continuations_99 (by decide) ?_
                  refine b_sub hb [0, 2, 3, 4] rfl ?_
                  have h0 := ih (k + 1) t4 (by omega) f5
                  rw [show cnt A (k + 1) = cnt A k by show cnt A k + (if (ders A (aw A ++ [nI (k + 1)])).length = 0 then 0 else 1) = _; rw [if_pos c5]; rfl] at h0
                  exact h0
                · refine b_iincN (lv' := [(2, _), (4, _), (3, _), (1, _), (0, _)]) hb d_X_continuations_93 rfl (by decide) rfl ?_
                  refine b_iincN (lv' := [(3, _), (2, _), (4, _), (1, _), (0, _)]) hb d_X_continuations_96 rfl (by decide) rfl ?_
                  refine b_goto (tgt := 24) hb d_X_continuations_99 (by decide) ?_
                  refine b_sub hb [0, 1, 3, 4] rfl ?_
                  have h0 := ih (k + 1) t4 (by omega) f5
                  rw [show cnt A (k + 1) = cnt A k + 1 by show cnt A k + (if (ders A (aw A ++ [nI (k + 1)])).length = 0 then 0 else 1) = _; rw [if_neg (by omega)]] at h0
                  exact h0
              · exact absurd c4 (by omega)
            | succ n ih2 =>
              intro i t2 hi f2 h1
              have hn2 : t2.1 1 = (aw A).length := (f2 1 (by decide)).1.trans hn
              refine b_iload hb d_X_continuations_33 rfl ?_
              refine b_aload_n hb d_X_continuations_35 rfl rfl ?_
              refine g_getN hg 1 fl_X_1 rfl d_X_continuations_36 (hn2) ?_
              refine b_geN (tgt := 62) hb (by omega) (by omega) d_X_continuations_39 (by decide) (fun c4 => ?_) (fun c4 => ?_)
              · exact absurd c4 (by omega)
              · refine b_aload_n hb d_X_continuations_42 rfl rfl ?_
                refine g_getA hg 16 fl_X_16 (Or.inl rfl) d_X_continuations_43 ?_
                refine b_iload hb d_X_continuations_46 rfl ?_
                refine b_aload_n hb d_X_continuations_48 rfl rfl ?_
                refine g_getA hg 0 fl_X_0 (Or.inl rfl) d_X_continuations_49 ?_
                refine b_iload hb d_X_continuations_52 rfl ?_
                refine g_iald (n := 12) hg rfl rfl (by omega) d_X_continuations_54 ((show t2.2 0 i = (aw A).getD i 0 by rw [(f2 0 (by decide)).2]; exact rep_0 hrw c4)) ?_
                refine g_iast (n := 13) hg rfl rfl (by omega) d_X_continuations_55 ?_
                refine b_iincN (lv' := [(4, _), (3, _), (2, _), (1, _), (0, _)]) hb d_X_continuations_56 rfl (by decide) rfl ?_
                refine b_goto (tgt := 33) hb d_X_continuations_59 (by decide) ?_
                refine ih2 (i + 1) _ (by omega) (fr_xa f2 (by decide)) (fun j hj => ?_)
                show upd (t2.2 16) _ _ j = _
                by_cases e : j = i
                · subst e; exact pk_us
                · rw [pk_un e]; exact h1 j (by omega)
          refine b_iload_n hb d_X_continuations_24 rfl rfl ?_
          refine b_bipush (v := nI 8) hb d_X_continuations_25 rfl ?_
          refine b_gtN (tgt := 102) hb (by omega) (by omega) d_X_continuations_27 (by decide) (fun c3 => ?_) (fun c3 => ?_)
          · exact absurd c3 (by omega)
          · refine b_iconst (v := nI 0) hb d_X_continuations_30 rfl ?_
            refine b_istore (lv' := [(4, _), (3, _), (2, _), (1, _), (0, _)]) hb d_X_continuations_31 (by decide) rfl ?_
            exact copy (aw A).length 0 t (by omega) ft (fun j hj => absurd hj (Nat.not_lt_zero j))
      refine b_iconst (v := nI 0) hb d_X_continuations_20 rfl ?_
      refine b_istore_n (lv' := [(2, _), (1, _), (0, _)]) hb d_X_continuations_21 rfl (by decide) rfl ?_
      refine b_iconst (v := nI 1) hb d_X_continuations_22 rfl ?_
      refine b_istore_n (lv' := [(3, _), (2, _), (1, _), (0, _)]) hb d_X_continuations_23 rfl (by decide) rfl ?_
      exact main 8 0 u rfl fr_rf
    · exact bad _ (Or.inr c2)
end
section
/-! applying a rule is undoing it backwards -/
theorem pB_eq {x v : List Int32} (h : pB x v) : v = x ++ v.drop x.length := by
  refine gd_ext (by rw [List.length_append, List.length_drop]; have := h.1; omega) (fun i hi => ?_)
  rw [gd_app]
  by_cases q : i < x.length
  · rw [if_pos q]; exact h.2 i q
  · rw [if_neg q, gd_drop, Nat.add_sub_cancel' (Nat.le_of_not_lt q)]
theorem pB_app (x y : List Int32) : pB x (x ++ y) := ⟨by rw [List.length_append]; omega, fun i hi => by rw [gd_app, if_pos hi]⟩
theorem pE_eq {x v : List Int32} (h : pE x v) : v = v.take (v.length - x.length) ++ x := by
  have h1 := h.1
  refine gd_ext (by rw [List.length_append, List.length_take]; omega) (fun i hi => ?_)
  rw [gd_app, List.length_take, Nat.min_eq_left (Nat.sub_le _ _)]
  by_cases q : i < v.length - x.length
  · rw [if_pos q, gd_take q]
  · rw [if_neg q]
    have h2 := h.2 (i - (v.length - x.length)) (by omega)
    rw [Nat.add_sub_cancel' (Nat.le_of_not_lt q)] at h2
    exact h2
theorem pE_app (x y : List Int32) : pE x (y ++ x) := ⟨by rw [List.length_append]; omega, fun i hi => by
  rw [List.length_append, Nat.add_sub_cancel, gd_app, if_neg (by omega), Nat.add_sub_cancel_left]⟩
theorem n9 {c : Int32} (h : lt8 c) : c ≠ 9 := by
  obtain ⟨n, h1, h2, rfl⟩ := h
  intro z
  have := (nI_eq (b := 9) (by omega) (by decide)).mp z
  omega
theorem qB_p {x v : List Int32} (h8 : ∀ c ∈ x, lt8 c) : qB x v ↔ pB x v := by
  constructor
  · intro h
    refine ⟨h.1, fun i hi => ?_⟩
    rcases h.2 i hi with q | q
    · exact absurd q (n9 (h8 _ (gd_mem hi)))
    · exact q.symm
  · exact fun h => ⟨h.1, fun i hi => Or.inr (h.2 i hi).symm⟩
theorem qE_p {x v : List Int32} (h8 : ∀ c ∈ x, lt8 c) : qE x v ↔ pE x v := by
  constructor
  · intro h
    refine ⟨h.1, fun i hi => ?_⟩
    rcases h.2 i hi with q | q
    · exact absurd q (n9 (h8 _ (gd_mem hi)))
    · exact q.symm
  · exact fun h => ⟨h.1, fun i hi => Or.inr (h.2 i hi).symm⟩
/-- v2 is v with rule r applied -/
def AV (A : Ab) (r : Nat) (v v2 : List Int32) : Prop := (aS A r = true ∧ qE (aP A r 0) v ∧ qE (aP A r 2) v ∧ v2 = v.take (v.length - (aP A r 0).length) ++ aP A r 1) ∨ (aS A r = false ∧ qB (aP A r 0) v ∧ qB (aP A r 2) v ∧ v2 = aP A r 1 ++ v.drop (aP A r 0).length)
theorem AV_US {A : Ab} {r : Nat} {v c : List Int32} (hw : WA A) (hr : r < aR A) (hs : aS A r = true) : AV A r c v ↔ US A r v c := by
  have h0 := ((hw.2.2.2.1 r hr).2 0 (by decide)).2.2 (by decide)
  constructor
  · rintro (⟨-, h1, h2, h3⟩ | z)
    · have h4 := pE_eq ((qE_p h0).mp h1)
      refine ⟨by rw [h3]; exact pE_app _ _, ?_, h2⟩
      rw [h3, List.length_append, Nat.add_sub_cancel, List.take_left]
      exact h4
    · rw [hs] at z; cases z.1
  · intro h
    obtain ⟨h1, h2, h3⟩ := h
    refine Or.inl ⟨hs, (qE_p h0).mpr (by rw [h2]; exact pE_app _ _), h3, ?_⟩
    have h4 := pE_eq h1
    rw [h2, List.length_append, Nat.add_sub_cancel, List.take_left]
    exact h4
theorem AV_UP {A : Ab} {r : Nat} {v w : List Int32} (hw : WA A) (hr : r < aR A) (hs : aS A r = false) : AV A r v w ↔ UP A r w v := by
  have h0 := ((hw.2.2.2.1 r hr).2 0 (by decide)).2.2 (by decide)
  constructor
  · rintro (z | ⟨-, h1, h2, h3⟩)
    · rw [hs] at z; cases z.1
    · have h4 := pB_eq ((qB_p h0).mp h1)
      refine ⟨by rw [h3]; exact pB_app _ _, ?_, h2⟩
      rw [h3, List.drop_left]
      exact h4
  · intro h
    obtain ⟨h1, h2, h3⟩ := h
    refine Or.inr ⟨hs, (qB_p h0).mpr (by rw [h2]; exact pB_app _ _), h3, ?_⟩
    have h4 := pB_eq h1
    rw [h2, List.drop_left]
    exact h4
/-- counting codes -/
def isd (A : Ab) (w : List Int32) (x : Nat) : Prop := derP A w (x / 121) (x / 11 % 11) (x % 11)
noncomputable def dB (A : Ab) (w : List Int32) (x : Nat) : Bool := @decide (isd A w x) (Classical.propDecidable _)
theorem dB_t {A : Ab} {w : List Int32} {x : Nat} (h : isd A w x) : dB A w x = true := @decide_eq_true _ (Classical.propDecidable _) h
theorem dB_f {A : Ab} {w : List Int32} {x : Nat} (h : ¬ isd A w x) : dB A w x = false := @decide_eq_false _ (Classical.propDecidable _) h
noncomputable def prl (A : Ab) (w : List Int32) (c : Nat) : List Nat := (List.range c).filter (dB A w)
noncomputable def prc (A : Ab) (w : List Int32) (c : Nat) : Nat := (prl A w c).length
theorem prl_t {A : Ab} {w : List Int32} {c : Nat} (h : isd A w c) : prl A w (c + 1) = prl A w c ++ [c] := by
  unfold prl
  rw [List.range_succ, List.filter_append, List.filter_cons_of_pos (dB_t h)]
  rfl
theorem prl_f {A : Ab} {w : List Int32} {c : Nat} (h : ¬ isd A w c) : prl A w (c + 1) = prl A w c := by
  unfold prl
  rw [List.range_succ, List.filter_append, List.filter_cons_of_neg (by rw [dB_f h]; decide)]
  exact List.append_nil _
theorem prc_t {A : Ab} {w : List Int32} {c : Nat} (h : isd A w c) : prc A w (c + 1) = prc A w c + 1 := by
  unfold prc
  rw [prl_t h, List.length_append]
  rfl
theorem prc_f {A : Ab} {w : List Int32} {c : Nat} (h : ¬ isd A w c) : prc A w (c + 1) = prc A w c := by
  unfold prc
  rw [prl_f h]
theorem prc_s (A : Ab) (w : List Int32) (c : Nat) : prc A w c ≤ prc A w (c + 1) := by
  by_cases h : isd A w c
  · rw [prc_t h]; omega
  · rw [prc_f h]; exact Nat.le_refl _
theorem prc_m (A : Ab) (w : List Int32) : ∀ n a : Nat, prc A w a ≤ prc A w (a + n)
  | 0, _ => Nat.le_refl _
  | n + 1, a => Nat.le_trans (prc_m A w n a) (prc_s A w (a + n))
theorem prc_le {A : Ab} {w : List Int32} {a b : Nat} (h : a ≤ b) : prc A w a ≤ prc A w b := by
  have := prc_m A w (b - a) a
  rwa [Nat.add_sub_cancel' h] at this
theorem prc_lt {A : Ab} {w : List Int32} {a b : Nat} (hx : isd A w a) (h : a < b) : prc A w a + 1 ≤ prc A w b := by
  rw [← prc_t hx]
  exact prc_le h
theorem prc_flat {A : Ab} {w : List Int32} : ∀ n a : Nat, (∀ x : Nat, a ≤ x → x < a + n → ¬ isd A w x) → prc A w (a + n) = prc A w a
  | 0, _, _ => rfl
  | n + 1, a, h => (prc_f (h (a + n) (by omega) (by omega))).trans (prc_flat n a (fun x h1 h2 => h x h1 (by omega)))
theorem prc_eq {A : Ab} {w : List Int32} {a b : Nat} (hab : a ≤ b) (h : ∀ x : Nat, a ≤ x → x < b → ¬ isd A w x) : prc A w b = prc A w a := by
  have := prc_flat (A := A) (w := w) (b - a) a (fun x h1 h2 => h x h1 (by omega))
  rwa [Nat.add_sub_cancel' hab] at this
theorem prc_id (A : Ab) (w : List Int32) : ∀ c : Nat, prc A w c ≤ c
  | 0 => Nat.le_refl _
  | c + 1 => by
    have := prc_id A w c
    by_cases h : isd A w c
    · rw [prc_t h]; omega
    · rw [prc_f h]; omega
theorem prc_all (A : Ab) (w : List Int32) : prc A w 1452 = (ders A w).length := rfl
theorem prc_nth {A : Ab} {w : List Int32} : ∀ (M j : Nat), j < prc A w M → ∃ x : Nat, x < M ∧ isd A w x ∧ prc A w x = j ∧ (prl A w M).getD j 0 = x := by
  intro M
  induction M with
  | zero => intro j h; exact absurd h (Nat.not_lt_zero j)
  | succ M ih =>
    intro j h
    by_cases q : j < prc A w M
    · obtain ⟨x, h1, h2, h3, h4⟩ := ih j q
      refine ⟨x, by omega, h2, h3, ?_⟩
      by_cases hM : isd A w M
      · rw [prl_t hM, ng_app]
        exact (if_pos q).trans h4
      · rw [prl_f hM]; exact h4
    · by_cases hM : isd A w M
      · rw [prc_t hM] at h
        have ej : j = prc A w M := by omega
        refine ⟨M, Nat.lt_succ_self M, hM, ej.symm, ?_⟩
        rw [prl_t hM, ng_app]
        refine (if_neg q).trans ?_
        show [M].getD (j - prc A w M) 0 = M
        rw [ej, Nat.sub_self]
        rfl
      · rw [prc_f hM] at h
        exact absurd h q
theorem isd_cd {A : Ab} {w : List Int32} {s u q : Nat} (hu : u ≤ 10) (hq : q ≤ 10) : isd A w (s * 121 + u * 11 + q) ↔ derP A w s u q := by
  unfold isd
  rw [cd_s hu hq, cd_u hu hq, cd_q hq]
theorem prc_q {A : Ab} {w : List Int32} (hw : WA A) (s u : Nat) (hu : u ≤ 10) : prc A w (s * 121 + (u + 1) * 11) = prc A w (s * 121 + u * 11 + (aR A + 1)) := by
  have hR := hw.2.2.1
  refine prc_eq (by omega) (fun x h1 h2 hx => ?_)
  have := hx.2.2.2.1
  have e : x % 11 = x - (s * 121 + u * 11) := by omega
  omega
theorem prc_u {A : Ab} {w : List Int32} (hw : WA A) (s : Nat) : prc A w ((s + 1) * 121) = prc A w (s * 121 + (aR A + 1) * 11) := by
  have hR := hw.2.2.1
  refine prc_eq (by omega) (fun x h1 h2 hx => ?_)
  have := hx.2.2.1
  omega
theorem prc_N {A : Ab} {w : List Int32} (hw : WA A) : prc A w 1452 = prc A w (aN A * 121) := by
  have hN := hw.2.2.2.2.1
  refine prc_eq (by omega) (fun x h1 h2 hx => ?_)
  have := hx.2.1
  omega
def nq (u : Nat) : Int32 := if u = 0 then -6 else nI (u - 1)
theorem pI_ge {u R : Nat} (hu : u ≤ 11) (hR : R ≤ 10) : nI R ≤ pI u ↔ R + 1 ≤ u := by
  cases u with
  | zero =>
    constructor
    · intro z
      have h1 : (0 : Int32) ≤ nI R := nI_pos' (by omega)
      exact absurd (Int32.le_trans h1 z) (by decide)
    · intro z; omega
  | succ u =>
    rw [pI_s, nI_leI (by omega) (by omega)]
    omega
end
section
/-! AffixSpellerModel: applying rules -/
theorem m_stands {g : Sg} {A : Ab} {v : List Int32} {r p : Nat} {e : Bool} (hJ : JM g A) (hW : RW (g.1 15) (g.2 14) v) (hl : v.length ≤ 24) (hr : r < aR A) (hp : p < 3) : mMi 1 0 y_M_stands b_M_stands 8 .boolean [.int (nI r), .int (nI p), .int (b2 e)] g (fun q t => t = g ∧ ((q = 1 ∧ (e = true → qE (aP A r p) v) ∧ (e = false → qB (aP A r p) v)) ∨ (q = 0 ∧ (e = true → ¬ qE (aP A r p) v) ∧ (e = false → ¬ qB (aP A r p) v)))) := by
  refine m_i (Nat.le_refl _) (by decide) rfl (fun _ => Nat.le_of_ble_eq_true rfl) (fun h ad K hg hret => ?_)
  have hb := hg.b
  obtain ⟨hn, hrw⟩ := hW
  have hR10 : aR A ≤ 10 := hJ.1.2.2.1
  obtain ⟨-, -, -, a4⟩ := hJ.2.2.2.1.2 r hr
  obtain ⟨l1, p1⟩ := a4 p hp
  have s1 := ((hJ.1.2.2.2.1 r hr).2 p hp).1
  have zero : ∀ (lv : List (Nat × Value)) (pc : Nat), (e = true → ¬ qE (aP A r p) v) → (e = false → ¬ qB (aP A r p) v) → decode b_M_stands pc = .ok (.ireturn, 1) → K g pc lv [.int (nI 0)] := fun lv pc h1 h2 hd => hret _ _ _ _ hd rfl ⟨rfl, Or.inr ⟨rfl, h1, h2⟩⟩
  have main : ∀ o : Nat, (aP A r p).length ≤ v.length → ((e = true ∧ o = v.length - (aP A r p).length) ∨ (e = false ∧ o = 0)) → o + (aP A r p).length ≤ v.length → ∀ n i : Nat, i + n = (aP A r p).length → (∀ j : Nat, j < i → (aP A r p).getD j 0 = 9 ∨ (aP A r p).getD j 0 = v.getD (o + j) 0) → K g 43 [(6, .int (nI i)), (5, .int (nI o)), (4, .int (nI (aP A r p).length)), (0, .ref h), (1, .int (nI r)), (2, .int (nI p)), (3, .int (b2 e))] [] := by
    intro o hle ho hol n
    induction n with
    | zero =>
      intro i hi hj
      refine b_iload hb d_M_stands_43 rfl ?_
      refine b_iload hb d_M_stands_45 rfl ?_
      refine b_geN (tgt := 98) hb (by omega) (by omega) d_M_stands_47 (by decide) (fun c1 => ?_) (fun c1 => ?_)
      · refine b_iconst (v := nI 1) hb d_M_stands_98 rfl ?_
        refine hret _ _ _ _ d_M_stands_99 rfl ⟨rfl, Or.inl ⟨rfl, fun he => ⟨hle, fun j hj2 => ?_⟩, fun he => ⟨hle, fun j hj2 => ?_⟩⟩⟩
        · rcases ho with ho | ho
          · rw [← ho.2]; exact hj j (by omega)
          · rw [he] at ho; cases ho.1
        · rcases ho with ho | ho
          · rw [he] at ho; cases ho.1
          · have := hj j (by omega)
            rwa [ho.2, Nat.zero_add] at this
      · exact absurd c1 (by omega)
    | succ n ih =>
      intro i hi hj
      have next : ((aP A r p).getD i 0 = 9 ∨ (aP A r p).getD i 0 = v.getD (o + i) 0) → K g 92 [(7, .int ((aP A r p).getD i 0)), (6, .int (nI i)), (5, .int (nI o)), (4, .int (nI (aP A r p).length)), (0, .ref h), (1, .int (nI r)), (2, .int (nI p)), (3, .int (b2 e))] [] := by
        intro hq
        refine b_iincN (lv' := [(6, _), (7, _), (5, _), (4, _), (0, _), (1, _), (2, _), (3, _)]) hb d_M_stands_92 rfl (by decide) rfl ?_
        refine b_goto (tgt := 43) hb d_M_stands_95 (by decide) ?_
        refine b_sub hb [0, 2, 3, 4, 5, 6, 7] rfl ?_
        exact ih (i + 1) (by omega) (fun j hj2 => by
          rcases Nat.lt_or_ge j i with q | q
          · exact hj j q
          · have : j = i := by omega
            subst this; exact hq)
      refine b_iload hb d_M_stands_43 rfl ?_
      refine b_iload hb d_M_stands_45 rfl ?_
      refine b_geN (tgt := 98) hb (by omega) (by omega) d_M_stands_47 (by decide) (fun c1 => ?_) (fun c1 => ?_)
      · exact absurd c1 (by omega)
      · refine b_aload_n hb d_M_stands_50 rfl rfl ?_
        refine g_getA hg 8 fl_M_8 (Or.inl rfl) d_M_stands_51 ?_
        refine b_iload_n hb d_M_stands_54 rfl rfl ?_
        refine b_bipush (v := nI 9) hb d_M_stands_55 rfl ?_
        refine b_imulN hb d_M_stands_57 ?_
        refine b_iload_n hb d_M_stands_58 rfl rfl ?_
        refine b_iconst (v := nI 3) hb d_M_stands_59 rfl ?_
        refine b_imulN hb d_M_stands_60 ?_
        refine b_iaddN hb d_M_stands_61 ?_
        refine b_iload hb d_M_stands_62 rfl ?_
        refine b_iaddN hb d_M_stands_64 ?_
        refine g_iald (n := 90) hg rfl rfl (by omega) d_M_stands_65 (p1 i c1) ?_
        refine b_istore (lv' := [(7, _), (6, _), (5, _), (4, _), (0, _), (1, _), (2, _), (3, _)]) hb d_M_stands_66 (by decide) rfl ?_
        refine b_iload hb d_M_stands_68 rfl ?_
        refine b_bipush (v := 9) hb d_M_stands_70 rfl ?_
        refine b_icmp_eq (tgt := 92) hb d_M_stands_72 (by decide) (fun c2 => ?_) (fun c2 => ?_)
        · exact next (Or.inl c2)
        · refine b_iload hb d_M_stands_75 rfl ?_
          refine b_aload_n hb d_M_stands_77 rfl rfl ?_
          refine g_getA hg 14 fl_M_14 (Or.inl rfl) d_M_stands_78 ?_
          refine b_iload hb d_M_stands_81 rfl ?_
          refine b_iload hb d_M_stands_83 rfl ?_
          refine b_iaddN hb d_M_stands_85 ?_
          refine g_iald (n := 24) hg rfl rfl (by omega) d_M_stands_86 (rep_0 hrw (by omega)) ?_
          refine b_icmp_eq (tgt := 92) hb d_M_stands_87 (by decide) (fun c3 => ?_) (fun c3 => ?_)
          · exact next (Or.inr c3)
          · refine b_iconst (v := nI 0) hb d_M_stands_90 rfl ?_
            refine zero _ _ (fun he z => ?_) (fun he z => ?_) d_M_stands_91
            · rcases ho with ho | ho
              · rcases z.2 i c1 with q | q
                · exact c2 q
                · exact c3 (by rw [ho.2]; exact q)
              · rw [he] at ho; cases ho.1
            · rcases ho with ho | ho
              · rw [he] at ho; cases ho.1
              · rcases z.2 i c1 with q | q
                · exact c2 q
                · exact c3 (by rw [ho.2, Nat.zero_add]; exact q)
  show K g 0 [(0, .ref h), (1, .int (nI r)), (2, .int (nI p)), (3, .int (b2 e))] []
  refine b_aload_n hb d_M_stands_0 rfl rfl ?_
  refine g_getA hg 9 fl_M_9 (Or.inl rfl) d_M_stands_1 ?_
  refine b_iload_n hb d_M_stands_4 rfl rfl ?_
  refine b_iconst (v := nI 3) hb d_M_stands_5 rfl ?_
  refine b_imulN hb d_M_stands_6 ?_
  refine b_iload_n hb d_M_stands_7 rfl rfl ?_
  refine b_iaddN hb d_M_stands_8 ?_
  refine g_iald (n := 30) hg rfl rfl (by omega) d_M_stands_9 (l1) ?_
  refine b_istore (lv' := [(4, _), (0, _), (1, _), (2, _), (3, _)]) hb d_M_stands_10 (by decide) rfl ?_
  refine b_iload hb d_M_stands_12 rfl ?_
  refine b_aload_n hb d_M_stands_14 rfl rfl ?_
  refine g_getN hg 15 fl_M_15 rfl d_M_stands_15 (hn) ?_
  refine b_leN (tgt := 23) hb (by omega) (by omega) d_M_stands_18 (by decide) (fun c1 => ?_) (fun c1 => ?_)
  · refine b_iload_n hb d_M_stands_23 rfl rfl ?_
    refine b_if_eq (tgt := 37) hb d_M_stands_24 (by decide) (fun c2 => ?_) (fun c2 => ?_)
    · have he : e = false := b2_0.mp c2
      refine b_iconst (v := nI 0) hb d_M_stands_37 rfl ?_
      refine b_istore (lv' := [(5, _), (4, _), (0, _), (1, _), (2, _), (3, _)]) hb d_M_stands_38 (by decide) rfl ?_
      refine b_iconst (v := nI 0) hb d_M_stands_40 rfl ?_
      refine b_istore (lv' := [(6, _), (5, _), (4, _), (0, _), (1, _), (2, _), (3, _)]) hb d_M_stands_41 (by decide) rfl ?_
      exact main 0 c1 (Or.inr ⟨he, rfl⟩) (by omega) (aP A r p).length 0 (by omega) (fun j hj => absurd hj (Nat.not_lt_zero j))
    · have he : e = true := by
        cases e with
        | false => exact absurd rfl c2
        | true => rfl
      refine b_aload_n hb d_M_stands_27 rfl rfl ?_
      refine g_getN hg 15 fl_M_15 rfl d_M_stands_28 (hn) ?_
      refine b_iload hb d_M_stands_31 rfl ?_
      refine b_isubN hb d_M_stands_33 (by omega) ?_
      refine b_goto (tgt := 38) hb d_M_stands_34 (by decide) ?_
      refine b_istore (lv' := [(5, _), (4, _), (0, _), (1, _), (2, _), (3, _)]) hb d_M_stands_38 (by decide) rfl ?_
      refine b_iconst (v := nI 0) hb d_M_stands_40 rfl ?_
      refine b_istore (lv' := [(6, _), (5, _), (4, _), (0, _), (1, _), (2, _), (3, _)]) hb d_M_stands_41 (by decide) rfl ?_
      exact main (v.length - (aP A r p).length) c1 (Or.inl ⟨he, rfl⟩) (by omega) (aP A r p).length 0 (by omega) (fun j hj => absurd hj (Nat.not_lt_zero j))
  · refine b_iconst (v := nI 0) hb d_M_stands_21 rfl ?_
    exact zero _ _ (fun _ z => absurd z.1 (by omega)) (fun _ z => absurd z.1 (by omega)) d_M_stands_22
theorem m_apply {g : Sg} {A : Ab} {v : List Int32} {r : Nat} (hJ : JM g A) (hW : RW (g.1 15) (g.2 14) v) (hl : v.length ≤ 20) (hr : r < aR A) : mMi 1 1 y_M_apply b_M_apply 7 .boolean [.int (nI r)] g (fun q t => fr [14, 15, 16] g t ∧ ((q = 1 ∧ ∃ v2 : List Int32, AV A r v v2 ∧ RW (t.1 15) (t.2 14) v2 ∧ v2.length ≤ v.length + 3) ∨ (q = 0 ∧ ∀ v2 : List Int32, ¬ AV A r v v2))) := by
  refine m_i (Nat.le_refl _) (by decide) rfl (fun _ => Nat.le_of_ble_eq_true rfl) (fun h ad K hg hret => ?_)
  have hb := hg.b
  have hn := hW.1
  have hrw := hW.2
  have hR10 : aR A ≤ 10 := hJ.1.2.2.1
  obtain ⟨-, a2, -, -⟩ := hJ.2.2.2.1.2 r hr
  obtain ⟨⟨l0, l1, l2⟩, ⟨p0, p1, p2⟩, s0, s1, s2⟩ := rl hJ.1 hJ.2.2.2.1 hr
  obtain ⟨e, he⟩ : ∃ e : Bool, e = aS A r := ⟨_, rfl⟩
  rw [← he] at a2
  have zero : ∀ (lv : List (Nat × Value)), (∀ v2 : List Int32, ¬ AV A r v v2) → K g 27 lv [] := by
    intro lv hno
    refine b_iconst (v := nI 0) hb d_M_apply_27 rfl ?_
    exact hret _ _ _ _ d_M_apply_28 rfl ⟨fr_rf, Or.inr ⟨rfl, hno⟩⟩
  have main : (e = true → qE (aP A r 0) v ∧ qE (aP A r 2) v) → (e = false → qB (aP A r 0) v ∧ qB (aP A r 2) v) → K g 29 [(2, .int (b2 e)), (0, .ref h), (1, .int (nI r))] [] := by
    intro hT hF
    obtain ⟨v2, hAV, hv2⟩ : ∃ v2 : List Int32, AV A r v v2 ∧ ((e = true ∧ v2 = v.take (v.length - (aP A r 0).length) ++ aP A r 1) ∨ (e = false ∧ v2 = aP A r 1 ++ v.drop (aP A r 0).length)) := by
      cases e with
      | true => exact ⟨_, Or.inl ⟨he.symm, (hT rfl).1, (hT rfl).2, rfl⟩, Or.inl ⟨rfl, rfl⟩⟩
      | false => exact ⟨_, Or.inr ⟨he.symm, (hF rfl).1, (hF rfl).2, rfl⟩, Or.inr ⟨rfl, rfl⟩⟩
    have hcut : (aP A r 0).length ≤ v.length := by
      cases e with
      | true => exact (hT rfl).1.1
      | false => exact (hF rfl).1.1
    obtain ⟨left, hleft⟩ : ∃ left : Nat, left = v.length - (aP A r 0).length := ⟨_, rfl⟩
    obtain ⟨o1, o2, o3, hO, hO2⟩ : ∃ o1 o2 o3 : Nat, ((e = true ∧ o1 = 0 ∧ o2 = 0 ∧ o3 = left) ∨ (e = false ∧ o1 = (aP A r 1).length ∧ o2 = (aP A r 0).length ∧ o3 = 0)) ∧ ((o1 = 0 ∧ o2 = 0 ∧ o3 = left) ∨ (o1 = (aP A r 1).length ∧ o2 = (aP A r 0).length ∧ o3 = 0)) := by
      cases e with
      | true => exact ⟨0, 0, left, Or.inl ⟨rfl, rfl, rfl, rfl⟩, Or.inl ⟨rfl, rfl, rfl⟩⟩
      | false => exact ⟨_, _, 0, Or.inr ⟨rfl, rfl, rfl, rfl⟩, Or.inr ⟨rfl, rfl, rfl⟩⟩
    have hv2l : v2.length = left + (aP A r 1).length := by
      rcases hv2 with ⟨-, z⟩ | ⟨-, z⟩
      · rw [z, List.length_append, List.length_take]; omega
      · rw [z, List.length_append, List.length_drop]; omega
    have loop3 : ∀ (n i : Nat) (t : Sg), i + n = v2.length → fr [14, 15, 16] g t → t.1 15 = v2.length → (∀ j : Nat, j < v2.length → t.2 16 j = v2.getD j 0) → (∀ j : Nat, j < i → t.2 14 j = v2.getD j 0) → K t 169 [(6, .int (nI i)), (5, .int (nI left)), (4, .int (nI (aP A r 1).length)), (3, .int (nI (aP A r 0).length)), (2, .int (b2 e)), (0, .ref h), (1, .int (nI r))] [] := by
      intro n
      induction n with
      | zero =>
        intro i t hi ft h15 ho hj
        refine b_iload hb d_M_apply_169 rfl ?_
        refine b_aload_n hb d_M_apply_171 rfl rfl ?_
        refine g_getN hg 15 fl_M_15 rfl d_M_apply_172 (h15) ?_
        refine b_geN (tgt := 198) hb (by omega) (by omega) d_M_apply_175 (by decide) (fun c1 => ?_) (fun c1 => ?_)
        · refine b_iconst (v := nI 1) hb d_M_apply_198 rfl ?_
          exact hret _ _ _ _ d_M_apply_199 rfl ⟨ft, Or.inl ⟨rfl, v2, hAV, ⟨h15, fun j hj2 => by rw [Nat.zero_add]; exact hj j (by omega)⟩, by omega⟩⟩
        · exact absurd c1 (by omega)
      | succ n ih =>
        intro i t hi ft h15 ho hj
        refine b_iload hb d_M_apply_169 rfl ?_
        refine b_aload_n hb d_M_apply_171 rfl rfl ?_
        refine g_getN hg 15 fl_M_15 rfl d_M_apply_172 (h15) ?_
        refine b_geN (tgt := 198) hb (by omega) (by omega) d_M_apply_175 (by decide) (fun c1 => ?_) (fun c1 => ?_)
        · exact absurd c1 (by omega)
        · refine b_aload_n hb d_M_apply_178 rfl rfl ?_
          refine g_getA hg 14 fl_M_14 (Or.inl rfl) d_M_apply_179 ?_
          refine b_iload hb d_M_apply_182 rfl ?_
          refine b_aload_n hb d_M_apply_184 rfl rfl ?_
          refine g_getA hg 16 fl_M_16 (Or.inl rfl) d_M_apply_185 ?_
          refine b_iload hb d_M_apply_188 rfl ?_
          refine g_iald (n := 24) hg rfl rfl (by omega) d_M_apply_190 (ho i c1) ?_
          refine g_iast (n := 24) hg rfl rfl (by omega) d_M_apply_191 ?_
          refine b_iincN (lv' := [(6, _), (5, _), (4, _), (3, _), (2, _), (0, _), (1, _)]) hb d_M_apply_192 rfl (by decide) rfl ?_
          refine b_goto (tgt := 169) hb d_M_apply_195 (by decide) ?_
          refine ih (i + 1) _ (by omega) (fr_xa ft (by decide)) h15 ho (fun j hj2 => ?_)
          show upd (t.2 14) _ _ j = _
          by_cases q : j = i
          · subst q; exact pk_us
          · rw [pk_un q]; exact hj j (by omega)
    have loop2 : ∀ (n i : Nat) (t : Sg), i + n = (aP A r 1).length → fr [16] g t → (∀ j : Nat, j < left → t.2 16 (o1 + j) = v.getD (o2 + j) 0) → (∀ j : Nat, j < i → t.2 16 (o3 + j) = (aP A r 1).getD j 0) → K t 112 [(6, .int (nI i)), (5, .int (nI left)), (4, .int (nI (aP A r 1).length)), (3, .int (nI (aP A r 0).length)), (2, .int (b2 e)), (0, .ref h), (1, .int (nI r))] [] := by
      intro n
      induction n with
      | zero =>
        intro i t hi ft h1 h2
        refine b_iload hb d_M_apply_112 rfl ?_
        refine b_iload hb d_M_apply_114 rfl ?_
        refine b_geN (tgt := 157) hb (by omega) (by omega) d_M_apply_116 (by decide) (fun c1 => ?_) (fun c1 => ?_)
        · refine b_aload_n hb d_M_apply_157 rfl rfl ?_
          refine b_iload hb d_M_apply_158 rfl ?_
          refine b_iload hb d_M_apply_160 rfl ?_
          refine b_iaddN hb d_M_apply_162 ?_
          refine g_putN hg 15 fl_M_15 rfl d_M_apply_163 ?_
          refine b_iconst (v := nI 0) hb d_M_apply_166 rfl ?_
          refine b_istore (lv' := [(6, _), (5, _), (4, _), (3, _), (2, _), (0, _), (1, _)]) hb d_M_apply_167 (by decide) rfl ?_
          refine loop3 v2.length 0 _ (by omega) (fr_xi (fr_mono ft (by decide)) (by decide)) hv2l.symm (fun j hj => ?_) (fun j hj => absurd hj (Nat.not_lt_zero j))
          show t.2 16 j = _
          rcases hO with ⟨ee, z1, z2, z3⟩ | ⟨ee, z1, z2, z3⟩
          · rcases hv2 with ⟨-, z⟩ | ⟨ee2, -⟩
            · rw [z, gd_app, List.length_take, ← hleft, Nat.min_eq_left (by omega)]
              by_cases q : j < left
              · rw [if_pos q, gd_take q]
                have := h1 j q
                rwa [z1, z2, Nat.zero_add] at this
              · rw [if_neg q]
                have := h2 (j - left) (by omega)
                rwa [z3, Nat.add_sub_cancel' (Nat.le_of_not_lt q)] at this
            · rw [ee] at ee2; cases ee2
          · rcases hv2 with ⟨ee2, -⟩ | ⟨-, z⟩
            · rw [ee] at ee2; cases ee2
            · rw [z, gd_app]
              by_cases q : j < (aP A r 1).length
              · rw [if_pos q]
                have := h2 j (by omega)
                rwa [z3, Nat.zero_add] at this
              · rw [if_neg q, gd_drop]
                have := h1 (j - (aP A r 1).length) (by omega)
                rwa [z1, z2, Nat.add_sub_cancel' (Nat.le_of_not_lt q)] at this
        · exact absurd c1 (by omega)
      | succ n ih =>
        intro i t hi ft h1 h2
        have j133 : i < (aP A r 1).length → K t 133 [(6, .int (nI i)), (5, .int (nI left)), (4, .int (nI (aP A r 1).length)), (3, .int (nI (aP A r 0).length)), (2, .int (b2 e)), (0, .ref h), (1, .int (nI r))] [.int (nI o3), .ref (ad 16)] := by
          intro c1
          refine b_iload hb d_M_apply_133 rfl ?_
          refine b_iaddN hb d_M_apply_135 ?_
          refine b_aload_n hb d_M_apply_136 rfl rfl ?_
          refine g_getA hg 8 fl_M_8 (Or.inl rfl) d_M_apply_137 ?_
          refine b_iload_n hb d_M_apply_140 rfl rfl ?_
          refine b_bipush (v := nI 9) hb d_M_apply_141 rfl ?_
          refine b_imulN hb d_M_apply_143 ?_
          refine b_iconst (v := nI 3) hb d_M_apply_144 rfl ?_
          refine b_iaddN hb d_M_apply_145 ?_
          refine b_iload hb d_M_apply_146 rfl ?_
          refine b_iaddN hb d_M_apply_148 ?_
          refine g_iald (n := 90) hg rfl rfl (by omega) d_M_apply_149 ((show t.2 8 (r * 9 + 3 + i) = (aP A r 1).getD i 0 by rw [(ft 8 (by decide)).2]; exact p1 i c1)) ?_
          refine g_iast (n := 24) hg rfl rfl (by omega) d_M_apply_150 ?_
          refine b_iincN (lv' := [(6, _), (5, _), (4, _), (3, _), (2, _), (0, _), (1, _)]) hb d_M_apply_151 rfl (by decide) rfl ?_
          refine b_goto (tgt := 112) hb d_M_apply_154 (by decide) ?_
          refine ih (i + 1) _ (by omega) (fr_xa ft (by decide)) (fun j hj => ?_) (fun j hj => ?_)
          · show upd (t.2 16) _ _ _ = _
            rw [pk_un (by omega)]; exact h1 j hj
          · show upd (t.2 16) _ _ _ = _
            by_cases q : j = i
            · subst q; exact pk_us
            · rw [pk_un (by omega)]; exact h2 j (by omega)
        refine b_iload hb d_M_apply_112 rfl ?_
        refine b_iload hb d_M_apply_114 rfl ?_
        refine b_geN (tgt := 157) hb (by omega) (by omega) d_M_apply_116 (by decide) (fun c1 => ?_) (fun c1 => ?_)
        · exact absurd c1 (by omega)
        · refine b_aload_n hb d_M_apply_119 rfl rfl ?_
          refine g_getA hg 16 fl_M_16 (Or.inl rfl) d_M_apply_120 ?_
          refine b_iload_n hb d_M_apply_123 rfl rfl ?_
          refine b_if_eq (tgt := 132) hb d_M_apply_124 (by decide) (fun c2 => ?_) (fun c2 => ?_)
          · refine b_iconst (v := nI 0) hb d_M_apply_132 rfl ?_
            refine b_top (y := nI o3) ?_ (j133 c1)
            rcases hO with z | z
            · rw [b2_0.mp c2] at z; cases z.1
            · rw [z.2.2.2]
          · refine b_iload hb d_M_apply_127 rfl ?_
            refine b_goto (tgt := 133) hb d_M_apply_129 (by decide) ?_
            refine b_top (y := nI o3) ?_ (j133 c1)
            rcases hO with z | z
            · rw [z.2.2.2]
            · exact absurd (b2_0.mpr z.1) c2
    have loop1 : ∀ (n i : Nat) (t : Sg), i + n = left → fr [16] g t → (∀ j : Nat, j < i → t.2 16 (o1 + j) = v.getD (o2 + j) 0) → K t 61 [(6, .int (nI i)), (5, .int (nI left)), (4, .int (nI (aP A r 1).length)), (3, .int (nI (aP A r 0).length)), (2, .int (b2 e)), (0, .ref h), (1, .int (nI r))] [] := by
      intro n
      induction n with
      | zero =>
        intro i t hi ft h1
        refine b_iload hb d_M_apply_61 rfl ?_
        refine b_iload hb d_M_apply_63 rfl ?_
        refine b_geN (tgt := 109) hb (by omega) (by omega) d_M_apply_65 (by decide) (fun c1 => ?_) (fun c1 => ?_)
        · refine b_iconst (v := nI 0) hb d_M_apply_109 rfl ?_
          refine b_istore (lv' := [(6, _), (5, _), (4, _), (3, _), (2, _), (0, _), (1, _)]) hb d_M_apply_110 (by decide) rfl ?_
          exact loop2 (aP A r 1).length 0 t (by omega) ft (fun j hj => h1 j (by omega)) (fun j hj => absurd hj (Nat.not_lt_zero j))
        · exact absurd c1 (by omega)
      | succ n ih =>
        intro i t hi ft h1
        have j98 : K t 98 [(6, .int (nI i)), (5, .int (nI left)), (4, .int (nI (aP A r 1).length)), (3, .int (nI (aP A r 0).length)), (2, .int (b2 e)), (0, .ref h), (1, .int (nI r))] [.int (nI o2), .ref (ad 14), .int (nI (o1 + i)), .ref (ad 16)] := by
          refine b_iload hb d_M_apply_98 rfl ?_
          refine b_iaddN hb d_M_apply_100 ?_
          refine g_iald (n := 24) hg rfl rfl (by omega) d_M_apply_101 ((show t.2 14 (o2 + i) = v.getD (o2 + i) 0 by rw [(ft 14 (by decide)).2]; exact rep_0 hrw (by omega))) ?_
          refine g_iast (n := 24) hg rfl rfl (by omega) d_M_apply_102 ?_
          refine b_iincN (lv' := [(6, _), (5, _), (4, _), (3, _), (2, _), (0, _), (1, _)]) hb d_M_apply_103 rfl (by decide) rfl ?_
          refine b_goto (tgt := 61) hb d_M_apply_106 (by decide) ?_
          refine ih (i + 1) _ (by omega) (fr_xa ft (by decide)) (fun j hj => ?_)
          show upd (t.2 16) _ _ _ = _
          by_cases q : j = i
          · subst q; exact pk_us
          · rw [pk_un (by omega)]; exact h1 j (by omega)
        have j82 : K t 82 [(6, .int (nI i)), (5, .int (nI left)), (4, .int (nI (aP A r 1).length)), (3, .int (nI (aP A r 0).length)), (2, .int (b2 e)), (0, .ref h), (1, .int (nI r))] [.int (nI o1), .ref (ad 16)] := by
          refine b_iload hb d_M_apply_82 rfl ?_
          refine b_iaddN hb d_M_apply_84 ?_
          refine b_aload_n hb d_M_apply_85 rfl rfl ?_
          refine g_getA hg 14 fl_M_14 (Or.inl rfl) d_M_apply_86 ?_
          refine b_iload_n hb d_M_apply_89 rfl rfl ?_
          refine b_if_eq (tgt := 97) hb d_M_apply_90 (by decide) (fun c2 => ?_) (fun c2 => ?_)
          · refine b_iload_n hb d_M_apply_97 rfl rfl ?_
            refine b_top (y := nI o2) ?_ j98
            rcases hO with z | z
            · rw [b2_0.mp c2] at z; cases z.1
            · rw [z.2.2.1]
          · refine b_iconst (v := nI 0) hb d_M_apply_93 rfl ?_
            refine b_goto (tgt := 98) hb d_M_apply_94 (by decide) ?_
            refine b_top (y := nI o2) ?_ j98
            rcases hO with z | z
            · rw [z.2.2.1]
            · exact absurd (b2_0.mpr z.1) c2
        refine b_iload hb d_M_apply_61 rfl ?_
        refine b_iload hb d_M_apply_63 rfl ?_
        refine b_geN (tgt := 109) hb (by omega) (by omega) d_M_apply_65 (by decide) (fun c1 => ?_) (fun c1 => ?_)
        · exact absurd c1 (by omega)
        · refine b_aload_n hb d_M_apply_68 rfl rfl ?_
          refine g_getA hg 16 fl_M_16 (Or.inl rfl) d_M_apply_69 ?_
          refine b_iload_n hb d_M_apply_72 rfl rfl ?_
          refine b_if_eq (tgt := 80) hb d_M_apply_73 (by decide) (fun c2 => ?_) (fun c2 => ?_)
          · refine b_iload hb d_M_apply_80 rfl ?_
            refine b_top (y := nI o1) ?_ j82
            rcases hO with z | z
            · rw [b2_0.mp c2] at z; cases z.1
            · rw [z.2.1]
          · refine b_iconst (v := nI 0) hb d_M_apply_76 rfl ?_
            refine b_goto (tgt := 82) hb d_M_apply_77 (by decide) ?_
            refine b_top (y := nI o1) ?_ j82
            rcases hO with z | z
            · rw [z.2.1]
            · exact absurd (b2_0.mpr z.1) c2
    refine b_aload_n hb d_M_apply_29 rfl rfl ?_
    refine g_getA hg 9 fl_M_9 (Or.inl rfl) d_M_apply_30 ?_
    refine b_iload_n hb d_M_apply_33 rfl rfl ?_
    refine b_iconst (v := nI 3) hb d_M_apply_34 rfl ?_
    refine b_imulN hb d_M_apply_35 ?_
    refine g_iald (n := 30) hg rfl rfl (by omega) d_M_apply_36 (l0) ?_
    refine b_istore_n (lv' := [(3, _), (2, _), (0, _), (1, _)]) hb d_M_apply_37 rfl (by decide) rfl ?_
    refine b_aload_n hb d_M_apply_38 rfl rfl ?_
    refine g_getA hg 9 fl_M_9 (Or.inl rfl) d_M_apply_39 ?_
    refine b_iload_n hb d_M_apply_42 rfl rfl ?_
    refine b_iconst (v := nI 3) hb d_M_apply_43 rfl ?_
    refine b_imulN hb d_M_apply_44 ?_
    refine b_iconst (v := nI 1) hb d_M_apply_45 rfl ?_
    refine b_iaddN hb d_M_apply_46 ?_
    refine g_iald (n := 30) hg rfl rfl (by omega) d_M_apply_47 (l1) ?_
    refine b_istore (lv' := [(4, _), (3, _), (2, _), (0, _), (1, _)]) hb d_M_apply_48 (by decide) rfl ?_
    refine b_aload_n hb d_M_apply_50 rfl rfl ?_
    refine g_getN hg 15 fl_M_15 rfl d_M_apply_51 (hn) ?_
    refine b_iload_n hb d_M_apply_54 rfl rfl ?_
    refine b_isubN hb d_M_apply_55 (by omega) ?_
    refine b_istore (lv' := [(5, _), (4, _), (3, _), (2, _), (0, _), (1, _)]) hb d_M_apply_56 (by decide) rfl ?_
    refine b_iconst (v := nI 0) hb d_M_apply_58 rfl ?_
    refine b_istore (lv' := [(6, _), (5, _), (4, _), (3, _), (2, _), (0, _), (1, _)]) hb d_M_apply_59 (by decide) rfl ?_
    rw [← hleft]
    exact loop1 left 0 g (by omega) fr_rf (fun j hj => absurd hj (Nat.not_lt_zero j))
  show K g 0 [(0, .ref h), (1, .int (nI r))] []
  refine b_aload_n hb d_M_apply_0 rfl rfl ?_
  refine g_getA hg 6 fl_M_6 (Or.inr rfl) d_M_apply_1 ?_
  refine b_iload_n hb d_M_apply_4 rfl rfl ?_
  refine g_zald (n := 10) hg rfl rfl (by omega) d_M_apply_5 (a2) ?_
  refine b_istore_n (lv' := [(2, _), (0, _), (1, _)]) hb d_M_apply_6 rfl (by decide) rfl ?_
  refine b_aload_n hb d_M_apply_7 rfl rfl ?_
  refine b_iload_n hb d_M_apply_8 rfl rfl ?_
  refine b_iconst (v := nI 0) hb d_M_apply_9 rfl ?_
  refine b_iload_n hb d_M_apply_10 rfl rfl ?_
  refine g_calli hg (m_stands (e := e) hJ hW (by omega) hr (p := 0) (by decide)) lk_M_M_stands (by decide) d_M_apply_11 rfl (Nat.le_of_ble_eq_true rfl) (fun q1 t1 hp1 => ?_)
  obtain ⟨rfl, hp1⟩ := hp1
  rcases hp1 with ⟨rfl, hT1, hF1⟩ | ⟨rfl, hT1, hF1⟩
  · refine b_if_eq (tgt := 27) hb d_M_apply_14 (by decide) (fun c1 => ?_) (fun c1 => ?_)
    · exact absurd c1 (by decide)
    · refine b_aload_n hb d_M_apply_17 rfl rfl ?_
      refine b_iload_n hb d_M_apply_18 rfl rfl ?_
      refine b_iconst (v := nI 2) hb d_M_apply_19 rfl ?_
      refine b_iload_n hb d_M_apply_20 rfl rfl ?_
      refine g_calli hg (m_stands (e := e) hJ hW (by omega) hr (p := 2) (by decide)) lk_M_M_stands (by decide) d_M_apply_21 rfl (Nat.le_of_ble_eq_true rfl) (fun q2 t2 hp2 => ?_)
      obtain ⟨rfl, hp2⟩ := hp2
      rcases hp2 with ⟨rfl, hT2, hF2⟩ | ⟨rfl, hT2, hF2⟩
      · refine b_if_ne (tgt := 29) hb d_M_apply_24 (by decide) (fun c2 => ?_) (fun c2 => ?_)
        · exact main (fun z => ⟨hT1 z, hT2 z⟩) (fun z => ⟨hF1 z, hF2 z⟩)
        · exact absurd c2 (by decide)
      · refine b_if_ne (tgt := 29) hb d_M_apply_24 (by decide) (fun c2 => ?_) (fun c2 => ?_)
        · exact absurd rfl c2
        · refine zero _ (fun v2 z => ?_)
          rcases z with z | z
          · exact hT2 (he.trans z.1) z.2.2.1
          · exact hF2 (he.trans z.1) z.2.2.1
  · refine b_if_eq (tgt := 27) hb d_M_apply_14 (by decide) (fun c1 => ?_) (fun c1 => ?_)
    · refine zero _ (fun v2 z => ?_)
      rcases z with z | z
      · exact hT1 (he.trans z.1) z.2.1
      · exact hF1 (he.trans z.1) z.2.1
    · exact absurd rfl c1
end
section
/-! AffixSpellerModel: one derivation -/
def mU (A : Ab) (s u : Nat) : Prop := u = 0 ∨ (aS A (u - 1) = true ∧ aG A s / 2 ^ (aF A (u - 1)) % 2 = 1)
def mQ (A : Ab) (s q : Nat) : Prop := q = 0 ∨ (aS A (q - 1) = false ∧ aG A s / 2 ^ (aF A (q - 1)) % 2 = 1)
def mC (A : Ab) (u q : Nat) : Prop := u = 0 ∨ q = 0 ∨ (aC A (u - 1) = true ∧ aC A (q - 1) = true)
theorem der_m {A : Ab} {w : List Int32} {s u q : Nat} (h : derP A w s u q) : mU A s u ∧ mQ A s q ∧ mC A u q := by
  obtain ⟨-, -, -, -, h1, h2, v, hi, hc⟩ := h
  refine ⟨?_, ?_, ?_⟩
  · rcases h1 with z | z
    · exact Or.inl z
    · rcases hc with y | y
      · exact Or.inl y.1
      · exact Or.inr ⟨y.2.1, z⟩
  · rcases h2 with z | z
    · exact Or.inl z
    · rcases hi with y | y
      · exact Or.inl y.1
      · exact Or.inr ⟨y.2.1, z⟩
  · rcases hc with y | y
    · exact Or.inl y.1
    · exact Or.inr y.2.2.1
theorem der_i {A : Ab} {w : List Int32} {s u q : Nat} (hs : s < aN A) (hu : u ≤ aR A) (hq : q ≤ aR A) (h1 : mU A s u) (h2 : mQ A s q) : derP A w s u q ↔ w.length ≠ 0 ∧ ∃ v : List Int32, inn A q w v ∧ cor A q u v (aL A s) := by
  constructor
  · exact fun h => ⟨h.1, h.2.2.2.2.2.2⟩
  · intro h
    refine ⟨h.1, hs, hu, hq, ?_, ?_, h.2⟩
    · rcases h1 with z | z
      · exact Or.inl z
      · exact Or.inr z.2
    · rcases h2 with z | z
      · exact Or.inl z
      · exact Or.inr z.2
theorem pI_p {u : Nat} (h : u ≠ 0) : pI u = nI (u - 1) := by
  obtain ⟨q1, rfl⟩ : ∃ q1, u = q1 + 1 := ⟨u - 1, by omega⟩
  exact pI_s q1
theorem m_gives {g : Sg} {A : Ab} {s u q : Nat} (hJ : JM g A) (hs : s < aN A) (hu : u ≤ aR A) (hq : q ≤ aR A) : mMi 1 2 y_M_gives b_M_gives 7 .boolean [.int (nI s), .int (pI u), .int (pI q)] g (fun r t => fr [14, 15, 16] g t ∧ ((r = 1 ∧ derP A (aw A) s u q) ∨ (r = 0 ∧ ¬ derP A (aw A) s u q))) := by
  refine m_i (Nat.le_refl _) (by decide) rfl (fun _ => Nat.le_of_ble_eq_true rfl) (fun h ad K hg hret => ?_)
  have hb := hg.b
  obtain ⟨hw, ⟨hn, hrw⟩, hk, hr, hN, hG⟩ := id hJ
  have hR10 : aR A ≤ 10 := hw.2.2.1
  have hN12 : aN A ≤ 12 := hw.2.2.2.2.1
  have hle : (aw A).length ≤ 12 := hw.1.1
  obtain ⟨b1, b2s, b3⟩ := hG s hs
  obtain ⟨w1, w2, w3, w4⟩ := hw.2.2.2.2.2 s hs
  have zero : ∀ (t : Sg) (lv : List (Nat × Value)) (pc : Nat), fr [14, 15, 16] g t → ¬ derP A (aw A) s u q → decode b_M_gives pc = .ok (.ireturn, 1) → K t pc lv [.int (nI 0)] := fun t lv pc ft hno hd => hret _ _ _ _ hd rfl ⟨ft, Or.inr ⟨rfl, hno⟩⟩
  have done : ∀ (t : Sg) (v : List Int32) (x6 x5 x4 : Int32), fr [14, 15, 16] g t → RW (t.1 15) (t.2 14) v → v.length ≤ 24 → (derP A (aw A) s u q ↔ (aw A).length ≠ 0 ∧ v = aw A) → K t 191 [(6, .int x6), (5, .int x5), (4, .int x4), (0, .ref h), (1, .int (nI s)), (2, .int (pI u)), (3, .int (pI q))] [] := by
    intro t v x6 x5 x4 ft hv hvl hE
    have hn2 : t.1 1 = (aw A).length := (ft 1 (by decide)).1.trans hn
    have bad : ∀ lv, ¬ derP A (aw A) s u q → K t 209 lv [] := by
      intro lv hno
      refine b_iconst (v := nI 0) hb d_M_gives_209 rfl ?_
      exact zero t _ _ ft hno d_M_gives_210
    have loop : v.length = (aw A).length → (aw A).length ≠ 0 → ∀ n i : Nat, i + n = (aw A).length → (∀ j : Nat, j < i → v.getD j 0 = (aw A).getD j 0) → K t 214 [(6, .int (nI i)), (5, .int x5), (4, .int x4), (0, .ref h), (1, .int (nI s)), (2, .int (pI u)), (3, .int (pI q))] [] := by
      intro hll h0 n
      induction n with
      | zero =>
        intro i hi hj
        refine b_iload hb d_M_gives_214 rfl ?_
        refine b_aload_n hb d_M_gives_216 rfl rfl ?_
        refine g_getN hg 1 fl_M_1 rfl d_M_gives_217 (hn2) ?_
        refine b_geN (tgt := 248) hb (by omega) (by omega) d_M_gives_220 (by decide) (fun c1 => ?_) (fun c1 => ?_)
        · refine b_iconst (v := nI 1) hb d_M_gives_248 rfl ?_
          exact hret _ _ _ _ d_M_gives_249 rfl ⟨ft, Or.inl ⟨rfl, hE.mpr ⟨h0, gd_ext hll (fun j hj2 => hj j (by omega))⟩⟩⟩
        · exact absurd c1 (by omega)
      | succ n ih =>
        intro i hi hj
        refine b_iload hb d_M_gives_214 rfl ?_
        refine b_aload_n hb d_M_gives_216 rfl rfl ?_
        refine g_getN hg 1 fl_M_1 rfl d_M_gives_217 (hn2) ?_
        refine b_geN (tgt := 248) hb (by omega) (by omega) d_M_gives_220 (by decide) (fun c1 => ?_) (fun c1 => ?_)
        · exact absurd c1 (by omega)
        · refine b_aload_n hb d_M_gives_223 rfl rfl ?_
          refine g_getA hg 14 fl_M_14 (Or.inl rfl) d_M_gives_224 ?_
          refine b_iload hb d_M_gives_227 rfl ?_
          refine g_iald (n := 24) hg rfl rfl (by omega) d_M_gives_229 (rep_0 hv.2 (by omega)) ?_
          refine b_aload_n hb d_M_gives_230 rfl rfl ?_
          refine g_getA hg 0 fl_M_0 (Or.inl rfl) d_M_gives_231 ?_
          refine b_iload hb d_M_gives_234 rfl ?_
          refine g_iald (n := 12) hg rfl rfl (by omega) d_M_gives_236 ((show t.2 0 i = (aw A).getD i 0 by rw [(ft 0 (by decide)).2]; exact rep_0 hrw c1)) ?_
          refine b_icmp_eq (tgt := 242) hb d_M_gives_237 (by decide) (fun c2 => ?_) (fun c2 => ?_)
          · refine b_iincN (lv' := [(6, _), (5, _), (4, _), (0, _), (1, _), (2, _), (3, _)]) hb d_M_gives_242 rfl (by decide) rfl ?_
            refine b_goto (tgt := 214) hb d_M_gives_245 (by decide) ?_
            exact ih (i + 1) (by omega) (fun j hj2 => by
              rcases Nat.lt_or_ge j i with z | z
              · exact hj j z
              · have : j = i := by omega
                subst this; exact c2)
          · refine b_iconst (v := nI 0) hb d_M_gives_240 rfl ?_
            exact zero t _ _ ft (fun z => c2 (by rw [(hE.mp z).2])) d_M_gives_241
    refine b_aload_n hb d_M_gives_191 rfl rfl ?_
    refine g_getN hg 15 fl_M_15 rfl d_M_gives_192 (hv.1) ?_
    refine b_aload_n hb d_M_gives_195 rfl rfl ?_
    refine g_getN hg 1 fl_M_1 rfl d_M_gives_196 (hn2) ?_
    refine b_neN (tgt := 209) hb (by omega) (by omega) d_M_gives_199 (by decide) (fun c1 => ?_) (fun c1 => ?_)
    · exact bad _ (fun z => c1 (by rw [(hE.mp z).2]))
    · refine b_aload_n hb d_M_gives_202 rfl rfl ?_
      refine g_getN hg 1 fl_M_1 rfl d_M_gives_203 (hn2) ?_
      refine b_ne0N (tgt := 211) hb (by omega) d_M_gives_206 (by decide) (fun c2 => ?_) (fun c2 => ?_)
      · refine b_iconst (v := nI 0) hb d_M_gives_211 rfl ?_
        refine b_istore (lv' := [(6, _), (5, _), (4, _), (0, _), (1, _), (2, _), (3, _)]) hb d_M_gives_212 (by decide) rfl ?_
        exact loop c1 c2 (aw A).length 0 (by omega) (fun j hj => absurd hj (Nat.not_lt_zero j))
      · exact bad _ (fun z => (hE.mp z).1 c2)
  have stQ : mQ A s q → ∀ (t : Sg) (v : List Int32) (x6 x5 x4 : Int32), fr [14, 15, 16] g t → RW (t.1 15) (t.2 14) v → v.length ≤ 15 → (derP A (aw A) s u q ↔ (aw A).length ≠ 0 ∧ inn A q (aw A) v) → K t 177 [(6, .int x6), (5, .int x5), (4, .int x4), (0, .ref h), (1, .int (nI s)), (2, .int (pI u)), (3, .int (pI q))] [] := by
    intro hmQ t v x6 x5 x4 ft hv hvl hE
    refine b_iload_n hb d_M_gives_177 rfl rfl ?_
    refine b_if_lt (tgt := 191) hb d_M_gives_178 (by decide) (fun c1 => ?_) (fun c1 => ?_)
    · have hq0 : q = 0 := (pI_neg (by omega)).mp c1
      refine done t v _ _ _ ft hv (by omega) (hE.trans ?_)
      constructor
      · rintro ⟨z, y | y⟩
        · exact ⟨z, y.2⟩
        · exact absurd hq0 y.1
      · exact fun z => ⟨z.1, Or.inl ⟨hq0, z.2⟩⟩
    · have hq0 : q ≠ 0 := fun z => c1 ((pI_neg (by omega)).mpr z)
      have hqS : aS A (q - 1) = false := by
        rcases hmQ with z | z
        · exact absurd z hq0
        · exact z.1
      have hinn : ∀ v2 : List Int32, inn A q (aw A) v2 ↔ AV A (q - 1) v2 (aw A) := by
        intro v2
        rw [AV_UP hw (by omega) hqS]
        constructor
        · rintro (z | z)
          · exact absurd z.1 hq0
          · exact z.2.2
        · exact fun z => Or.inr ⟨hq0, hqS, z⟩
      refine b_aload_n hb d_M_gives_181 rfl rfl ?_
      refine b_iload_n hb d_M_gives_182 rfl rfl ?_
      refine b_top (pI_p hq0) ?_
      refine g_calli hg (m_apply (v := v) (JM_fr ft (by decide) hJ) hv (by omega) (r := q - 1) (by omega)) lk_M_M_apply (by decide) d_M_gives_183 rfl (Nat.le_of_ble_eq_true rfl) (fun r1 t2 hp => ?_)
      obtain ⟨f2, hp⟩ := hp
      rcases hp with ⟨rfl, v2, hAV, hv2, hl2⟩ | ⟨rfl, hno⟩
      · refine b_if_ne (tgt := 191) hb d_M_gives_186 (by decide) (fun c2 => ?_) (fun c2 => ?_)
        · refine done t2 v2 _ _ _ (fr_tr ft f2) hv2 (by omega) (hE.trans ?_)
          rw [hinn v]
          constructor
          · rintro ⟨z, y⟩
            refine ⟨z, ?_⟩
            rcases hAV with a | a
            · rw [hqS] at a; cases a.1
            · rcases y with y | y
              · rw [hqS] at y; cases y.1
              · exact a.2.2.2.trans y.2.2.2.symm
          · rintro ⟨z, y⟩
            exact ⟨z, y ▸ hAV⟩
        · exact absurd c2 (by decide)
      · refine b_if_ne (tgt := 191) hb d_M_gives_186 (by decide) (fun c2 => ?_) (fun c2 => ?_)
        · exact absurd rfl c2
        · refine b_iconst (v := nI 0) hb d_M_gives_189 rfl ?_
          exact zero t2 _ _ (fr_tr ft f2) (fun z => hno _ ((hinn v).mp (hE.mp z).2)) d_M_gives_190
  have stU : mU A s u → mQ A s q → mC A u q → ∀ (t : Sg) (x6 x5 x4 : Int32), fr [14, 15, 16] g t → RW (t.1 15) (t.2 14) (aL A s) → K t 163 [(6, .int x6), (5, .int x5), (4, .int x4), (0, .ref h), (1, .int (nI s)), (2, .int (pI u)), (3, .int (pI q))] [] := by
    intro hmU hmQ hmC t x6 x5 x4 ft hv
    have hE := der_i (w := aw A) hs hu hq hmU hmQ
    refine b_iload_n hb d_M_gives_163 rfl rfl ?_
    refine b_if_lt (tgt := 177) hb d_M_gives_164 (by decide) (fun c1 => ?_) (fun c1 => ?_)
    · have hu0 : u = 0 := (pI_neg (by omega)).mp c1
      refine stQ hmQ t (aL A s) _ _ _ ft hv (by omega) (hE.trans ?_)
      constructor
      · rintro ⟨z, v, hi, hc⟩
        rcases hc with y | y
        · exact ⟨z, y.2 ▸ hi⟩
        · exact absurd hu0 y.1
      · exact fun z => ⟨z.1, _, z.2, Or.inl ⟨hu0, rfl⟩⟩
    · have hu0 : u ≠ 0 := fun z => c1 ((pI_neg (by omega)).mpr z)
      have huS : aS A (u - 1) = true := by
        rcases hmU with z | z
        · exact absurd z hu0
        · exact z.1
      have hX : q = 0 ∨ (aC A (u - 1) = true ∧ aC A (q - 1) = true) := by
        rcases hmC with z | z
        · exact absurd z hu0
        · exact z
      have hcor : ∀ v2 : List Int32, cor A q u v2 (aL A s) ↔ AV A (u - 1) (aL A s) v2 := by
        intro v2
        rw [AV_US hw (by omega) huS]
        constructor
        · rintro (z | z)
          · exact absurd z.1 hu0
          · exact z.2.2.2
        · exact fun z => Or.inr ⟨hu0, huS, hX, z⟩
      refine b_aload_n hb d_M_gives_167 rfl rfl ?_
      refine b_iload_n hb d_M_gives_168 rfl rfl ?_
      refine b_top (pI_p hu0) ?_
      refine g_calli hg (m_apply (v := aL A s) (JM_fr ft (by decide) hJ) hv (by omega) (r := u - 1) (by omega)) lk_M_M_apply (by decide) d_M_gives_169 rfl (Nat.le_of_ble_eq_true rfl) (fun r1 t2 hp => ?_)
      obtain ⟨f2, hp⟩ := hp
      rcases hp with ⟨rfl, v2, hAV, hv2, hl2⟩ | ⟨rfl, hno⟩
      · refine b_if_ne (tgt := 177) hb d_M_gives_172 (by decide) (fun c2 => ?_) (fun c2 => ?_)
        · refine stQ hmQ t2 v2 _ _ _ (fr_tr ft f2) hv2 (by omega) (hE.trans ?_)
          constructor
          · rintro ⟨z, v, hi, hc⟩
            refine ⟨z, ?_⟩
            have hc2 := (hcor v).mp hc
            rcases hAV with a | a
            · rcases hc2 with y | y
              · rw [a.2.2.2, ← y.2.2.2]; exact hi
              · rw [huS] at y; cases y.1
            · rw [huS] at a; cases a.1
          · exact fun z => ⟨z.1, v2, z.2, (hcor v2).mpr hAV⟩
        · exact absurd c2 (by decide)
      · refine b_if_ne (tgt := 177) hb d_M_gives_172 (by decide) (fun c2 => ?_) (fun c2 => ?_)
        · exact absurd rfl c2
        · refine b_iconst (v := nI 0) hb d_M_gives_175 rfl ?_
          refine zero t2 _ _ (fr_tr ft f2) (fun z => ?_) d_M_gives_176
          obtain ⟨-, v, -, hc⟩ := hE.mp z
          exact hno v ((hcor v).mp hc)
  have copy : mU A s u → mQ A s q → mC A u q → ∀ (x5 x4 : Int32) (n i : Nat) (t : Sg), i + n = (aL A s).length → fr [14, 15, 16] g t → t.1 15 = (aL A s).length → (∀ j : Nat, j < i → t.2 14 j = (aL A s).getD j 0) → K t 129 [(6, .int (nI i)), (5, .int x5), (4, .int x4), (0, .ref h), (1, .int (nI s)), (2, .int (pI u)), (3, .int (pI q))] [] := by
    intro hmU hmQ hmC x5 x4 n
    induction n with
    | zero =>
      intro i t hi ft h15 hj
      refine b_iload hb d_M_gives_129 rfl ?_
      refine b_aload_n hb d_M_gives_131 rfl rfl ?_
      refine g_getN hg 15 fl_M_15 rfl d_M_gives_132 (h15) ?_
      refine b_geN (tgt := 163) hb (by omega) (by omega) d_M_gives_135 (by decide) (fun c1 => ?_) (fun c1 => ?_)
      · exact stU hmU hmQ hmC t _ _ _ ft ⟨h15, fun j hj2 => by rw [Nat.zero_add]; exact hj j (by omega)⟩
      · exact absurd c1 (by omega)
    | succ n ih =>
      intro i t hi ft h15 hj
      refine b_iload hb d_M_gives_129 rfl ?_
      refine b_aload_n hb d_M_gives_131 rfl rfl ?_
      refine g_getN hg 15 fl_M_15 rfl d_M_gives_132 (h15) ?_
      refine b_geN (tgt := 163) hb (by omega) (by omega) d_M_gives_135 (by decide) (fun c1 => ?_) (fun c1 => ?_)
      · exact absurd c1 (by omega)
      · refine b_aload_n hb d_M_gives_138 rfl rfl ?_
        refine g_getA hg 14 fl_M_14 (Or.inl rfl) d_M_gives_139 ?_
        refine b_iload hb d_M_gives_142 rfl ?_
        refine b_aload_n hb d_M_gives_144 rfl rfl ?_
        refine g_getA hg 13 fl_M_13 (Or.inl rfl) d_M_gives_145 ?_
        refine b_iload_n hb d_M_gives_148 rfl rfl ?_
        refine b_bipush (v := nI 12) hb d_M_gives_149 rfl ?_
        refine b_imulN hb d_M_gives_151 ?_
        refine b_iload hb d_M_gives_152 rfl ?_
        refine b_iaddN hb d_M_gives_154 ?_
        refine g_iald (n := 144) hg rfl rfl (by omega) d_M_gives_155 ((show t.2 13 (s * 12 + i) = (aL A s).getD i 0 by rw [(ft 13 (by decide)).2]; exact b3 i c1)) ?_
        refine g_iast (n := 24) hg rfl rfl (by omega) d_M_gives_156 ?_
        refine b_iincN (lv' := [(6, _), (5, _), (4, _), (0, _), (1, _), (2, _), (3, _)]) hb d_M_gives_157 rfl (by decide) rfl ?_
        refine b_goto (tgt := 129) hb d_M_gives_160 (by decide) ?_
        refine ih (i + 1) _ (by omega) (fr_xa ft (by decide)) h15 (fun j hj2 => ?_)
        show upd (t.2 14) _ _ j = _
        by_cases z : j = i
        · subst z; exact pk_us
        · rw [pk_un z]; exact hj j (by omega)
  have go : mU A s u → mQ A s q → mC A u q → ∀ (x5 x4 : Int32), K g 116 [(5, .int x5), (4, .int x4), (0, .ref h), (1, .int (nI s)), (2, .int (pI u)), (3, .int (pI q))] [] := by
    intro hmU hmQ hmC x5 x4
    refine b_aload_n hb d_M_gives_116 rfl rfl ?_
    refine b_aload_n hb d_M_gives_117 rfl rfl ?_
    refine g_getA hg 12 fl_M_12 (Or.inl rfl) d_M_gives_118 ?_
    refine b_iload_n hb d_M_gives_121 rfl rfl ?_
    refine g_iald (n := 12) hg rfl rfl (by omega) d_M_gives_122 (b2s) ?_
    refine g_putN hg 15 fl_M_15 rfl d_M_gives_123 ?_
    refine b_iconst (v := nI 0) hb d_M_gives_126 rfl ?_
    refine b_istore (lv' := [(6, _), (5, _), (4, _), (0, _), (1, _), (2, _), (3, _)]) hb d_M_gives_127 (by decide) rfl ?_
    exact copy hmU hmQ hmC x5 x4 (aL A s).length 0 _ (by omega) (fr_xi fr_rf (by decide)) rfl (fun j hj => absurd hj (Nat.not_lt_zero j))
  have bad : ∀ lv, ¬ (mU A s u ∧ mQ A s q ∧ mC A u q) → K g 114 lv [] := by
    intro lv hno
    refine b_iconst (v := nI 0) hb d_M_gives_114 rfl ?_
    exact zero g _ _ fr_rf (fun z => hno (der_m z)) d_M_gives_115
  have part3 : ∀ (m1 m2 : Bool), (m1 = true ↔ mU A s u) → (m2 = true ↔ mQ A s q) → K g 76 [(4, .int (b2 m1)), (0, .ref h), (1, .int (nI s)), (2, .int (pI u)), (3, .int (pI q))] [.int (b2 m2)] := by
    intro m1 m2 h1 h2
    refine b_istore (lv' := [(5, _), (4, _), (0, _), (1, _), (2, _), (3, _)]) hb d_M_gives_76 (by decide) rfl ?_
    refine b_iload hb d_M_gives_78 rfl ?_
    refine b_if_eq (tgt := 114) hb d_M_gives_80 (by decide) (fun c1 => ?_) (fun c1 => ?_)
    · exact bad _ (fun z => by have := h1.mpr z.1; rw [b2_0.mp c1] at this; cases this)
    · have hmU : mU A s u := h1.mp (by cases m1 with | false => exact absurd rfl c1 | true => rfl)
      refine b_iload hb d_M_gives_83 rfl ?_
      refine b_if_eq (tgt := 114) hb d_M_gives_85 (by decide) (fun c2 => ?_) (fun c2 => ?_)
      · exact bad _ (fun z => by have := h2.mpr z.2.1; rw [b2_0.mp c2] at this; cases this)
      · have hmQ : mQ A s q := h2.mp (by cases m2 with | false => exact absurd rfl c2 | true => rfl)
        refine b_iload_n hb d_M_gives_88 rfl rfl ?_
        refine b_if_lt (tgt := 116) hb d_M_gives_89 (by decide) (fun c3 => ?_) (fun c3 => ?_)
        · exact go hmU hmQ (Or.inl ((pI_neg (by omega)).mp c3)) _ _
        · have hu0 : u ≠ 0 := fun z => c3 ((pI_neg (by omega)).mpr z)
          refine b_iload_n hb d_M_gives_92 rfl rfl ?_
          refine b_if_lt (tgt := 116) hb d_M_gives_93 (by decide) (fun c4 => ?_) (fun c4 => ?_)
          · exact go hmU hmQ (Or.inr (Or.inl ((pI_neg (by omega)).mp c4))) _ _
          · have hq0 : q ≠ 0 := fun z => c4 ((pI_neg (by omega)).mpr z)
            refine b_aload_n hb d_M_gives_96 rfl rfl ?_
            refine g_getA hg 7 fl_M_7 (Or.inr rfl) d_M_gives_97 ?_
            refine b_iload_n hb d_M_gives_100 rfl rfl ?_
            refine b_top (pI_p hu0) ?_
            refine g_zald (n := 10) hg rfl rfl (by omega) d_M_gives_101 ((hr.2 (u - 1) (by omega)).2.2.1) ?_
            refine b_if_eq (tgt := 114) hb d_M_gives_102 (by decide) (fun c5 => ?_) (fun c5 => ?_)
            · refine bad _ (fun z => ?_)
              rcases z.2.2 with y | y | y
              · exact hu0 y
              · exact hq0 y
              · rw [b2_0.mp c5] at y; cases y.1
            · have hcu : aC A (u - 1) = true := by
                cases e : aC A (u - 1) with
                | false => exact absurd (b2_0.mpr e) c5
                | true => rfl
              refine b_aload_n hb d_M_gives_105 rfl rfl ?_
              refine g_getA hg 7 fl_M_7 (Or.inr rfl) d_M_gives_106 ?_
              refine b_iload_n hb d_M_gives_109 rfl rfl ?_
              refine b_top (pI_p hq0) ?_
              refine g_zald (n := 10) hg rfl rfl (by omega) d_M_gives_110 ((hr.2 (q - 1) (by omega)).2.2.1) ?_
              refine b_if_ne (tgt := 116) hb d_M_gives_111 (by decide) (fun c6 => ?_) (fun c6 => ?_)
              · refine go hmU hmQ (Or.inr (Or.inr ⟨hcu, ?_⟩)) _ _
                cases e : aC A (q - 1) with
                | false => exact absurd (b2_0.mpr e) c6
                | true => rfl
              · refine bad _ (fun z => ?_)
                rcases z.2.2 with y | y | y
                · exact hu0 y
                · exact hq0 y
                · rw [b2_0.mp c6] at y; cases y.2
  have part2 : ∀ (m1 : Bool), (m1 = true ↔ mU A s u) → K g 37 [(0, .ref h), (1, .int (nI s)), (2, .int (pI u)), (3, .int (pI q))] [.int (b2 m1)] := by
    intro m1 h1
    refine b_istore (lv' := [(4, _), (0, _), (1, _), (2, _), (3, _)]) hb d_M_gives_37 (by decide) rfl ?_
    refine b_iload_n hb d_M_gives_39 rfl rfl ?_
    refine b_if_lt (tgt := 71) hb d_M_gives_40 (by decide) (fun c1 => ?_) (fun c1 => ?_)
    · refine b_iconst (v := nI 1) hb d_M_gives_71 rfl ?_
      refine b_goto (tgt := 76) hb d_M_gives_72 (by decide) ?_
      exact part3 m1 true h1 ⟨fun _ => Or.inl ((pI_neg (by omega)).mp c1), fun _ => rfl⟩
    · have hq0 : q ≠ 0 := fun z => c1 ((pI_neg (by omega)).mpr z)
      obtain ⟨f1, f2, f3, f4⟩ := hr.2 (q - 1) (by omega)
      have hf7 := (hw.2.2.2.1 (q - 1) (by omega)).1
      refine b_aload_n hb d_M_gives_43 rfl rfl ?_
      refine g_getA hg 6 fl_M_6 (Or.inr rfl) d_M_gives_44 ?_
      refine b_iload_n hb d_M_gives_47 rfl rfl ?_
      refine b_top (pI_p hq0) ?_
      refine g_zald (n := 10) hg rfl rfl (by omega) d_M_gives_48 (f2) ?_
      refine b_if_ne (tgt := 75) hb d_M_gives_49 (by decide) (fun c2 => ?_) (fun c2 => ?_)
      · refine b_iconst (v := nI 0) hb d_M_gives_75 rfl ?_
        refine part3 m1 false h1 ⟨fun z => (by cases z), fun z => ?_⟩
        rcases z with z | z
        · exact absurd z hq0
        · exact absurd (b2_0.mpr z.1) c2
      · have hS0 : aS A (q - 1) = false := b2_0.mp c2
        refine b_aload_n hb d_M_gives_52 rfl rfl ?_
        refine g_getA hg 11 fl_M_11 (Or.inl rfl) d_M_gives_53 ?_
        refine b_iload_n hb d_M_gives_56 rfl rfl ?_
        refine g_iald (n := 12) hg rfl rfl (by omega) d_M_gives_57 (b1) ?_
        refine b_aload_n hb d_M_gives_58 rfl rfl ?_
        refine g_getA hg 5 fl_M_5 (Or.inl rfl) d_M_gives_59 ?_
        refine b_iload_n hb d_M_gives_62 rfl rfl ?_
        refine b_top (pI_p hq0) ?_
        refine g_iald (n := 10) hg rfl rfl (by omega) d_M_gives_63 (f1) ?_
        refine b_ishr hb d_M_gives_64 ?_
        refine b_iconst (v := nI 1) hb d_M_gives_65 rfl ?_
        refine b_iand hb d_M_gives_66 ?_
        refine b_top (bit_1 w4 hf7) ?_
        refine b_iconst (v := nI 1) hb d_M_gives_67 rfl ?_
        have hlt : aG A s / 2 ^ aF A (q - 1) % 2 < 2 := Nat.mod_lt _ (by decide)
        refine b_neN (tgt := 75) hb (by omega) (by omega) d_M_gives_68 (by decide) (fun c3 => ?_) (fun c3 => ?_)
        · refine b_iconst (v := nI 0) hb d_M_gives_75 rfl ?_
          refine part3 m1 false h1 ⟨fun z => (by cases z), fun z => ?_⟩
          rcases z with z | z
          · exact absurd z hq0
          · exact absurd z.2 c3
        · refine b_iconst (v := nI 1) hb d_M_gives_71 rfl ?_
          refine b_goto (tgt := 76) hb d_M_gives_72 (by decide) ?_
          exact part3 m1 true h1 ⟨fun _ => Or.inr ⟨hS0, c3⟩, fun _ => rfl⟩
  show K g 0 [(0, .ref h), (1, .int (nI s)), (2, .int (pI u)), (3, .int (pI q))] []
  refine b_iload_n hb d_M_gives_0 rfl rfl ?_
  refine b_if_lt (tgt := 32) hb d_M_gives_1 (by decide) (fun c1 => ?_) (fun c1 => ?_)
  · refine b_iconst (v := nI 1) hb d_M_gives_32 rfl ?_
    refine b_goto (tgt := 37) hb d_M_gives_33 (by decide) ?_
    exact part2 true ⟨fun _ => Or.inl ((pI_neg (by omega)).mp c1), fun _ => rfl⟩
  · have hu0 : u ≠ 0 := fun z => c1 ((pI_neg (by omega)).mpr z)
    obtain ⟨f1, f2, f3, f4⟩ := hr.2 (u - 1) (by omega)
    have hf7 := (hw.2.2.2.1 (u - 1) (by omega)).1
    refine b_aload_n hb d_M_gives_4 rfl rfl ?_
    refine g_getA hg 6 fl_M_6 (Or.inr rfl) d_M_gives_5 ?_
    refine b_iload_n hb d_M_gives_8 rfl rfl ?_
    refine b_top (pI_p hu0) ?_
    refine g_zald (n := 10) hg rfl rfl (by omega) d_M_gives_9 (f2) ?_
    refine b_if_eq (tgt := 36) hb d_M_gives_10 (by decide) (fun c2 => ?_) (fun c2 => ?_)
    · refine b_iconst (v := nI 0) hb d_M_gives_36 rfl ?_
      refine part2 false ⟨fun z => (by cases z), fun z => ?_⟩
      rcases z with z | z
      · exact absurd z hu0
      · have h1 := z.1
        rw [b2_0.mp c2] at h1
        cases h1
    · have hS1 : aS A (u - 1) = true := by
        cases e : aS A (u - 1) with
        | false => exact absurd (b2_0.mpr e) c2
        | true => rfl
      refine b_aload_n hb d_M_gives_13 rfl rfl ?_
      refine g_getA hg 11 fl_M_11 (Or.inl rfl) d_M_gives_14 ?_
      refine b_iload_n hb d_M_gives_17 rfl rfl ?_
      refine g_iald (n := 12) hg rfl rfl (by omega) d_M_gives_18 (b1) ?_
      refine b_aload_n hb d_M_gives_19 rfl rfl ?_
      refine g_getA hg 5 fl_M_5 (Or.inl rfl) d_M_gives_20 ?_
      refine b_iload_n hb d_M_gives_23 rfl rfl ?_
      refine b_top (pI_p hu0) ?_
      refine g_iald (n := 10) hg rfl rfl (by omega) d_M_gives_24 (f1) ?_
      refine b_ishr hb d_M_gives_25 ?_
      refine b_iconst (v := nI 1) hb d_M_gives_26 rfl ?_
      refine b_iand hb d_M_gives_27 ?_
      refine b_top (bit_1 w4 hf7) ?_
      refine b_iconst (v := nI 1) hb d_M_gives_28 rfl ?_
      have hlt : aG A s / 2 ^ aF A (u - 1) % 2 < 2 := Nat.mod_lt _ (by decide)
      refine b_neN (tgt := 36) hb (by omega) (by omega) d_M_gives_29 (by decide) (fun c3 => ?_) (fun c3 => ?_)
      · refine b_iconst (v := nI 0) hb d_M_gives_36 rfl ?_
        refine part2 false ⟨fun z => (by cases z), fun z => ?_⟩
        rcases z with z | z
        · exact absurd z hu0
        · exact absurd z.2 c3
      · refine b_iconst (v := nI 1) hb d_M_gives_32 rfl ?_
        refine b_goto (tgt := 37) hb d_M_gives_33 (by decide) ?_
        exact part2 true ⟨fun _ => Or.inr ⟨hS1, c3⟩, fun _ => rfl⟩
end
section
/-! AffixSpellerModel: counting and the questions -/
theorem isd_q {A : Ab} {w : List Int32} (hw : WA A) {s u x : Nat} (hu : u ≤ 10) (hx : isd A w x) (h1 : s * 121 + u * 11 + (aR A + 1) ≤ x) (h2 : x < s * 121 + (u + 1) * 11) : False := by
  have := hx.2.2.2.1
  have hR := hw.2.2.1
  omega
theorem isd_u {A : Ab} {w : List Int32} (hw : WA A) {s x : Nat} (hx : isd A w x) (h1 : s * 121 + (aR A + 1) * 11 ≤ x) (h2 : x < (s + 1) * 121) : False := by
  have := hx.2.2.1
  have hR := hw.2.2.1
  omega
theorem nq_0 {u : Nat} (h : u = 0) : nq u = -6 := by unfold nq; rw [if_pos h]
theorem nq_p {u : Nat} (h : u ≠ 0) : nq u = pI u := by unfold nq; rw [if_neg h, pI_p h]
theorem ders_w (A : Ab) (v w : List Int32) : ders (v, A.2) w = ders A w := rfl
theorem m_ofStem {g : Sg} {A : Ab} {s : Nat} {n : Int32} (hJ : JM g A) (hs : s < aN A) : mMi 1 3 y_M_ofStem b_M_ofStem 6 .int [.int (nI s), .int n] g (fun r t => fr [14, 15, 16, 17, 18] g t ∧ r = nI (prc A (aw A) ((s + 1) * 121) - prc A (aw A) (s * 121)) ∧ ∀ x : Nat, s * 121 ≤ x → x < (s + 1) * 121 → isd A (aw A) x → nI (prc A (aw A) x - prc A (aw A) (s * 121)) = n → t.2 17 0 = nq (x / 11 % 11) ∧ t.2 18 0 = nq (x % 11)) := by
  refine m_i (Nat.le_refl _) (by decide) rfl (fun _ => Nat.le_of_ble_eq_true rfl) (fun h ad K hg hret => ?_)
  have hb := hg.b
  have hw := hJ.1
  have hR10 : aR A ≤ 10 := hw.2.2.1
  have hN12 : aN A ≤ 12 := hw.2.2.2.2.1
  have outer : ∀ (m u : Nat) (t : Sg), u + m = aR A + 1 → fr [14, 15, 16, 17, 18] g t → (∀ x : Nat, s * 121 ≤ x → x < s * 121 + u * 11 → isd A (aw A) x → nI (prc A (aw A) x - prc A (aw A) (s * 121)) = n → t.2 17 0 = nq (x / 11 % 11) ∧ t.2 18 0 = nq (x % 11)) → K t 5 [(4, .int (pI u)), (3, .int (nI (prc A (aw A) (s * 121 + u * 11) - prc A (aw A) (s * 121)))), (0, .ref h), (1, .int (nI s)), (2, .int n)] [] := by
    intro m
    induction m with
    | zero =>
      intro u t hu ft hF
      have hu2 : u = aR A + 1 := by omega
      subst hu2
      have hR2 : t.1 4 = aR A := (ft 4 (by decide)).1.trans hJ.2.2.2.1.1
      refine b_iload hb d_M_ofStem_5 rfl ?_
      refine b_aload_n hb d_M_ofStem_7 rfl rfl ?_
      refine g_getN hg 4 fl_M_4 rfl d_M_ofStem_8 (hR2) ?_
      refine b_icmp_ge (tgt := 90) hb d_M_ofStem_11 (by decide) (fun c1 => ?_) (fun c1 => ?_)
      · refine b_iload_n hb d_M_ofStem_90 rfl rfl ?_
        refine hret _ _ _ _ d_M_ofStem_91 rfl ⟨ft, by rw [prc_u hw], fun x h1 h2 h3 h4 => ?_⟩
        rcases Nat.lt_or_ge x (s * 121 + (aR A + 1) * 11) with z | z
        · exact hF x h1 z h3 h4
        · exact absurd (isd_u hw h3 z h2) id
      · exact absurd ((pI_ge (by omega) hR10).mpr (Nat.le_refl _)) c1
    | succ m ih =>
      intro u t hu ft hF
      have hu2 : u ≤ aR A := by omega
      have inner : ∀ (k q : Nat) (t : Sg), q + k = aR A + 1 → fr [14, 15, 16, 17, 18] g t → (∀ x : Nat, s * 121 ≤ x → x < s * 121 + u * 11 + q → isd A (aw A) x → nI (prc A (aw A) x - prc A (aw A) (s * 121)) = n → t.2 17 0 = nq (x / 11 % 11) ∧ t.2 18 0 = nq (x % 11)) → K t 17 [(5, .int (pI q)), (4, .int (pI u)), (3, .int (nI (prc A (aw A) (s * 121 + u * 11 + q) - prc A (aw A) (s * 121)))), (0, .ref h), (1, .int (nI s)), (2, .int n)] [] := by
        intro k
        induction k with
        | zero =>
          intro q t hq ft hF
          have hq2 : q = aR A + 1 := by omega
          subst hq2
          have hR2 : t.1 4 = aR A := (ft 4 (by decide)).1.trans hJ.2.2.2.1.1
          refine b_iload hb d_M_ofStem_17 rfl ?_
          refine b_aload_n hb d_M_ofStem_19 rfl rfl ?_
          refine g_getN hg 4 fl_M_4 rfl d_M_ofStem_20 (hR2) ?_
          refine b_icmp_ge (tgt := 84) hb d_M_ofStem_23 (by decide) (fun c1 => ?_) (fun c1 => ?_)
          · refine b_iinc (lv' := [(4, _), (5, _), (3, _), (0, _), (1, _), (2, _)]) hb d_M_ofStem_84 rfl (pI_inc u) (by decide) rfl ?_
            refine b_goto (tgt := 5) hb d_M_ofStem_87 (by decide) ?_
            refine b_sub hb [0, 2, 3, 4, 5] rfl ?_
            have h0 := ih (u + 1) t (by omega) ft (fun x h1 h2 h3 h4 => by
              rcases Nat.lt_or_ge x (s * 121 + u * 11 + (aR A + 1)) with z | z
              · exact hF x h1 z h3 h4
              · exact absurd (isd_q hw (by omega) h3 z h2) id)
            rw [prc_q hw s u (by omega)] at h0
            exact h0
          · exact absurd ((pI_ge (by omega) hR10).mpr (Nat.le_refl _)) c1
        | succ k ih2 =>
          intro q t hq ft hF
          have hq2 : q ≤ aR A := by omega
          have hR2 : t.1 4 = aR A := (ft 4 (by decide)).1.trans hJ.2.2.2.1.1
          have hJ2 : JM t A := JM_fr ft (by decide) hJ
          have hcd : isd A (aw A) (s * 121 + u * 11 + q) ↔ derP A (aw A) s u q := isd_cd (by omega) (by omega)
          have hb0 : prc A (aw A) (s * 121) ≤ prc A (aw A) (s * 121 + u * 11 + q) := prc_le (by omega)
          have hi1 := prc_id A (aw A) (s * 121 + u * 11 + q)
          refine b_iload hb d_M_ofStem_17 rfl ?_
          refine b_aload_n hb d_M_ofStem_19 rfl rfl ?_
          refine g_getN hg 4 fl_M_4 rfl d_M_ofStem_20 (hR2) ?_
          refine b_icmp_ge (tgt := 84) hb d_M_ofStem_23 (by decide) (fun c1 => ?_) (fun c1 => ?_)
          · exact absurd ((pI_ge (by omega) hR10).mp c1) (by omega)
          · refine b_aload_n hb d_M_ofStem_26 rfl rfl ?_
            refine b_iload_n hb d_M_ofStem_27 rfl rfl ?_
            refine b_iload hb d_M_ofStem_28 rfl ?_
            refine b_iload hb d_M_ofStem_30 rfl ?_
            refine g_calli hg (m_gives hJ2 hs hu2 hq2) lk_M_M_gives (by decide) d_M_ofStem_32 rfl (Nat.le_of_ble_eq_true rfl) (fun r1 t2 hp => ?_)
            obtain ⟨f2, hp⟩ := hp
            have ft2 : fr [14, 15, 16, 17, 18] g t2 := fr_tr ft (fr_mono f2 (by decide))
            have hF2 : ∀ x : Nat, s * 121 ≤ x → x < s * 121 + u * 11 + q → isd A (aw A) x → nI (prc A (aw A) x - prc A (aw A) (s * 121)) = n → t2.2 17 0 = nq (x / 11 % 11) ∧ t2.2 18 0 = nq (x % 11) := by
              rw [(f2 17 (by decide)).2, (f2 18 (by decide)).2]
              exact hF
            rcases hp with ⟨rfl, hd⟩ | ⟨rfl, hd⟩
            · have hcd2 := hcd.mpr hd
              have ep := prc_t hcd2
              have step : ∀ t3 : Sg, fr [14, 15, 16, 17, 18] g t3 → (∀ x : Nat, s * 121 ≤ x → x < s * 121 + u * 11 + (q + 1) → isd A (aw A) x → nI (prc A (aw A) x - prc A (aw A) (s * 121)) = n → t3.2 17 0 = nq (x / 11 % 11) ∧ t3.2 18 0 = nq (x % 11)) → K t3 75 [(5, .int (pI q)), (4, .int (pI u)), (3, .int (nI (prc A (aw A) (s * 121 + u * 11 + q) - prc A (aw A) (s * 121)))), (0, .ref h), (1, .int (nI s)), (2, .int n)] [] := by
                intro t3 f3 hF3
                refine b_iincN (lv' := [(3, _), (5, _), (4, _), (0, _), (1, _), (2, _)]) hb d_M_ofStem_75 rfl (by decide) rfl ?_
                refine b_iinc (lv' := [(5, _), (3, _), (4, _), (0, _), (1, _), (2, _)]) hb d_M_ofStem_78 rfl (pI_inc q) (by decide) rfl ?_
                refine b_goto (tgt := 17) hb d_M_ofStem_81 (by decide) ?_
                refine b_sub hb [0, 2, 1, 3, 4, 5] rfl ?_
                have h0 := ih2 (q + 1) t3 (by omega) f3 hF3
                rw [← Nat.add_assoc, ep, show prc A (aw A) (s * 121 + u * 11 + q) + 1 - prc A (aw A) (s * 121) = prc A (aw A) (s * 121 + u * 11 + q) - prc A (aw A) (s * 121) + 1 by omega] at h0
                exact h0
              refine b_if_eq (tgt := 78) hb d_M_ofStem_35 (by decide) (fun c2 => ?_) (fun c2 => ?_)
              · exact absurd c2 (by decide)
              · refine b_iload_n hb d_M_ofStem_38 rfl rfl ?_
                refine b_iload_n hb d_M_ofStem_39 rfl rfl ?_
                refine b_icmp_ne (tgt := 75) hb d_M_ofStem_40 (by decide) (fun c3 => ?_) (fun c3 => ?_)
                · refine step t2 ft2 (fun x h1 h2 h3 h4 => ?_)
                  rcases Nat.lt_or_ge x (s * 121 + u * 11 + q) with z | z
                  · exact hF2 x h1 z h3 h4
                  · have : x = s * 121 + u * 11 + q := by omega
                    subst this
                    exact absurd h4 c3
                · have last : K (xa (xa t2 17 (fun _ => nq u)) 18 (fun _ => nq q)) 75 [(5, .int (pI q)), (4, .int (pI u)), (3, .int (nI (prc A (aw A) (s * 121 + u * 11 + q) - prc A (aw A) (s * 121)))), (0, .ref h), (1, .int (nI s)), (2, .int n)] [] := by
                    refine step _ (fr_xa (fr_xa ft2 (by decide)) (by decide)) (fun x h1 h2 h3 h4 => ?_)
                    rcases Nat.lt_or_ge x (s * 121 + u * 11 + q) with z | z
                    · exfalso
                      have h5 := prc_lt h3 z
                      have h6 := prc_id A (aw A) x
                      have h7 := (nI_eq (by omega) (by omega)).mp (h4.trans c3.symm)
                      have h8 : prc A (aw A) (s * 121) ≤ prc A (aw A) x := prc_le h1
                      omega
                    · have : x = s * 121 + u * 11 + q := by omega
                      subst this
                      rw [cd_u (by omega) (by omega), cd_q (by omega)]
                      exact ⟨rfl, rfl⟩
                  have j72 : K (xa t2 17 (fun _ => nq u)) 72 [(5, .int (pI q)), (4, .int (pI u)), (3, .int (nI (prc A (aw A) (s * 121 + u * 11 + q) - prc A (aw A) (s * 121)))), (0, .ref h), (1, .int (nI s)), (2, .int n)] [.int (nq q), .ref h] := by
                    refine g_putR hg 18 fl_M_18 rfl d_M_ofStem_72 ?_
                    exact last
                  have j56 : K t2 56 [(5, .int (pI q)), (4, .int (pI u)), (3, .int (nI (prc A (aw A) (s * 121 + u * 11 + q) - prc A (aw A) (s * 121)))), (0, .ref h), (1, .int (nI s)), (2, .int n)] [.int (nq u), .ref h] := by
                    refine g_putR hg 17 fl_M_17 rfl d_M_ofStem_56 ?_
                    refine b_aload_n hb d_M_ofStem_59 rfl rfl ?_
                    refine b_iload hb d_M_ofStem_60 rfl ?_
                    refine b_if_ge (tgt := 70) hb d_M_ofStem_62 (by decide) (fun c5 => ?_) (fun c5 => ?_)
                    · refine b_iload hb d_M_ofStem_70 rfl ?_
                      refine b_top (nq_p (fun z => ?_)).symm j72
                      rw [z] at c5
                      exact absurd c5 (by decide)
                    · refine b_bipush (v := -6) hb d_M_ofStem_65 rfl ?_
                      refine b_goto (tgt := 72) hb d_M_ofStem_67 (by decide) ?_
                      exact b_top (nq_0 ((pI_neg (by omega)).mp (Int32.not_le.mp c5))).symm j72
                  refine b_aload_n hb d_M_ofStem_43 rfl rfl ?_
                  refine b_iload hb d_M_ofStem_44 rfl ?_
                  refine b_if_ge (tgt := 54) hb d_M_ofStem_46 (by decide) (fun c4 => ?_) (fun c4 => ?_)
                  · refine b_iload hb d_M_ofStem_54 rfl ?_
                    refine b_top (nq_p (fun z => ?_)).symm j56
                    rw [z] at c4
                    exact absurd c4 (by decide)
                  · refine b_bipush (v := -6) hb d_M_ofStem_49 rfl ?_
                    refine b_goto (tgt := 56) hb d_M_ofStem_51 (by decide) ?_
                    exact b_top (nq_0 ((pI_neg (by omega)).mp (Int32.not_le.mp c4))).symm j56
            · have hcd2 : ¬ isd A (aw A) (s * 121 + u * 11 + q) := fun z => hd (hcd.mp z)
              have ep := prc_f hcd2
              refine b_if_eq (tgt := 78) hb d_M_ofStem_35 (by decide) (fun c2 => ?_) (fun c2 => ?_)
              · refine b_iinc (lv' := [(5, _), (4, _), (3, _), (0, _), (1, _), (2, _)]) hb d_M_ofStem_78 rfl (pI_inc q) (by decide) rfl ?_
                refine b_goto (tgt := 17) hb d_M_ofStem_81 (by decide) ?_
                have h0 := ih2 (q + 1) t2 (by omega) ft2 (fun x h1 h2 h3 h4 => by
                  rcases Nat.lt_or_ge x (s * 121 + u * 11 + q) with z | z
                  · exact hF2 x h1 z h3 h4
                  · have : x = s * 121 + u * 11 + q := by omega
                    subst this
                    exact absurd h3 hcd2)
                rw [← Nat.add_assoc, ep] at h0
                exact h0
              · exact absurd rfl c2
      have hR2 : t.1 4 = aR A := (ft 4 (by decide)).1.trans hJ.2.2.2.1.1
      refine b_iload hb d_M_ofStem_5 rfl ?_
      refine b_aload_n hb d_M_ofStem_7 rfl rfl ?_
      refine g_getN hg 4 fl_M_4 rfl d_M_ofStem_8 (hR2) ?_
      refine b_icmp_ge (tgt := 90) hb d_M_ofStem_11 (by decide) (fun c1 => ?_) (fun c1 => ?_)
      · exact absurd ((pI_ge (by omega) hR10).mp c1) (by omega)
      · refine b_iconst (v := -1) hb d_M_ofStem_14 rfl ?_
        refine b_top pI_0.symm ?_
        refine b_istore (lv' := [(5, _), (4, _), (3, _), (0, _), (1, _), (2, _)]) hb d_M_ofStem_15 (by decide) rfl ?_
        exact inner (aR A + 1) 0 t (by omega) ft hF
  show K g 0 [(0, .ref h), (1, .int (nI s)), (2, .int n)] []
  refine b_iconst (v := nI 0) hb d_M_ofStem_0 rfl ?_
  refine b_istore_n (lv' := [(3, _), (0, _), (1, _), (2, _)]) hb d_M_ofStem_1 rfl (by decide) rfl ?_
  refine b_iconst (v := -1) hb d_M_ofStem_2 rfl ?_
  refine b_top pI_0.symm ?_
  refine b_istore (lv' := [(4, _), (3, _), (0, _), (1, _), (2, _)]) hb d_M_ofStem_3 (by decide) rfl ?_
  have h0 := outer (aR A + 1) 0 g (by omega) fr_rf (fun x h1 h2 => absurd h1 (by omega))
  rw [show s * 121 + 0 * 11 = s * 121 by omega, Nat.sub_self] at h0
  exact h0
theorem m_derivations {g : Sg} {A : Ab} (hJ : JM g A) : mMi 1 4 y_M_derivations b_M_derivations 4 .int [] g (fun r u => r = nI (ders A (aw A)).length ∧ JM u A) := by
  refine m_i (Nat.le_refl _) (by decide) rfl (fun _ => Nat.le_of_ble_eq_true rfl) (fun h ad K hg hret => ?_)
  have hb := hg.b
  have hw := hJ.1
  have hN12 : aN A ≤ 12 := hw.2.2.2.2.1
  have loop : ∀ (n s : Nat) (t : Sg), s + n = aN A → JM t A → K t 4 [(2, .int (nI s)), (1, .int (nI (prc A (aw A) (s * 121)))), (0, .ref h)] [] := by
    intro n
    induction n with
    | zero =>
      intro s t hs hJ2
      have : s = aN A := by omega
      subst this
      refine b_iload_n hb d_M_derivations_4 rfl rfl ?_
      refine b_aload_n hb d_M_derivations_5 rfl rfl ?_
      refine g_getN hg 10 fl_M_10 rfl d_M_derivations_6 (hJ2.2.2.2.2.1) ?_
      refine b_geN (tgt := 29) hb (by omega) (by omega) d_M_derivations_9 (by decide) (fun c1 => ?_) (fun c1 => ?_)
      · refine b_iload_n hb d_M_derivations_29 rfl rfl ?_
        exact hret _ _ _ _ d_M_derivations_30 rfl ⟨by rw [← prc_all, prc_N hw], hJ2⟩
      · exact absurd c1 (by omega)
    | succ n ih =>
      intro s t hs hJ2
      refine b_iload_n hb d_M_derivations_4 rfl rfl ?_
      refine b_aload_n hb d_M_derivations_5 rfl rfl ?_
      refine g_getN hg 10 fl_M_10 rfl d_M_derivations_6 (hJ2.2.2.2.2.1) ?_
      refine b_geN (tgt := 29) hb (by omega) (by omega) d_M_derivations_9 (by decide) (fun c1 => ?_) (fun c1 => ?_)
      · exact absurd c1 (by omega)
      · refine b_aload_n hb d_M_derivations_12 rfl rfl ?_
        refine b_iload_n hb d_M_derivations_13 rfl rfl ?_
        refine b_iconst (v := -1) hb d_M_derivations_14 rfl ?_
        refine g_calli hg (m_ofStem hJ2 c1) lk_M_M_ofStem (by decide) d_M_derivations_15 rfl (Nat.le_of_ble_eq_true rfl) (fun r1 t2 hp => ?_)
        obtain ⟨f2, rfl, -⟩ := hp
        refine b_istore_n (lv' := [(3, _), (2, _), (1, _), (0, _)]) hb d_M_derivations_18 rfl (by decide) rfl ?_
        refine b_iload_n hb d_M_derivations_19 rfl rfl ?_
        refine b_iload_n hb d_M_derivations_20 rfl rfl ?_
        refine b_iaddN hb d_M_derivations_21 ?_
        refine b_istore_n (lv' := [(1, _), (3, _), (2, _), (0, _)]) hb d_M_derivations_22 rfl (by decide) rfl ?_
        refine b_iincN (lv' := [(2, _), (1, _), (3, _), (0, _)]) hb d_M_derivations_23 rfl (by decide) rfl ?_
        refine b_goto (tgt := 4) hb d_M_derivations_26 (by decide) ?_
        have hm : prc A (aw A) (s * 121) ≤ prc A (aw A) ((s + 1) * 121) := prc_le (by omega)
        refine b_sub hb [0, 1, 3] rfl ?_
        have h0 := ih (s + 1) t2 (by omega) (JM_fr f2 (by decide) hJ2)
        rw [← Nat.add_sub_cancel' hm] at h0
        exact h0
  show K g 0 [(0, .ref h)] []
  refine b_iconst (v := nI 0) hb d_M_derivations_0 rfl ?_
  refine b_istore_n (lv' := [(1, _), (0, _)]) hb d_M_derivations_1 rfl (by decide) rfl ?_
  refine b_iconst (v := nI 0) hb d_M_derivations_2 rfl ?_
  refine b_istore_n (lv' := [(2, _), (1, _), (0, _)]) hb d_M_derivations_3 rfl (by decide) rfl ?_
  have h0 := loop (aN A) 0 g (by omega) hJ
  exact h0
theorem m_find {g : Sg} {A : Ab} {n : Int32} (hJ : JM g A) : mMi 1 4 y_M_find b_M_find 5 .int [.int n] g (fun r t => r = qS (nth A n) ∧ JM t A ∧ ∀ x : Nat, nth A n = some x → t.2 17 0 = nq (x / 11 % 11) ∧ t.2 18 0 = nq (x % 11)) := by
  refine m_i (Nat.le_refl _) (by decide) rfl (fun _ => Nat.le_of_ble_eq_true rfl) (fun h ad K hg hret => ?_)
  have hb := hg.b
  have hw := hJ.1
  have hN12 : aN A ≤ 12 := hw.2.2.2.2.1
  have hdl := ders_len A (aw A)
  show K g 0 [(0, .ref h), (1, .int n)] []
  by_cases hneg : n < 0
  · have e : nth A n = none := by rw [nth, if_pos (Or.inl hneg)]
    have loop : ∀ (m s : Nat) (t : Sg), s + m = aN A → JM t A → K t 16 [(3, .int (nI s)), (2, .int (nI 0)), (0, .ref h), (1, .int n)] [] := by
      intro m
      induction m with
      | zero =>
        intro s t hs hJ2
        refine b_iload_n hb d_M_find_16 rfl rfl ?_
        refine b_aload_n hb d_M_find_17 rfl rfl ?_
        refine g_getN hg 10 fl_M_10 rfl d_M_find_18 (hJ2.2.2.2.2.1) ?_
        refine b_geN (tgt := 69) hb (by omega) (by omega) d_M_find_21 (by decide) (fun c1 => ?_) (fun c1 => ?_)
        · refine b_bipush (v := -6) hb d_M_find_69 rfl ?_
          exact hret _ _ _ _ d_M_find_71 rfl ⟨by rw [e]; rfl, hJ2, fun x hx => by rw [e] at hx; cases hx⟩
        · exact absurd c1 (by omega)
      | succ m ih =>
        intro s t hs hJ2
        refine b_iload_n hb d_M_find_16 rfl rfl ?_
        refine b_aload_n hb d_M_find_17 rfl rfl ?_
        refine g_getN hg 10 fl_M_10 rfl d_M_find_18 (hJ2.2.2.2.2.1) ?_
        refine b_geN (tgt := 69) hb (by omega) (by omega) d_M_find_21 (by decide) (fun c1 => ?_) (fun c1 => ?_)
        · exact absurd c1 (by omega)
        · refine b_iload_n hb d_M_find_24 rfl rfl ?_
          refine b_iload_n hb d_M_find_25 rfl rfl ?_
          refine b_icmp_ge (tgt := 33) hb d_M_find_26 (by decide) (fun c2 => ?_) (fun c2 => ?_)
          · exact absurd hneg (Int32.not_lt.mpr c2)
          · refine b_iconst (v := nI 0) hb d_M_find_29 rfl ?_
            refine b_goto (tgt := 41) hb d_M_find_30 (by decide) ?_
            refine b_istore (lv' := [(4, _), (3, _), (2, _), (0, _), (1, _)]) hb d_M_find_41 (by decide) rfl ?_
            refine b_iload_n hb d_M_find_43 rfl rfl ?_
            refine b_iload_n hb d_M_find_44 rfl rfl ?_
            refine b_icmp_lt (tgt := 58) hb d_M_find_45 (by decide) (fun c3 => ?_) (fun c3 => ?_)
            · refine b_iload_n hb d_M_find_58 rfl rfl ?_
              refine b_iload hb d_M_find_59 rfl ?_
              refine b_iaddN hb d_M_find_61 ?_
              refine b_istore_n (lv' := [(2, _), (4, _), (3, _), (0, _), (1, _)]) hb d_M_find_62 rfl (by decide) rfl ?_
              refine b_iincN (lv' := [(3, _), (2, _), (4, _), (0, _), (1, _)]) hb d_M_find_63 rfl (by decide) rfl ?_
              refine b_goto (tgt := 16) hb d_M_find_66 (by decide) ?_
              refine b_sub hb [0, 1, 3, 4] rfl ?_
              exact ih (s + 1) t (by omega) hJ2
            · exact absurd hneg c3
    refine b_iconst (v := nI 0) hb d_M_find_0 rfl ?_
    refine b_istore_n (lv' := [(2, _), (0, _), (1, _)]) hb d_M_find_1 rfl (by decide) rfl ?_
    refine b_aload_n hb d_M_find_2 rfl rfl ?_
    refine b_bipush (v := -6) hb d_M_find_3 rfl ?_
    refine g_putR hg 17 fl_M_17 rfl d_M_find_5 ?_
    refine b_aload_n hb d_M_find_8 rfl rfl ?_
    refine b_bipush (v := -6) hb d_M_find_9 rfl ?_
    refine g_putR hg 18 fl_M_18 rfl d_M_find_11 ?_
    refine b_iconst (v := nI 0) hb d_M_find_14 rfl ?_
    refine b_istore_n (lv' := [(3, _), (2, _), (0, _), (1, _)]) hb d_M_find_15 rfl (by decide) rfl ?_
    exact loop (aN A) 0 _ (by omega) (JM_fr (S := [17, 18]) (fr_xa (fr_xa fr_rf (by decide)) (by decide)) (by decide) hJ)
  · obtain ⟨j, hj, rfl⟩ := nI_of hneg
    have loop : ∀ (m s : Nat) (t : Sg), s + m = aN A → JM t A → prc A (aw A) (s * 121) ≤ j → K t 16 [(3, .int (nI s)), (2, .int (nI (prc A (aw A) (s * 121)))), (0, .ref h), (1, .int (nI j))] [] := by
      intro m
      induction m with
      | zero =>
        intro s t hs hJ2 hpj
        have : s = aN A := by omega
        subst this
        have e : nth A (nI j) = none := by
          rw [nth, if_pos (Or.inr ?_)]
          rw [← prc_all, prc_N hw]
          exact nI_le hpj hj
        refine b_iload_n hb d_M_find_16 rfl rfl ?_
        refine b_aload_n hb d_M_find_17 rfl rfl ?_
        refine g_getN hg 10 fl_M_10 rfl d_M_find_18 (hJ2.2.2.2.2.1) ?_
        refine b_geN (tgt := 69) hb (by omega) (by omega) d_M_find_21 (by decide) (fun c1 => ?_) (fun c1 => ?_)
        · refine b_bipush (v := -6) hb d_M_find_69 rfl ?_
          exact hret _ _ _ _ d_M_find_71 rfl ⟨by rw [e]; rfl, hJ2, fun x hx => by rw [e] at hx; cases hx⟩
        · exact absurd c1 (by omega)
      | succ m ih =>
        intro s t hs hJ2 hpj
        have hm : prc A (aw A) (s * 121) ≤ prc A (aw A) ((s + 1) * 121) := prc_le (by omega)
        have hi1 := prc_id A (aw A) ((s + 1) * 121)
        refine b_iload_n hb d_M_find_16 rfl rfl ?_
        refine b_aload_n hb d_M_find_17 rfl rfl ?_
        refine g_getN hg 10 fl_M_10 rfl d_M_find_18 (hJ2.2.2.2.2.1) ?_
        refine b_geN (tgt := 69) hb (by omega) (by omega) d_M_find_21 (by decide) (fun c1 => ?_) (fun c1 => ?_)
        · exact absurd c1 (by omega)
        · refine b_iload_n hb d_M_find_24 rfl rfl ?_
          refine b_iload_n hb d_M_find_25 rfl rfl ?_
          refine b_geN (tgt := 33) hb (by omega) (by omega) d_M_find_26 (by decide) (fun c2 => ?_) (fun c2 => ?_)
          · refine b_aload_n hb d_M_find_33 rfl rfl ?_
            refine b_iload_n hb d_M_find_34 rfl rfl ?_
            refine b_iload_n hb d_M_find_35 rfl rfl ?_
            refine b_iload_n hb d_M_find_36 rfl rfl ?_
            refine b_isubN hb d_M_find_37 (by omega) ?_
            refine g_calli hg (m_ofStem hJ2 c1) lk_M_M_ofStem (by decide) d_M_find_38 rfl (Nat.le_of_ble_eq_true rfl) (fun r1 t2 hp => ?_)
            obtain ⟨f2, rfl, hF⟩ := hp
            have hJ3 : JM t2 A := JM_fr f2 (by decide) hJ2
            refine b_istore (lv' := [(4, _), (3, _), (2, _), (0, _), (1, _)]) hb d_M_find_41 (by decide) rfl ?_
            refine b_iload_n hb d_M_find_43 rfl rfl ?_
            refine b_iload_n hb d_M_find_44 rfl rfl ?_
            refine b_ltN (tgt := 58) hb (by omega) (by omega) d_M_find_45 (by decide) (fun c3 => ?_) (fun c3 => ?_)
            · exact absurd c3 (by omega)
            · refine b_iload_n hb d_M_find_48 rfl rfl ?_
              refine b_iload_n hb d_M_find_49 rfl rfl ?_
              refine b_iload hb d_M_find_50 rfl ?_
              refine b_iaddN hb d_M_find_52 ?_
              refine b_geN (tgt := 58) hb (by omega) (by omega) d_M_find_53 (by decide) (fun c4 => ?_) (fun c4 => ?_)
              · refine b_iload_n hb d_M_find_58 rfl rfl ?_
                refine b_iload hb d_M_find_59 rfl ?_
                refine b_iaddN hb d_M_find_61 ?_
                refine b_istore_n (lv' := [(2, _), (4, _), (3, _), (0, _), (1, _)]) hb d_M_find_62 rfl (by decide) rfl ?_
                refine b_iincN (lv' := [(3, _), (2, _), (4, _), (0, _), (1, _)]) hb d_M_find_63 rfl (by decide) rfl ?_
                refine b_goto (tgt := 16) hb d_M_find_66 (by decide) ?_
                refine b_sub hb [0, 1, 3, 4] rfl ?_
                have h0 := ih (s + 1) t2 (by omega) hJ3 (by omega)
                rw [← Nat.add_sub_cancel' hm] at h0
                exact h0
              · refine b_iload_n hb d_M_find_56 rfl rfl ?_
                have hjl : j < prc A (aw A) 1452 := Nat.lt_of_lt_of_le (show j < prc A (aw A) ((s + 1) * 121) by omega) (prc_le (by omega))
                obtain ⟨x, x1, x2, x3, x4⟩ := prc_nth 1452 j hjl
                have e : nth A (nI j) = some x := by
                  have no : ¬ (nI j < 0 ∨ nI (ders A (aw A)).length ≤ nI j) := fun z => z.elim hneg (fun z => absurd ((nI_leI (by omega) hj).mp z) (by rw [← prc_all]; omega))
                  rw [nth, if_neg no, nI_clamp hj]
                  exact congrArg some x4
                have y1 : s * 121 ≤ x := by
                  rcases Nat.lt_or_ge x (s * 121) with z | z
                  · have := prc_lt x2 z; omega
                  · exact z
                have y2 : x < (s + 1) * 121 := by
                  rcases Nat.lt_or_ge x ((s + 1) * 121) with z | z
                  · exact z
                  · have := prc_le (A := A) (w := aw A) z; omega
                refine hret _ _ _ _ d_M_find_57 rfl ⟨?_, hJ3, fun x5 hx5 => ?_⟩
                · rw [e]
                  show nI s = nI (x / 121)
                  rw [show x / 121 = s by omega]
                · rw [e] at hx5
                  cases hx5
                  exact hF x y1 y2 x2 (by rw [x3])
          · exact absurd c2 (by omega)
    refine b_iconst (v := nI 0) hb d_M_find_0 rfl ?_
    refine b_istore_n (lv' := [(2, _), (0, _), (1, _)]) hb d_M_find_1 rfl (by decide) rfl ?_
    refine b_aload_n hb d_M_find_2 rfl rfl ?_
    refine b_bipush (v := -6) hb d_M_find_3 rfl ?_
    refine g_putR hg 17 fl_M_17 rfl d_M_find_5 ?_
    refine b_aload_n hb d_M_find_8 rfl rfl ?_
    refine b_bipush (v := -6) hb d_M_find_9 rfl ?_
    refine g_putR hg 18 fl_M_18 rfl d_M_find_11 ?_
    refine b_iconst (v := nI 0) hb d_M_find_14 rfl ?_
    refine b_istore_n (lv' := [(3, _), (2, _), (0, _), (1, _)]) hb d_M_find_15 rfl (by decide) rfl ?_
    have h0 := loop (aN A) 0 _ (by omega) (JM_fr (S := [17, 18]) (fr_xa (k := 18) (f := fun _ => -6) (fr_xa (k := 17) (f := fun _ => -6) (fr_rf (a := g)) (by decide)) (by decide)) (by decide) hJ) (Nat.zero_le _)
    exact h0
theorem m_stemOf {g : Sg} {A : Ab} {n : Int32} (hJ : JM g A) : mMi 1 5 y_M_stemOf b_M_stemOf 2 .int [.int n] g (fun r u => r = qS (nth A n) ∧ JM u A) := by
  refine m_i (Nat.le_refl _) (by decide) rfl (fun _ => Nat.le_of_ble_eq_true rfl) (fun h ad K hg hret => ?_)
  have hb := hg.b
  show K g 0 [(0, .ref h), (1, .int n)] []
  refine b_aload_n hb d_M_stemOf_0 rfl rfl ?_
  refine b_iload_n hb d_M_stemOf_1 rfl rfl ?_
  refine g_calli hg (m_find hJ) lk_M_M_find (by decide) d_M_stemOf_2 rfl (Nat.le_of_ble_eq_true rfl) (fun r t hp => ?_)
  exact hret _ _ _ _ d_M_stemOf_5 rfl ⟨hp.1, hp.2.1⟩
theorem qS_6 {o : Option Nat} (h : qS o = -6) (hx : ∀ x, o = some x → x < 1452) : o = none := by
  cases o with
  | none => rfl
  | some x =>
    have h1 := hx x rfl
    have h2 : nI (x / 121) = -6 := h
    have h3 := nI_pos' (n := x / 121) (by omega)
    rw [h2] at h3
    exact absurd h3 (by decide)
theorem nth_lt {A : Ab} {n : Int32} {x : Nat} (h : nth A n = some x) : x < 1452 := by
  unfold nth at h
  split at h
  · cases h
  · rename_i hc
    rw [← Option.some.inj h]
    by_cases q : n.toNatClampNeg < (ders A (aw A)).length
    · exact (ders_mem.mp (ng_mem q)).1
    · rw [List.getD_eq_getElem?_getD, List.getElem?_eq_none (by omega)]
      decide
theorem m_suffixOf {g : Sg} {A : Ab} {n : Int32} (hJ : JM g A) : mMi 1 5 y_M_suffixOf b_M_suffixOf 2 .int [.int n] g (fun r u => r = qU (nth A n) ∧ JM u A) := by
  refine m_i (Nat.le_refl _) (by decide) rfl (fun _ => Nat.le_of_ble_eq_true rfl) (fun h ad K hg hret => ?_)
  have hb := hg.b
  show K g 0 [(0, .ref h), (1, .int n)] []
  refine b_aload_n hb d_M_suffixOf_0 rfl rfl ?_
  refine b_iload_n hb d_M_suffixOf_1 rfl rfl ?_
  refine g_calli hg (m_find hJ) lk_M_M_find (by decide) d_M_suffixOf_2 rfl (Nat.le_of_ble_eq_true rfl) (fun r t hp => ?_)
  obtain ⟨rfl, hJ2, hF⟩ := hp
  refine b_bipush (v := -6) hb d_M_suffixOf_5 rfl ?_
  refine b_icmp_ne (tgt := 15) hb d_M_suffixOf_7 (by decide) (fun c1 => ?_) (fun c1 => ?_)
  · cases e : nth A n with
    | none => rw [e] at c1; exact absurd rfl c1
    | some x =>
      refine b_aload_n hb d_M_suffixOf_15 rfl rfl ?_
      refine g_getR hg 17 fl_M_17 rfl d_M_suffixOf_16 ((hF x e).1) ?_
      exact hret _ _ _ _ d_M_suffixOf_19 rfl ⟨by rw [e]; rfl, hJ2⟩
  · refine b_bipush (v := -6) hb d_M_suffixOf_10 rfl ?_
    refine b_goto (tgt := 19) hb d_M_suffixOf_12 (by decide) ?_
    exact hret _ _ _ _ d_M_suffixOf_19 rfl ⟨by rw [qS_6 c1 (fun x hx => nth_lt hx)]; rfl, hJ2⟩
theorem m_prefixOf {g : Sg} {A : Ab} {n : Int32} (hJ : JM g A) : mMi 1 5 y_M_prefixOf b_M_prefixOf 2 .int [.int n] g (fun r u => r = qP (nth A n) ∧ JM u A) := by
  refine m_i (Nat.le_refl _) (by decide) rfl (fun _ => Nat.le_of_ble_eq_true rfl) (fun h ad K hg hret => ?_)
  have hb := hg.b
  show K g 0 [(0, .ref h), (1, .int n)] []
  refine b_aload_n hb d_M_prefixOf_0 rfl rfl ?_
  refine b_iload_n hb d_M_prefixOf_1 rfl rfl ?_
  refine g_calli hg (m_find hJ) lk_M_M_find (by decide) d_M_prefixOf_2 rfl (Nat.le_of_ble_eq_true rfl) (fun r t hp => ?_)
  obtain ⟨rfl, hJ2, hF⟩ := hp
  refine b_bipush (v := -6) hb d_M_prefixOf_5 rfl ?_
  refine b_icmp_ne (tgt := 15) hb d_M_prefixOf_7 (by decide) (fun c1 => ?_) (fun c1 => ?_)
  · cases e : nth A n with
    | none => rw [e] at c1; exact absurd rfl c1
    | some x =>
      refine b_aload_n hb d_M_prefixOf_15 rfl rfl ?_
      refine g_getR hg 18 fl_M_18 rfl d_M_prefixOf_16 ((hF x e).2) ?_
      exact hret _ _ _ _ d_M_prefixOf_19 rfl ⟨by rw [e]; rfl, hJ2⟩
  · refine b_bipush (v := -6) hb d_M_prefixOf_10 rfl ?_
    refine b_goto (tgt := 19) hb d_M_prefixOf_12 (by decide) ?_
    exact hret _ _ _ _ d_M_prefixOf_19 rfl ⟨by rw [qS_6 c1 (fun x hx => nth_lt hx)]; rfl, hJ2⟩
theorem m_continuations {g : Sg} {A : Ab} (hJ : JM g A) : mMi 1 5 y_M_continuations b_M_continuations 3 .int [] g (fun r u => r = opC A ∧ JM u A) := by
  refine m_i (Nat.le_refl _) (by decide) rfl (fun _ => Nat.le_of_ble_eq_true rfl) (fun h ad K hg hret => ?_)
  have hb := hg.b
  obtain ⟨hw, ⟨hn, hrw⟩, hk, hr, hN, hG⟩ := id hJ
  have hle : (aw A).length ≤ 12 := hw.1.1
  show K g 0 [(0, .ref h)] []
  have bad : ∀ lv, (any9 (aw A) = true ∨ 12 ≤ (aw A).length) → K g 16 lv [] := by
    intro lv hc
    refine b_iconst (v := nI 0) hb d_M_continuations_16 rfl ?_
    exact hret _ _ _ _ d_M_continuations_17 rfl ⟨by rw [opC, if_pos hc]; rfl, hJ⟩
  refine b_aload_n hb d_M_continuations_0 rfl rfl ?_
  refine g_getN hg 1 fl_M_1 rfl d_M_continuations_1 (hn) ?_
  refine b_bipush (v := nI 12) hb d_M_continuations_4 rfl ?_
  refine b_eqN (tgt := 16) hb (by omega) (by omega) d_M_continuations_6 (by decide) (fun c1 => ?_) (fun c1 => ?_)
  · exact bad _ (Or.inr (by omega))
  · refine b_aload_n hb d_M_continuations_9 rfl rfl ?_
    refine g_calli hg (m_nine ⟨hn, hrw⟩ hle) lk_M_M_nine (by decide) d_M_continuations_10 rfl (Nat.le_of_ble_eq_true rfl) (fun r u hp => ?_)
    obtain ⟨rfl, rfl⟩ := hp
    refine b_if_eq (tgt := 18) hb d_M_continuations_13 (by decide) (fun c2 => ?_) (fun c2 => ?_)
    · have h9 : any9 (aw A) = false := b2_0.mp c2
      have no : ¬ (any9 (aw A) = true ∨ 12 ≤ (aw A).length) := fun z => z.elim (fun z => by rw [h9] at z; cases z) (fun z => by omega)
      have main : ∀ (n k : Nat) (t : Sg), k + n = 8 → t.1 1 = (aw A).length + 1 → rep (t.2 0) 0 (aw A) → RK (t.2 3) (t.2 2) (akp A) → RR A (t.1 4) (t.2 5) (t.2 6) (t.2 7) (t.2 9) (t.2 8) → t.1 10 = aN A → (∀ s : Nat, s < aN A → t.2 11 s = nI (aG A s) ∧ t.2 12 s = nI (aL A s).length ∧ rep (t.2 13) (s * 12) (aL A s)) → K t 32 [(2, .int (nI (k + 1))), (1, .int (nI (cnt A k))), (0, .ref h)] [] := by
        intro n
        induction n with
        | zero =>
          intro k t hk2 e1 e2 e3 e4 e5 e6
          have : k = 8 := by omega
          subst this
          refine b_iload_n hb d_M_continuations_32 rfl rfl ?_
          refine b_bipush (v := nI 9) hb d_M_continuations_33 rfl ?_
          refine b_geN (tgt := 66) hb (by omega) (by omega) d_M_continuations_35 (by decide) (fun c3 => ?_) (fun c3 => ?_)
          · refine b_aload_n hb d_M_continuations_66 rfl rfl ?_
            refine b_aload_n hb d_M_continuations_67 rfl rfl ?_
            refine g_getN hg 1 fl_M_1 rfl d_M_continuations_68 (e1) ?_
            refine b_iconst (v := nI 1) hb d_M_continuations_71 rfl ?_
            refine b_isubN hb d_M_continuations_72 (by omega) ?_
            refine g_putN hg 1 fl_M_1 rfl d_M_continuations_73 ?_
            refine b_iload_n hb d_M_continuations_76 rfl rfl ?_
            exact hret _ _ _ _ d_M_continuations_77 rfl ⟨by rw [opC, if_neg no], hw, ⟨by show (aw A).length + 1 - 1 = _; omega, e2⟩, e3, e4, e5, e6⟩
          · exact absurd c3 (by omega)
        | succ n ih =>
          intro k t hk2 e1 e2 e3 e4 e5 e6
          have hck := cnt_le A k
          refine b_iload_n hb d_M_continuations_32 rfl rfl ?_
          refine b_bipush (v := nI 9) hb d_M_continuations_33 rfl ?_
          refine b_geN (tgt := 66) hb (by omega) (by omega) d_M_continuations_35 (by decide) (fun c3 => ?_) (fun c3 => ?_)
          · exact absurd c3 (by omega)
          · refine b_aload_n hb d_M_continuations_38 rfl rfl ?_
            refine g_getA hg 0 fl_M_0 (Or.inl rfl) d_M_continuations_39 ?_
            refine b_aload_n hb d_M_continuations_42 rfl rfl ?_
            refine g_getN hg 1 fl_M_1 rfl d_M_continuations_43 (e1) ?_
            refine b_iconst (v := nI 1) hb d_M_continuations_46 rfl ?_
            refine b_isubN hb d_M_continuations_47 (by omega) ?_
            refine b_iload_n hb d_M_continuations_48 rfl rfl ?_
            refine g_iast (n := 12) hg rfl rfl (by omega) d_M_continuations_49 ?_
            refine b_aload_n hb d_M_continuations_50 rfl rfl ?_
            have hlen1 : (aw A).length + 1 - 1 = (aw A).length := by omega
            rw [hlen1]
            have hWA : WA (aw A ++ [nI (k + 1)], A.2) := WA_type hw (fun z => by
              have := (nI_ltI (b := 1) (by omega) (by decide)).mp z
              omega) (fun z => by
              have := (nI_ltI (a := 9) (by decide) (by omega)).mp z
              omega) (by omega)
            refine g_calli hg (m_derivations (A := (aw A ++ [nI (k + 1)], A.2)) ⟨hWA, ⟨by show t.1 1 = _; rw [e1, List.length_append]; rfl, rep_snoc e2⟩, e3, e4, e5, e6⟩) lk_M_M_derivations (by decide) d_M_continuations_51 rfl (Nat.le_of_ble_eq_true rfl) (fun r1 t2 hp => ?_)
            obtain ⟨rfl, hw2, ⟨e1b, e2b⟩, e3b, e4b, e5b, e6b⟩ := hp
            have e1c : t2.1 1 = (aw A).length + 1 := by rw [e1b]; show (aw A ++ [nI (k + 1)]).length = _; rw [List.length_append]; rfl
            have e2c : rep (t2.2 0) 0 (aw A) := by
              intro i hi
              have := e2b i (by show i < (aw A ++ [nI (k + 1)]).length; rw [List.length_append]; omega)
              rw [this]
              show (aw A ++ [nI (k + 1)]).getD i 0 = _
              rw [gd_app, if_pos hi]
            have hdl := ders_len A (aw A ++ [nI (k + 1)])
            refine b_top (show _ = nI (ders A (aw A ++ [nI (k + 1)])).length from rfl) ?_
            have h0 := ih (k + 1) t2 (by omega) e1c e2c e3b e4b e5b e6b
            refine b_le0N (tgt := 60) hb (by omega) d_M_continuations_54 (by decide) (fun c4 => ?_) (fun c4 => ?_)
            · refine b_iincN (lv' := [(2, _), (1, _), (0, _)]) hb d_M_continuations_60 rfl (by decide) rfl ?_
              refine b_goto (tgt := 32) hb d_M_continuations_63 (by decide) ?_
              rw [show cnt A (k + 1) = cnt A k by show cnt A k + (if (ders A (aw A ++ [nI (k + 1)])).length = 0 then 0 else 1) = _; rw [if_pos c4]; rfl] at h0
              exact h0
            · refine b_iincN (lv' := [(1, _), (2, _), (0, _)]) hb d_M_continuations_57 rfl (by decide) rfl ?_
              refine b_iincN (lv' := [(2, _), (1, _), (0, _)]) hb d_M_continuations_60 rfl (by decide) rfl ?_
              refine b_goto (tgt := 32) hb d_M_continuations_63 (by decide) ?_
              rw [show cnt A (k + 1) = cnt A k + 1 by show cnt A k + (if (ders A (aw A ++ [nI (k + 1)])).length = 0 then 0 else 1) = _; rw [if_neg (by omega)]] at h0
              exact h0
      refine b_iconst (v := nI 0) hb d_M_continuations_18 rfl ?_
      refine b_istore_n (lv' := [(1, _), (0, _)]) hb d_M_continuations_19 rfl (by decide) rfl ?_
      refine b_aload_n hb d_M_continuations_20 rfl rfl ?_
      refine b_aload_n hb d_M_continuations_21 rfl rfl ?_
      refine g_getN hg 1 fl_M_1 rfl d_M_continuations_22 (hn) ?_
      refine b_iconst (v := nI 1) hb d_M_continuations_25 rfl ?_
      refine b_iaddN hb d_M_continuations_26 ?_
      refine g_putN hg 1 fl_M_1 rfl d_M_continuations_27 ?_
      refine b_iconst (v := nI 1) hb d_M_continuations_30 rfl ?_
      refine b_istore_n (lv' := [(2, _), (1, _), (0, _)]) hb d_M_continuations_31 rfl (by decide) rfl ?_
      exact main 8 0 _ rfl rfl hrw hk hr hN hG
    · refine bad _ (Or.inl ?_)
      cases e : any9 (aw A) with
      | false => exact absurd (b2_0.mpr e) c2
      | true => rfl
end
section
/-! the constructors; printed by tools/ctor.py -/
theorem k_same {D : va_G} {cl : List vw_C} {tys : List (ClassId × FieldType)} {s : State} {c1 c2 : ClassId} {ty : FieldType} (hty : ty = .int ∨ ty = .boolean) (hK : va_K D cl tys s) (i j : Nat) (h1 : tys[i]? = some (c1, ty)) (h2 : tys[j]? = some (c2, ty)) : c1 = c2 := by
  have a := (hK.2 i _ h1).2
  have b := (hK.2 j _ h2).2
  rcases hty with rfl | rfl <;> exact Option.some.inj (a.symm.trans b)
def at_Z (z : Nat) (D : va_G) (h : Nat) (A : Nat → Prop) (u : Sg) (t : State) : Prop := ∃ (ad : Nat → Nat) (cI cZ : ClassId), va_P D classes (zw z h ad cI cZ u) t.heap ∧ va_K D classes (tyl cI cZ) t ∧ va_D A (zw z h ad cI cZ u)
def g0_X : Sg := (fun k => if k = 12 then 1 else 0, fun k => if k = 14 then upd (fun _ => 0) 0 (-1) else fun _ => 0)
def g0_M : Sg := (fun _ => 0, fun _ _ => 0)
abbrev nf_X : List Value := [.null, .int 0, .null, .null, .int 0, .null, .null, .null, .null, .null, .int 0, .null, .int 0, .null, .null, .null, .null, .int 0, .null, .int 0, .null, .int 0, .int 0, .null]
set_option maxHeartbeats 4000000 in
set_option maxRecDepth 100000 in
theorem c_X_init (l : Launch) (D : va_G) (h sz : Nat) : Met l y_X_init (.code y_X_init b_X_init 1 none :: gt_tbl) ({ frames := 1, cells := 16, slots := 1992, locals := 12 }) (va_Pc [.ref h] (fun U => U.heap.size = sz ∧ va_P D classes [(h, .inr (0, nf_X))] U.heap ∧ va_K D classes [] U ∧ va_D (fun _ => True) [(h, .inr (0, nf_X))])) (va_Qv (fun u : Sg => u = g0_X) (at_Z 0 D h (va_A [(h, .inr (0, nf_X))] sz)) (va_A [(h, .inr (0, nf_X))] sz)) 16 1992 (va_A [(h, .inr (0, nf_X))] sz) := by
  refine Met.ofW (cc := b_X_init) (maxL := 1) (ret := none) (by decide) rfl ?_
  intro p e s m args below meth c s₁ B hml hv
  obtain ⟨rfl, hsz, hP, hK, hD0⟩ := hv
  have hx := B.exec
  have hb := B.bytes
  have hr := B.returns
  have hts0 := atoms_spec (ws := Cond.code y_X_init b_X_init 1 none :: gt_tbl) B.pre
  have hts : ∀ w ∈ gt_tbl, w.before [Value.ref h].toArray s = true := fun w hw => hts0 w (List.mem_cons_of_mem _ hw)
  have hown : s.vm.findClass R_X = some m.cls := findClass_of_methodNamed B.named
  have hlocks := B.notSynchronized
  have hin : meth.name = "<init>" := (name_of_methodNamed B.named B.method).1
  subst hsz
  have hD := hD0.self (sz := s.heap.size)
  generalize hAe : va_A [(h, .inr (0, nf_X))] s.heap.size = A at hD ⊢
  have hA : ∀ q : Nat, s.heap.size ≤ q → A q := fun q h => by rw [← hAe]; exact Or.inr h
  have hS : va_S A s.heap s.heap [] := va_S.rf
  have hP : va_P D classes [(h, .inr (0, nf_X))] s.heap := hP
  have hl := lv_entry ([.ref h]) (n := 1) (Nat.le_of_ble_eq_true rfl)
  rw [lg_entry_eq]
  generalize (lg_sl ([.ref h]) ++ List.replicate (1 - (lg_sl ([.ref h])).length) Slot.unset).toArray = ls at hl ⊢
  have hl : lv_has ls 1 [(0, .ref h)] := hl
  refine lv_aload_n hx hb d_X_init_0 rfl (lv_at hl 0 rfl) ?_
  refine W.objInit hx hb hown (hts _ mlo_X) (hts _ ino) (hts _ coo) rfl (by rw [hml]; exact hl.1) rfl d_X_init_1 (Nat.le_of_ble_eq_true rfl) (Nat.le_of_ble_eq_true rfl) ?_
  refine W.eq (g2 := F0 m 4 ls []) rfl ?_
  refine lv_aload_n hx hb d_X_init_4 rfl (lv_at hl 0 rfl) ?_
  refine lv_bipush (v := 12) hx hb d_X_init_5 (by decide) ?_
  refine va_newa (atype := .int) (ty := .int) (N' := 12) (a0 := (12, .inl (fun _ => 0))) hx hb (hts _ arr_i) rfl hK hP hD hS hA (fun _ => rfl) (by decide) (by decide) (by decide) (Nat.le_of_ble_eq_true rfl) (Nat.le_of_ble_eq_true rfl) d_X_init_7 (fun q0 cI H hK hP hD hS => ?_)
  have hK : va_K D classes [(cI, .int)] s := hK
  have hP : va_P D classes [(h, .inr (0, [.null, .int 0, .null, .null, .int 0, .null, .null, .null, .null, .null, .int 0, .null, .int 0, .null, .null, .null, .null, .int 0, .null, .int 0, .null, .int 0, .int 0, .null])), (q0, .inl (cI, 12, .inl (fun _ => 0)))] H := hP
  have hD : va_D A [(h, .inr (0, [.null, .int 0, .null, .null, .int 0, .null, .null, .null, .null, .null, .int 0, .null, .int 0, .null, .null, .null, .null, .int 0, .null, .int 0, .null, .int 0, .int 0, .null])), (q0, .inl (cI, 12, .inl (fun _ => 0)))] := hD
  refine W.widen (k := 1) (n := 12) (by omega) (by omega) ?_
  refine va_putF (D := D) (ci := 0) (v := .ref q0) (ty := .array .int) (C := R_X) (T := F_X) (N := 24) hx hb hts i_X t_X t_X_ok n_X hown hK hP hD hS 0 rfl rfl 0 (by decide) (hts _ fl_X_0) (fun _ h9 => h9) rfl hin rfl (t_X_ok 0 (by decide)) rfl rfl (Nat.le_of_ble_eq_true rfl) d_X_init_9 (fun H locs hP hD hS => ?_)
  have hP : va_P D classes [(h, .inr (0, [.ref q0, .int 0, .null, .null, .int 0, .null, .null, .null, .null, .null, .int 0, .null, .int 0, .null, .null, .null, .null, .int 0, .null, .int 0, .null, .int 0, .int 0, .null])), (q0, .inl (cI, 12, .inl (fun _ => 0)))] H := hP
  have hD : va_D A [(h, .inr (0, [.ref q0, .int 0, .null, .null, .int 0, .null, .null, .null, .null, .null, .int 0, .null, .int 0, .null, .null, .null, .null, .int 0, .null, .int 0, .null, .int 0, .int 0, .null])), (q0, .inl (cI, 12, .inl (fun _ => 0)))] := hD
  refine lv_aload_n hx hb d_X_init_12 rfl (lv_at hl 0 rfl) ?_
  refine lv_iconst (v := 3) hx hb d_X_init_13 (by decide) ?_
  refine va_newa (atype := .int) (ty := .int) (N' := 3) (a0 := (3, .inl (fun _ => 0))) hx hb (hts _ arr_i) rfl hK hP hD hS hA (fun _ => rfl) (by decide) (by decide) (by decide) (Nat.le_of_ble_eq_true rfl) (Nat.le_of_ble_eq_true rfl) d_X_init_14 (fun q2 cA H hK hP hD hS => ?_)
  have hK : va_K D classes [(cI, .int), (cA, .int)] s := hK
  have eA : cI = cA := k_same (by first | exact Or.inl rfl | exact Or.inr rfl) hK 0 1 rfl rfl
  subst eA
  have hK := hK.sub (tys' := [(cI, .int)]) [0] rfl
  have hP : va_P D classes [(h, .inr (0, [.ref q0, .int 0, .null, .null, .int 0, .null, .null, .null, .null, .null, .int 0, .null, .int 0, .null, .null, .null, .null, .int 0, .null, .int 0, .null, .int 0, .int 0, .null])), (q0, .inl (cI, 12, .inl (fun _ => 0))), (q2, .inl (cI, 3, .inl (fun _ => 0)))] H := hP
  have hD : va_D A [(h, .inr (0, [.ref q0, .int 0, .null, .null, .int 0, .null, .null, .null, .null, .null, .int 0, .null, .int 0, .null, .null, .null, .null, .int 0, .null, .int 0, .null, .int 0, .int 0, .null])), (q0, .inl (cI, 12, .inl (fun _ => 0))), (q2, .inl (cI, 3, .inl (fun _ => 0)))] := hD
  refine W.widen (k := 2) (n := 15) (by omega) (by omega) ?_
  refine va_putF (D := D) (ci := 0) (v := .ref q2) (ty := .array .int) (C := R_X) (T := F_X) (N := 24) hx hb hts i_X t_X t_X_ok n_X hown hK hP hD hS 0 rfl rfl 2 (by decide) (hts _ fl_X_2) (fun _ h9 => h9) rfl hin rfl (t_X_ok 2 (by decide)) rfl rfl (Nat.le_of_ble_eq_true rfl) d_X_init_16 (fun H locs hP hD hS => ?_)
  have hP : va_P D classes [(h, .inr (0, [.ref q0, .int 0, .ref q2, .null, .int 0, .null, .null, .null, .null, .null, .int 0, .null, .int 0, .null, .null, .null, .null, .int 0, .null, .int 0, .null, .int 0, .int 0, .null])), (q0, .inl (cI, 12, .inl (fun _ => 0))), (q2, .inl (cI, 3, .inl (fun _ => 0)))] H := hP
  have hD : va_D A [(h, .inr (0, [.ref q0, .int 0, .ref q2, .null, .int 0, .null, .null, .null, .null, .null, .int 0, .null, .int 0, .null, .null, .null, .null, .int 0, .null, .int 0, .null, .int 0, .int 0, .null])), (q0, .inl (cI, 12, .inl (fun _ => 0))), (q2, .inl (cI, 3, .inl (fun _ => 0)))] := hD
  refine lv_aload_n hx hb d_X_init_19 rfl (lv_at hl 0 rfl) ?_
  refine lv_bipush (v := 9) hx hb d_X_init_20 (by decide) ?_
  refine va_newa (atype := .int) (ty := .int) (N' := 9) (a0 := (9, .inl (fun _ => 0))) hx hb (hts _ arr_i) rfl hK hP hD hS hA (fun _ => rfl) (by decide) (by decide) (by decide) (Nat.le_of_ble_eq_true rfl) (Nat.le_of_ble_eq_true rfl) d_X_init_22 (fun q3 cA H hK hP hD hS => ?_)
  have hK : va_K D classes [(cI, .int), (cA, .int)] s := hK
  have eA : cI = cA := k_same (by first | exact Or.inl rfl | exact Or.inr rfl) hK 0 1 rfl rfl
  subst eA
  have hK := hK.sub (tys' := [(cI, .int)]) [0] rfl
  have hP : va_P D classes [(h, .inr (0, [.ref q0, .int 0, .ref q2, .null, .int 0, .null, .null, .null, .null, .null, .int 0, .null, .int 0, .null, .null, .null, .null, .int 0, .null, .int 0, .null, .int 0, .int 0, .null])), (q0, .inl (cI, 12, .inl (fun _ => 0))), (q2, .inl (cI, 3, .inl (fun _ => 0))), (q3, .inl (cI, 9, .inl (fun _ => 0)))] H := hP
  have hD : va_D A [(h, .inr (0, [.ref q0, .int 0, .ref q2, .null, .int 0, .null, .null, .null, .null, .null, .int 0, .null, .int 0, .null, .null, .null, .null, .int 0, .null, .int 0, .null, .int 0, .int 0, .null])), (q0, .inl (cI, 12, .inl (fun _ => 0))), (q2, .inl (cI, 3, .inl (fun _ => 0))), (q3, .inl (cI, 9, .inl (fun _ => 0)))] := hD
  refine W.widen (k := 3) (n := 24) (by omega) (by omega) ?_
  refine va_putF (D := D) (ci := 0) (v := .ref q3) (ty := .array .int) (C := R_X) (T := F_X) (N := 24) hx hb hts i_X t_X t_X_ok n_X hown hK hP hD hS 0 rfl rfl 3 (by decide) (hts _ fl_X_3) (fun _ h9 => h9) rfl hin rfl (t_X_ok 3 (by decide)) rfl rfl (Nat.le_of_ble_eq_true rfl) d_X_init_24 (fun H locs hP hD hS => ?_)
  have hP : va_P D classes [(h, .inr (0, [.ref q0, .int 0, .ref q2, .ref q3, .int 0, .null, .null, .null, .null, .null, .int 0, .null, .int 0, .null, .null, .null, .null, .int 0, .null, .int 0, .null, .int 0, .int 0, .null])), (q0, .inl (cI, 12, .inl (fun _ => 0))), (q2, .inl (cI, 3, .inl (fun _ => 0))), (q3, .inl (cI, 9, .inl (fun _ => 0)))] H := hP
  have hD : va_D A [(h, .inr (0, [.ref q0, .int 0, .ref q2, .ref q3, .int 0, .null, .null, .null, .null, .null, .int 0, .null, .int 0, .null, .null, .null, .null, .int 0, .null, .int 0, .null, .int 0, .int 0, .null])), (q0, .inl (cI, 12, .inl (fun _ => 0))), (q2, .inl (cI, 3, .inl (fun _ => 0))), (q3, .inl (cI, 9, .inl (fun _ => 0)))] := hD
  refine lv_aload_n hx hb d_X_init_27 rfl (lv_at hl 0 rfl) ?_
  refine lv_bipush (v := 10) hx hb d_X_init_28 (by decide) ?_
  refine va_newa (atype := .int) (ty := .int) (N' := 10) (a0 := (10, .inl (fun _ => 0))) hx hb (hts _ arr_i) rfl hK hP hD hS hA (fun _ => rfl) (by decide) (by decide) (by decide) (Nat.le_of_ble_eq_true rfl) (Nat.le_of_ble_eq_true rfl) d_X_init_30 (fun q5 cA H hK hP hD hS => ?_)
  have hK : va_K D classes [(cI, .int), (cA, .int)] s := hK
  have eA : cI = cA := k_same (by first | exact Or.inl rfl | exact Or.inr rfl) hK 0 1 rfl rfl
  subst eA
  have hK := hK.sub (tys' := [(cI, .int)]) [0] rfl
  have hP : va_P D classes [(h, .inr (0, [.ref q0, .int 0, .ref q2, .ref q3, .int 0, .null, .null, .null, .null, .null, .int 0, .null, .int 0, .null, .null, .null, .null, .int 0, .null, .int 0, .null, .int 0, .int 0, .null])), (q0, .inl (cI, 12, .inl (fun _ => 0))), (q2, .inl (cI, 3, .inl (fun _ => 0))), (q3, .inl (cI, 9, .inl (fun _ => 0))), (q5, .inl (cI, 10, .inl (fun _ => 0)))] H := hP
  have hD : va_D A [(h, .inr (0, [.ref q0, .int 0, .ref q2, .ref q3, .int 0, .null, .null, .null, .null, .null, .int 0, .null, .int 0, .null, .null, .null, .null, .int 0, .null, .int 0, .null, .int 0, .int 0, .null])), (q0, .inl (cI, 12, .inl (fun _ => 0))), (q2, .inl (cI, 3, .inl (fun _ => 0))), (q3, .inl (cI, 9, .inl (fun _ => 0))), (q5, .inl (cI, 10, .inl (fun _ => 0)))] := hD
  refine W.widen (k := 4) (n := 34) (by omega) (by omega) ?_
  refine va_putF (D := D) (ci := 0) (v := .ref q5) (ty := .array .int) (C := R_X) (T := F_X) (N := 24) hx hb hts i_X t_X t_X_ok n_X hown hK hP hD hS 0 rfl rfl 5 (by decide) (hts _ fl_X_5) (fun _ h9 => h9) rfl hin rfl (t_X_ok 5 (by decide)) rfl rfl (Nat.le_of_ble_eq_true rfl) d_X_init_32 (fun H locs hP hD hS => ?_)
  have hP : va_P D classes [(h, .inr (0, [.ref q0, .int 0, .ref q2, .ref q3, .int 0, .ref q5, .null, .null, .null, .null, .int 0, .null, .int 0, .null, .null, .null, .null, .int 0, .null, .int 0, .null, .int 0, .int 0, .null])), (q0, .inl (cI, 12, .inl (fun _ => 0))), (q2, .inl (cI, 3, .inl (fun _ => 0))), (q3, .inl (cI, 9, .inl (fun _ => 0))), (q5, .inl (cI, 10, .inl (fun _ => 0)))] H := hP
  have hD : va_D A [(h, .inr (0, [.ref q0, .int 0, .ref q2, .ref q3, .int 0, .ref q5, .null, .null, .null, .null, .int 0, .null, .int 0, .null, .null, .null, .null, .int 0, .null, .int 0, .null, .int 0, .int 0, .null])), (q0, .inl (cI, 12, .inl (fun _ => 0))), (q2, .inl (cI, 3, .inl (fun _ => 0))), (q3, .inl (cI, 9, .inl (fun _ => 0))), (q5, .inl (cI, 10, .inl (fun _ => 0)))] := hD
  refine lv_aload_n hx hb d_X_init_35 rfl (lv_at hl 0 rfl) ?_
  refine lv_bipush (v := 10) hx hb d_X_init_36 (by decide) ?_
  refine va_newa (atype := .boolean) (ty := .boolean) (N' := 10) (a0 := (10, .inl (fun _ => 0))) hx hb (hts _ arr_z) rfl hK hP hD hS hA (fun _ => rfl) (by decide) (by decide) (by decide) (Nat.le_of_ble_eq_true rfl) (Nat.le_of_ble_eq_true rfl) d_X_init_38 (fun q6 cZ H hK hP hD hS => ?_)
  have hK : va_K D classes [(cI, .int), (cZ, .boolean)] s := hK
  have hP : va_P D classes [(h, .inr (0, [.ref q0, .int 0, .ref q2, .ref q3, .int 0, .ref q5, .null, .null, .null, .null, .int 0, .null, .int 0, .null, .null, .null, .null, .int 0, .null, .int 0, .null, .int 0, .int 0, .null])), (q0, .inl (cI, 12, .inl (fun _ => 0))), (q2, .inl (cI, 3, .inl (fun _ => 0))), (q3, .inl (cI, 9, .inl (fun _ => 0))), (q5, .inl (cI, 10, .inl (fun _ => 0))), (q6, .inl (cZ, 10, .inl (fun _ => 0)))] H := hP
  have hD : va_D A [(h, .inr (0, [.ref q0, .int 0, .ref q2, .ref q3, .int 0, .ref q5, .null, .null, .null, .null, .int 0, .null, .int 0, .null, .null, .null, .null, .int 0, .null, .int 0, .null, .int 0, .int 0, .null])), (q0, .inl (cI, 12, .inl (fun _ => 0))), (q2, .inl (cI, 3, .inl (fun _ => 0))), (q3, .inl (cI, 9, .inl (fun _ => 0))), (q5, .inl (cI, 10, .inl (fun _ => 0))), (q6, .inl (cZ, 10, .inl (fun _ => 0)))] := hD
  refine W.widen (k := 5) (n := 44) (by omega) (by omega) ?_
  refine va_putF (D := D) (ci := 0) (v := .ref q6) (ty := .array .boolean) (C := R_X) (T := F_X) (N := 24) hx hb hts i_X t_X t_X_ok n_X hown hK hP hD hS 0 rfl rfl 6 (by decide) (hts _ fl_X_6) (fun _ h9 => h9) rfl hin rfl (t_X_ok 6 (by decide)) rfl rfl (Nat.le_of_ble_eq_true rfl) d_X_init_40 (fun H locs hP hD hS => ?_)
  have hP : va_P D classes [(h, .inr (0, [.ref q0, .int 0, .ref q2, .ref q3, .int 0, .ref q5, .ref q6, .null, .null, .null, .int 0, .null, .int 0, .null, .null, .null, .null, .int 0, .null, .int 0, .null, .int 0, .int 0, .null])), (q0, .inl (cI, 12, .inl (fun _ => 0))), (q2, .inl (cI, 3, .inl (fun _ => 0))), (q3, .inl (cI, 9, .inl (fun _ => 0))), (q5, .inl (cI, 10, .inl (fun _ => 0))), (q6, .inl (cZ, 10, .inl (fun _ => 0)))] H := hP
  have hD : va_D A [(h, .inr (0, [.ref q0, .int 0, .ref q2, .ref q3, .int 0, .ref q5, .ref q6, .null, .null, .null, .int 0, .null, .int 0, .null, .null, .null, .null, .int 0, .null, .int 0, .null, .int 0, .int 0, .null])), (q0, .inl (cI, 12, .inl (fun _ => 0))), (q2, .inl (cI, 3, .inl (fun _ => 0))), (q3, .inl (cI, 9, .inl (fun _ => 0))), (q5, .inl (cI, 10, .inl (fun _ => 0))), (q6, .inl (cZ, 10, .inl (fun _ => 0)))] := hD
  refine lv_aload_n hx hb d_X_init_43 rfl (lv_at hl 0 rfl) ?_
  refine lv_bipush (v := 10) hx hb d_X_init_44 (by decide) ?_
  refine va_newa (atype := .boolean) (ty := .boolean) (N' := 10) (a0 := (10, .inl (fun _ => 0))) hx hb (hts _ arr_z) rfl hK hP hD hS hA (fun _ => rfl) (by decide) (by decide) (by decide) (Nat.le_of_ble_eq_true rfl) (Nat.le_of_ble_eq_true rfl) d_X_init_46 (fun q7 cA H hK hP hD hS => ?_)
  have hK : va_K D classes [(cI, .int), (cZ, .boolean), (cA, .boolean)] s := hK
  have eA : cZ = cA := k_same (by first | exact Or.inl rfl | exact Or.inr rfl) hK 1 2 rfl rfl
  subst eA
  have hK := hK.sub (tys' := [(cI, .int), (cZ, .boolean)]) [0, 1] rfl
  have hP : va_P D classes [(h, .inr (0, [.ref q0, .int 0, .ref q2, .ref q3, .int 0, .ref q5, .ref q6, .null, .null, .null, .int 0, .null, .int 0, .null, .null, .null, .null, .int 0, .null, .int 0, .null, .int 0, .int 0, .null])), (q0, .inl (cI, 12, .inl (fun _ => 0))), (q2, .inl (cI, 3, .inl (fun _ => 0))), (q3, .inl (cI, 9, .inl (fun _ => 0))), (q5, .inl (cI, 10, .inl (fun _ => 0))), (q6, .inl (cZ, 10, .inl (fun _ => 0))), (q7, .inl (cZ, 10, .inl (fun _ => 0)))] H := hP
  have hD : va_D A [(h, .inr (0, [.ref q0, .int 0, .ref q2, .ref q3, .int 0, .ref q5, .ref q6, .null, .null, .null, .int 0, .null, .int 0, .null, .null, .null, .null, .int 0, .null, .int 0, .null, .int 0, .int 0, .null])), (q0, .inl (cI, 12, .inl (fun _ => 0))), (q2, .inl (cI, 3, .inl (fun _ => 0))), (q3, .inl (cI, 9, .inl (fun _ => 0))), (q5, .inl (cI, 10, .inl (fun _ => 0))), (q6, .inl (cZ, 10, .inl (fun _ => 0))), (q7, .inl (cZ, 10, .inl (fun _ => 0)))] := hD
  refine W.widen (k := 6) (n := 54) (by omega) (by omega) ?_
  refine va_putF (D := D) (ci := 0) (v := .ref q7) (ty := .array .boolean) (C := R_X) (T := F_X) (N := 24) hx hb hts i_X t_X t_X_ok n_X hown hK hP hD hS 0 rfl rfl 7 (by decide) (hts _ fl_X_7) (fun _ h9 => h9) rfl hin rfl (t_X_ok 7 (by decide)) rfl rfl (Nat.le_of_ble_eq_true rfl) d_X_init_48 (fun H locs hP hD hS => ?_)
  have hP : va_P D classes [(h, .inr (0, [.ref q0, .int 0, .ref q2, .ref q3, .int 0, .ref q5, .ref q6, .ref q7, .null, .null, .int 0, .null, .int 0, .null, .null, .null, .null, .int 0, .null, .int 0, .null, .int 0, .int 0, .null])), (q0, .inl (cI, 12, .inl (fun _ => 0))), (q2, .inl (cI, 3, .inl (fun _ => 0))), (q3, .inl (cI, 9, .inl (fun _ => 0))), (q5, .inl (cI, 10, .inl (fun _ => 0))), (q6, .inl (cZ, 10, .inl (fun _ => 0))), (q7, .inl (cZ, 10, .inl (fun _ => 0)))] H := hP
  have hD : va_D A [(h, .inr (0, [.ref q0, .int 0, .ref q2, .ref q3, .int 0, .ref q5, .ref q6, .ref q7, .null, .null, .int 0, .null, .int 0, .null, .null, .null, .null, .int 0, .null, .int 0, .null, .int 0, .int 0, .null])), (q0, .inl (cI, 12, .inl (fun _ => 0))), (q2, .inl (cI, 3, .inl (fun _ => 0))), (q3, .inl (cI, 9, .inl (fun _ => 0))), (q5, .inl (cI, 10, .inl (fun _ => 0))), (q6, .inl (cZ, 10, .inl (fun _ => 0))), (q7, .inl (cZ, 10, .inl (fun _ => 0)))] := hD
  refine lv_aload_n hx hb d_X_init_51 rfl (lv_at hl 0 rfl) ?_
  refine lv_bipush (v := 30) hx hb d_X_init_52 (by decide) ?_
  refine va_newa (atype := .int) (ty := .int) (N' := 30) (a0 := (30, .inl (fun _ => 0))) hx hb (hts _ arr_i) rfl hK hP hD hS hA (fun _ => rfl) (by decide) (by decide) (by decide) (Nat.le_of_ble_eq_true rfl) (Nat.le_of_ble_eq_true rfl) d_X_init_54 (fun q8 cA H hK hP hD hS => ?_)
  have hK : va_K D classes [(cI, .int), (cZ, .boolean), (cA, .int)] s := hK
  have eA : cI = cA := k_same (by first | exact Or.inl rfl | exact Or.inr rfl) hK 0 2 rfl rfl
  subst eA
  have hK := hK.sub (tys' := [(cI, .int), (cZ, .boolean)]) [0, 1] rfl
  have hP : va_P D classes [(h, .inr (0, [.ref q0, .int 0, .ref q2, .ref q3, .int 0, .ref q5, .ref q6, .ref q7, .null, .null, .int 0, .null, .int 0, .null, .null, .null, .null, .int 0, .null, .int 0, .null, .int 0, .int 0, .null])), (q0, .inl (cI, 12, .inl (fun _ => 0))), (q2, .inl (cI, 3, .inl (fun _ => 0))), (q3, .inl (cI, 9, .inl (fun _ => 0))), (q5, .inl (cI, 10, .inl (fun _ => 0))), (q6, .inl (cZ, 10, .inl (fun _ => 0))), (q7, .inl (cZ, 10, .inl (fun _ => 0))), (q8, .inl (cI, 30, .inl (fun _ => 0)))] H := hP
  have hD : va_D A [(h, .inr (0, [.ref q0, .int 0, .ref q2, .ref q3, .int 0, .ref q5, .ref q6, .ref q7, .null, .null, .int 0, .null, .int 0, .null, .null, .null, .null, .int 0, .null, .int 0, .null, .int 0, .int 0, .null])), (q0, .inl (cI, 12, .inl (fun _ => 0))), (q2, .inl (cI, 3, .inl (fun _ => 0))), (q3, .inl (cI, 9, .inl (fun _ => 0))), (q5, .inl (cI, 10, .inl (fun _ => 0))), (q6, .inl (cZ, 10, .inl (fun _ => 0))), (q7, .inl (cZ, 10, .inl (fun _ => 0))), (q8, .inl (cI, 30, .inl (fun _ => 0)))] := hD
  refine W.widen (k := 7) (n := 84) (by omega) (by omega) ?_
  refine va_putF (D := D) (ci := 0) (v := .ref q8) (ty := .array .int) (C := R_X) (T := F_X) (N := 24) hx hb hts i_X t_X t_X_ok n_X hown hK hP hD hS 0 rfl rfl 8 (by decide) (hts _ fl_X_8) (fun _ h9 => h9) rfl hin rfl (t_X_ok 8 (by decide)) rfl rfl (Nat.le_of_ble_eq_true rfl) d_X_init_56 (fun H locs hP hD hS => ?_)
  have hP : va_P D classes [(h, .inr (0, [.ref q0, .int 0, .ref q2, .ref q3, .int 0, .ref q5, .ref q6, .ref q7, .ref q8, .null, .int 0, .null, .int 0, .null, .null, .null, .null, .int 0, .null, .int 0, .null, .int 0, .int 0, .null])), (q0, .inl (cI, 12, .inl (fun _ => 0))), (q2, .inl (cI, 3, .inl (fun _ => 0))), (q3, .inl (cI, 9, .inl (fun _ => 0))), (q5, .inl (cI, 10, .inl (fun _ => 0))), (q6, .inl (cZ, 10, .inl (fun _ => 0))), (q7, .inl (cZ, 10, .inl (fun _ => 0))), (q8, .inl (cI, 30, .inl (fun _ => 0)))] H := hP
  have hD : va_D A [(h, .inr (0, [.ref q0, .int 0, .ref q2, .ref q3, .int 0, .ref q5, .ref q6, .ref q7, .ref q8, .null, .int 0, .null, .int 0, .null, .null, .null, .null, .int 0, .null, .int 0, .null, .int 0, .int 0, .null])), (q0, .inl (cI, 12, .inl (fun _ => 0))), (q2, .inl (cI, 3, .inl (fun _ => 0))), (q3, .inl (cI, 9, .inl (fun _ => 0))), (q5, .inl (cI, 10, .inl (fun _ => 0))), (q6, .inl (cZ, 10, .inl (fun _ => 0))), (q7, .inl (cZ, 10, .inl (fun _ => 0))), (q8, .inl (cI, 30, .inl (fun _ => 0)))] := hD
  refine lv_aload_n hx hb d_X_init_59 rfl (lv_at hl 0 rfl) ?_
  refine lv_bipush (v := 90) hx hb d_X_init_60 (by decide) ?_
  refine va_newa (atype := .int) (ty := .int) (N' := 90) (a0 := (90, .inl (fun _ => 0))) hx hb (hts _ arr_i) rfl hK hP hD hS hA (fun _ => rfl) (by decide) (by decide) (by decide) (Nat.le_of_ble_eq_true rfl) (Nat.le_of_ble_eq_true rfl) d_X_init_62 (fun q9 cA H hK hP hD hS => ?_)
  have hK : va_K D classes [(cI, .int), (cZ, .boolean), (cA, .int)] s := hK
  have eA : cI = cA := k_same (by first | exact Or.inl rfl | exact Or.inr rfl) hK 0 2 rfl rfl
  subst eA
  have hK := hK.sub (tys' := [(cI, .int), (cZ, .boolean)]) [0, 1] rfl
  have hP : va_P D classes [(h, .inr (0, [.ref q0, .int 0, .ref q2, .ref q3, .int 0, .ref q5, .ref q6, .ref q7, .ref q8, .null, .int 0, .null, .int 0, .null, .null, .null, .null, .int 0, .null, .int 0, .null, .int 0, .int 0, .null])), (q0, .inl (cI, 12, .inl (fun _ => 0))), (q2, .inl (cI, 3, .inl (fun _ => 0))), (q3, .inl (cI, 9, .inl (fun _ => 0))), (q5, .inl (cI, 10, .inl (fun _ => 0))), (q6, .inl (cZ, 10, .inl (fun _ => 0))), (q7, .inl (cZ, 10, .inl (fun _ => 0))), (q8, .inl (cI, 30, .inl (fun _ => 0))), (q9, .inl (cI, 90, .inl (fun _ => 0)))] H := hP
  have hD : va_D A [(h, .inr (0, [.ref q0, .int 0, .ref q2, .ref q3, .int 0, .ref q5, .ref q6, .ref q7, .ref q8, .null, .int 0, .null, .int 0, .null, .null, .null, .null, .int 0, .null, .int 0, .null, .int 0, .int 0, .null])), (q0, .inl (cI, 12, .inl (fun _ => 0))), (q2, .inl (cI, 3, .inl (fun _ => 0))), (q3, .inl (cI, 9, .inl (fun _ => 0))), (q5, .inl (cI, 10, .inl (fun _ => 0))), (q6, .inl (cZ, 10, .inl (fun _ => 0))), (q7, .inl (cZ, 10, .inl (fun _ => 0))), (q8, .inl (cI, 30, .inl (fun _ => 0))), (q9, .inl (cI, 90, .inl (fun _ => 0)))] := hD
  refine W.widen (k := 8) (n := 174) (by omega) (by omega) ?_
  refine va_putF (D := D) (ci := 0) (v := .ref q9) (ty := .array .int) (C := R_X) (T := F_X) (N := 24) hx hb hts i_X t_X t_X_ok n_X hown hK hP hD hS 0 rfl rfl 9 (by decide) (hts _ fl_X_9) (fun _ h9 => h9) rfl hin rfl (t_X_ok 9 (by decide)) rfl rfl (Nat.le_of_ble_eq_true rfl) d_X_init_64 (fun H locs hP hD hS => ?_)
  have hP : va_P D classes [(h, .inr (0, [.ref q0, .int 0, .ref q2, .ref q3, .int 0, .ref q5, .ref q6, .ref q7, .ref q8, .ref q9, .int 0, .null, .int 0, .null, .null, .null, .null, .int 0, .null, .int 0, .null, .int 0, .int 0, .null])), (q0, .inl (cI, 12, .inl (fun _ => 0))), (q2, .inl (cI, 3, .inl (fun _ => 0))), (q3, .inl (cI, 9, .inl (fun _ => 0))), (q5, .inl (cI, 10, .inl (fun _ => 0))), (q6, .inl (cZ, 10, .inl (fun _ => 0))), (q7, .inl (cZ, 10, .inl (fun _ => 0))), (q8, .inl (cI, 30, .inl (fun _ => 0))), (q9, .inl (cI, 90, .inl (fun _ => 0)))] H := hP
  have hD : va_D A [(h, .inr (0, [.ref q0, .int 0, .ref q2, .ref q3, .int 0, .ref q5, .ref q6, .ref q7, .ref q8, .ref q9, .int 0, .null, .int 0, .null, .null, .null, .null, .int 0, .null, .int 0, .null, .int 0, .int 0, .null])), (q0, .inl (cI, 12, .inl (fun _ => 0))), (q2, .inl (cI, 3, .inl (fun _ => 0))), (q3, .inl (cI, 9, .inl (fun _ => 0))), (q5, .inl (cI, 10, .inl (fun _ => 0))), (q6, .inl (cZ, 10, .inl (fun _ => 0))), (q7, .inl (cZ, 10, .inl (fun _ => 0))), (q8, .inl (cI, 30, .inl (fun _ => 0))), (q9, .inl (cI, 90, .inl (fun _ => 0)))] := hD
  refine lv_aload_n hx hb d_X_init_67 rfl (lv_at hl 0 rfl) ?_
  refine lv_bipush (v := 12) hx hb d_X_init_68 (by decide) ?_
  refine va_newa (atype := .int) (ty := .int) (N' := 12) (a0 := (12, .inl (fun _ => 0))) hx hb (hts _ arr_i) rfl hK hP hD hS hA (fun _ => rfl) (by decide) (by decide) (by decide) (Nat.le_of_ble_eq_true rfl) (Nat.le_of_ble_eq_true rfl) d_X_init_70 (fun q11 cA H hK hP hD hS => ?_)
  have hK : va_K D classes [(cI, .int), (cZ, .boolean), (cA, .int)] s := hK
  have eA : cI = cA := k_same (by first | exact Or.inl rfl | exact Or.inr rfl) hK 0 2 rfl rfl
  subst eA
  have hK := hK.sub (tys' := [(cI, .int), (cZ, .boolean)]) [0, 1] rfl
  have hP : va_P D classes [(h, .inr (0, [.ref q0, .int 0, .ref q2, .ref q3, .int 0, .ref q5, .ref q6, .ref q7, .ref q8, .ref q9, .int 0, .null, .int 0, .null, .null, .null, .null, .int 0, .null, .int 0, .null, .int 0, .int 0, .null])), (q0, .inl (cI, 12, .inl (fun _ => 0))), (q2, .inl (cI, 3, .inl (fun _ => 0))), (q3, .inl (cI, 9, .inl (fun _ => 0))), (q5, .inl (cI, 10, .inl (fun _ => 0))), (q6, .inl (cZ, 10, .inl (fun _ => 0))), (q7, .inl (cZ, 10, .inl (fun _ => 0))), (q8, .inl (cI, 30, .inl (fun _ => 0))), (q9, .inl (cI, 90, .inl (fun _ => 0))), (q11, .inl (cI, 12, .inl (fun _ => 0)))] H := hP
  have hD : va_D A [(h, .inr (0, [.ref q0, .int 0, .ref q2, .ref q3, .int 0, .ref q5, .ref q6, .ref q7, .ref q8, .ref q9, .int 0, .null, .int 0, .null, .null, .null, .null, .int 0, .null, .int 0, .null, .int 0, .int 0, .null])), (q0, .inl (cI, 12, .inl (fun _ => 0))), (q2, .inl (cI, 3, .inl (fun _ => 0))), (q3, .inl (cI, 9, .inl (fun _ => 0))), (q5, .inl (cI, 10, .inl (fun _ => 0))), (q6, .inl (cZ, 10, .inl (fun _ => 0))), (q7, .inl (cZ, 10, .inl (fun _ => 0))), (q8, .inl (cI, 30, .inl (fun _ => 0))), (q9, .inl (cI, 90, .inl (fun _ => 0))), (q11, .inl (cI, 12, .inl (fun _ => 0)))] := hD
  refine W.widen (k := 9) (n := 186) (by omega) (by omega) ?_
  refine va_putF (D := D) (ci := 0) (v := .ref q11) (ty := .array .int) (C := R_X) (T := F_X) (N := 24) hx hb hts i_X t_X t_X_ok n_X hown hK hP hD hS 0 rfl rfl 11 (by decide) (hts _ fl_X_11) (fun _ h9 => h9) rfl hin rfl (t_X_ok 11 (by decide)) rfl rfl (Nat.le_of_ble_eq_true rfl) d_X_init_72 (fun H locs hP hD hS => ?_)
  have hP : va_P D classes [(h, .inr (0, [.ref q0, .int 0, .ref q2, .ref q3, .int 0, .ref q5, .ref q6, .ref q7, .ref q8, .ref q9, .int 0, .ref q11, .int 0, .null, .null, .null, .null, .int 0, .null, .int 0, .null, .int 0, .int 0, .null])), (q0, .inl (cI, 12, .inl (fun _ => 0))), (q2, .inl (cI, 3, .inl (fun _ => 0))), (q3, .inl (cI, 9, .inl (fun _ => 0))), (q5, .inl (cI, 10, .inl (fun _ => 0))), (q6, .inl (cZ, 10, .inl (fun _ => 0))), (q7, .inl (cZ, 10, .inl (fun _ => 0))), (q8, .inl (cI, 30, .inl (fun _ => 0))), (q9, .inl (cI, 90, .inl (fun _ => 0))), (q11, .inl (cI, 12, .inl (fun _ => 0)))] H := hP
  have hD : va_D A [(h, .inr (0, [.ref q0, .int 0, .ref q2, .ref q3, .int 0, .ref q5, .ref q6, .ref q7, .ref q8, .ref q9, .int 0, .ref q11, .int 0, .null, .null, .null, .null, .int 0, .null, .int 0, .null, .int 0, .int 0, .null])), (q0, .inl (cI, 12, .inl (fun _ => 0))), (q2, .inl (cI, 3, .inl (fun _ => 0))), (q3, .inl (cI, 9, .inl (fun _ => 0))), (q5, .inl (cI, 10, .inl (fun _ => 0))), (q6, .inl (cZ, 10, .inl (fun _ => 0))), (q7, .inl (cZ, 10, .inl (fun _ => 0))), (q8, .inl (cI, 30, .inl (fun _ => 0))), (q9, .inl (cI, 90, .inl (fun _ => 0))), (q11, .inl (cI, 12, .inl (fun _ => 0)))] := hD
  refine lv_aload_n hx hb d_X_init_75 rfl (lv_at hl 0 rfl) ?_
  refine lv_sipush (v := 1160) hx hb d_X_init_76 (by decide) ?_
  refine va_newa (atype := .int) (ty := .int) (N' := 1160) (a0 := (1160, .inl (fun _ => 0))) hx hb (hts _ arr_i) rfl hK hP hD hS hA (fun _ => rfl) (by decide) (by decide) (by decide) (Nat.le_of_ble_eq_true rfl) (Nat.le_of_ble_eq_true rfl) d_X_init_79 (fun q13 cA H hK hP hD hS => ?_)
  have hK : va_K D classes [(cI, .int), (cZ, .boolean), (cA, .int)] s := hK
  have eA : cI = cA := k_same (by first | exact Or.inl rfl | exact Or.inr rfl) hK 0 2 rfl rfl
  subst eA
  have hK := hK.sub (tys' := [(cI, .int), (cZ, .boolean)]) [0, 1] rfl
  have hP : va_P D classes [(h, .inr (0, [.ref q0, .int 0, .ref q2, .ref q3, .int 0, .ref q5, .ref q6, .ref q7, .ref q8, .ref q9, .int 0, .ref q11, .int 0, .null, .null, .null, .null, .int 0, .null, .int 0, .null, .int 0, .int 0, .null])), (q0, .inl (cI, 12, .inl (fun _ => 0))), (q2, .inl (cI, 3, .inl (fun _ => 0))), (q3, .inl (cI, 9, .inl (fun _ => 0))), (q5, .inl (cI, 10, .inl (fun _ => 0))), (q6, .inl (cZ, 10, .inl (fun _ => 0))), (q7, .inl (cZ, 10, .inl (fun _ => 0))), (q8, .inl (cI, 30, .inl (fun _ => 0))), (q9, .inl (cI, 90, .inl (fun _ => 0))), (q11, .inl (cI, 12, .inl (fun _ => 0))), (q13, .inl (cI, 1160, .inl (fun _ => 0)))] H := hP
  have hD : va_D A [(h, .inr (0, [.ref q0, .int 0, .ref q2, .ref q3, .int 0, .ref q5, .ref q6, .ref q7, .ref q8, .ref q9, .int 0, .ref q11, .int 0, .null, .null, .null, .null, .int 0, .null, .int 0, .null, .int 0, .int 0, .null])), (q0, .inl (cI, 12, .inl (fun _ => 0))), (q2, .inl (cI, 3, .inl (fun _ => 0))), (q3, .inl (cI, 9, .inl (fun _ => 0))), (q5, .inl (cI, 10, .inl (fun _ => 0))), (q6, .inl (cZ, 10, .inl (fun _ => 0))), (q7, .inl (cZ, 10, .inl (fun _ => 0))), (q8, .inl (cI, 30, .inl (fun _ => 0))), (q9, .inl (cI, 90, .inl (fun _ => 0))), (q11, .inl (cI, 12, .inl (fun _ => 0))), (q13, .inl (cI, 1160, .inl (fun _ => 0)))] := hD
  refine W.widen (k := 10) (n := 1346) (by omega) (by omega) ?_
  refine va_putF (D := D) (ci := 0) (v := .ref q13) (ty := .array .int) (C := R_X) (T := F_X) (N := 24) hx hb hts i_X t_X t_X_ok n_X hown hK hP hD hS 0 rfl rfl 13 (by decide) (hts _ fl_X_13) (fun _ h9 => h9) rfl hin rfl (t_X_ok 13 (by decide)) rfl rfl (Nat.le_of_ble_eq_true rfl) d_X_init_81 (fun H locs hP hD hS => ?_)
  have hP : va_P D classes [(h, .inr (0, [.ref q0, .int 0, .ref q2, .ref q3, .int 0, .ref q5, .ref q6, .ref q7, .ref q8, .ref q9, .int 0, .ref q11, .int 0, .ref q13, .null, .null, .null, .int 0, .null, .int 0, .null, .int 0, .int 0, .null])), (q0, .inl (cI, 12, .inl (fun _ => 0))), (q2, .inl (cI, 3, .inl (fun _ => 0))), (q3, .inl (cI, 9, .inl (fun _ => 0))), (q5, .inl (cI, 10, .inl (fun _ => 0))), (q6, .inl (cZ, 10, .inl (fun _ => 0))), (q7, .inl (cZ, 10, .inl (fun _ => 0))), (q8, .inl (cI, 30, .inl (fun _ => 0))), (q9, .inl (cI, 90, .inl (fun _ => 0))), (q11, .inl (cI, 12, .inl (fun _ => 0))), (q13, .inl (cI, 1160, .inl (fun _ => 0)))] H := hP
  have hD : va_D A [(h, .inr (0, [.ref q0, .int 0, .ref q2, .ref q3, .int 0, .ref q5, .ref q6, .ref q7, .ref q8, .ref q9, .int 0, .ref q11, .int 0, .ref q13, .null, .null, .null, .int 0, .null, .int 0, .null, .int 0, .int 0, .null])), (q0, .inl (cI, 12, .inl (fun _ => 0))), (q2, .inl (cI, 3, .inl (fun _ => 0))), (q3, .inl (cI, 9, .inl (fun _ => 0))), (q5, .inl (cI, 10, .inl (fun _ => 0))), (q6, .inl (cZ, 10, .inl (fun _ => 0))), (q7, .inl (cZ, 10, .inl (fun _ => 0))), (q8, .inl (cI, 30, .inl (fun _ => 0))), (q9, .inl (cI, 90, .inl (fun _ => 0))), (q11, .inl (cI, 12, .inl (fun _ => 0))), (q13, .inl (cI, 1160, .inl (fun _ => 0)))] := hD
  refine lv_aload_n hx hb d_X_init_84 rfl (lv_at hl 0 rfl) ?_
  refine lv_sipush (v := 145) hx hb d_X_init_85 (by decide) ?_
  refine va_newa (atype := .int) (ty := .int) (N' := 145) (a0 := (145, .inl (fun _ => 0))) hx hb (hts _ arr_i) rfl hK hP hD hS hA (fun _ => rfl) (by decide) (by decide) (by decide) (Nat.le_of_ble_eq_true rfl) (Nat.le_of_ble_eq_true rfl) d_X_init_88 (fun q14 cA H hK hP hD hS => ?_)
  have hK : va_K D classes [(cI, .int), (cZ, .boolean), (cA, .int)] s := hK
  have eA : cI = cA := k_same (by first | exact Or.inl rfl | exact Or.inr rfl) hK 0 2 rfl rfl
  subst eA
  have hK := hK.sub (tys' := [(cI, .int), (cZ, .boolean)]) [0, 1] rfl
  have hP : va_P D classes [(h, .inr (0, [.ref q0, .int 0, .ref q2, .ref q3, .int 0, .ref q5, .ref q6, .ref q7, .ref q8, .ref q9, .int 0, .ref q11, .int 0, .ref q13, .null, .null, .null, .int 0, .null, .int 0, .null, .int 0, .int 0, .null])), (q0, .inl (cI, 12, .inl (fun _ => 0))), (q2, .inl (cI, 3, .inl (fun _ => 0))), (q3, .inl (cI, 9, .inl (fun _ => 0))), (q5, .inl (cI, 10, .inl (fun _ => 0))), (q6, .inl (cZ, 10, .inl (fun _ => 0))), (q7, .inl (cZ, 10, .inl (fun _ => 0))), (q8, .inl (cI, 30, .inl (fun _ => 0))), (q9, .inl (cI, 90, .inl (fun _ => 0))), (q11, .inl (cI, 12, .inl (fun _ => 0))), (q13, .inl (cI, 1160, .inl (fun _ => 0))), (q14, .inl (cI, 145, .inl (fun _ => 0)))] H := hP
  have hD : va_D A [(h, .inr (0, [.ref q0, .int 0, .ref q2, .ref q3, .int 0, .ref q5, .ref q6, .ref q7, .ref q8, .ref q9, .int 0, .ref q11, .int 0, .ref q13, .null, .null, .null, .int 0, .null, .int 0, .null, .int 0, .int 0, .null])), (q0, .inl (cI, 12, .inl (fun _ => 0))), (q2, .inl (cI, 3, .inl (fun _ => 0))), (q3, .inl (cI, 9, .inl (fun _ => 0))), (q5, .inl (cI, 10, .inl (fun _ => 0))), (q6, .inl (cZ, 10, .inl (fun _ => 0))), (q7, .inl (cZ, 10, .inl (fun _ => 0))), (q8, .inl (cI, 30, .inl (fun _ => 0))), (q9, .inl (cI, 90, .inl (fun _ => 0))), (q11, .inl (cI, 12, .inl (fun _ => 0))), (q13, .inl (cI, 1160, .inl (fun _ => 0))), (q14, .inl (cI, 145, .inl (fun _ => 0)))] := hD
  refine W.widen (k := 11) (n := 1491) (by omega) (by omega) ?_
  refine va_putF (D := D) (ci := 0) (v := .ref q14) (ty := .array .int) (C := R_X) (T := F_X) (N := 24) hx hb hts i_X t_X t_X_ok n_X hown hK hP hD hS 0 rfl rfl 14 (by decide) (hts _ fl_X_14) (fun _ h9 => h9) rfl hin rfl (t_X_ok 14 (by decide)) rfl rfl (Nat.le_of_ble_eq_true rfl) d_X_init_90 (fun H locs hP hD hS => ?_)
  have hP : va_P D classes [(h, .inr (0, [.ref q0, .int 0, .ref q2, .ref q3, .int 0, .ref q5, .ref q6, .ref q7, .ref q8, .ref q9, .int 0, .ref q11, .int 0, .ref q13, .ref q14, .null, .null, .int 0, .null, .int 0, .null, .int 0, .int 0, .null])), (q0, .inl (cI, 12, .inl (fun _ => 0))), (q2, .inl (cI, 3, .inl (fun _ => 0))), (q3, .inl (cI, 9, .inl (fun _ => 0))), (q5, .inl (cI, 10, .inl (fun _ => 0))), (q6, .inl (cZ, 10, .inl (fun _ => 0))), (q7, .inl (cZ, 10, .inl (fun _ => 0))), (q8, .inl (cI, 30, .inl (fun _ => 0))), (q9, .inl (cI, 90, .inl (fun _ => 0))), (q11, .inl (cI, 12, .inl (fun _ => 0))), (q13, .inl (cI, 1160, .inl (fun _ => 0))), (q14, .inl (cI, 145, .inl (fun _ => 0)))] H := hP
  have hD : va_D A [(h, .inr (0, [.ref q0, .int 0, .ref q2, .ref q3, .int 0, .ref q5, .ref q6, .ref q7, .ref q8, .ref q9, .int 0, .ref q11, .int 0, .ref q13, .ref q14, .null, .null, .int 0, .null, .int 0, .null, .int 0, .int 0, .null])), (q0, .inl (cI, 12, .inl (fun _ => 0))), (q2, .inl (cI, 3, .inl (fun _ => 0))), (q3, .inl (cI, 9, .inl (fun _ => 0))), (q5, .inl (cI, 10, .inl (fun _ => 0))), (q6, .inl (cZ, 10, .inl (fun _ => 0))), (q7, .inl (cZ, 10, .inl (fun _ => 0))), (q8, .inl (cI, 30, .inl (fun _ => 0))), (q9, .inl (cI, 90, .inl (fun _ => 0))), (q11, .inl (cI, 12, .inl (fun _ => 0))), (q13, .inl (cI, 1160, .inl (fun _ => 0))), (q14, .inl (cI, 145, .inl (fun _ => 0)))] := hD
  refine lv_aload_n hx hb d_X_init_93 rfl (lv_at hl 0 rfl) ?_
  refine lv_bipush (v := 12) hx hb d_X_init_94 (by decide) ?_
  refine va_newa (atype := .int) (ty := .int) (N' := 12) (a0 := (12, .inl (fun _ => 0))) hx hb (hts _ arr_i) rfl hK hP hD hS hA (fun _ => rfl) (by decide) (by decide) (by decide) (Nat.le_of_ble_eq_true rfl) (Nat.le_of_ble_eq_true rfl) d_X_init_96 (fun q15 cA H hK hP hD hS => ?_)
  have hK : va_K D classes [(cI, .int), (cZ, .boolean), (cA, .int)] s := hK
  have eA : cI = cA := k_same (by first | exact Or.inl rfl | exact Or.inr rfl) hK 0 2 rfl rfl
  subst eA
  have hK := hK.sub (tys' := [(cI, .int), (cZ, .boolean)]) [0, 1] rfl
  have hP : va_P D classes [(h, .inr (0, [.ref q0, .int 0, .ref q2, .ref q3, .int 0, .ref q5, .ref q6, .ref q7, .ref q8, .ref q9, .int 0, .ref q11, .int 0, .ref q13, .ref q14, .null, .null, .int 0, .null, .int 0, .null, .int 0, .int 0, .null])), (q0, .inl (cI, 12, .inl (fun _ => 0))), (q2, .inl (cI, 3, .inl (fun _ => 0))), (q3, .inl (cI, 9, .inl (fun _ => 0))), (q5, .inl (cI, 10, .inl (fun _ => 0))), (q6, .inl (cZ, 10, .inl (fun _ => 0))), (q7, .inl (cZ, 10, .inl (fun _ => 0))), (q8, .inl (cI, 30, .inl (fun _ => 0))), (q9, .inl (cI, 90, .inl (fun _ => 0))), (q11, .inl (cI, 12, .inl (fun _ => 0))), (q13, .inl (cI, 1160, .inl (fun _ => 0))), (q14, .inl (cI, 145, .inl (fun _ => 0))), (q15, .inl (cI, 12, .inl (fun _ => 0)))] H := hP
  have hD : va_D A [(h, .inr (0, [.ref q0, .int 0, .ref q2, .ref q3, .int 0, .ref q5, .ref q6, .ref q7, .ref q8, .ref q9, .int 0, .ref q11, .int 0, .ref q13, .ref q14, .null, .null, .int 0, .null, .int 0, .null, .int 0, .int 0, .null])), (q0, .inl (cI, 12, .inl (fun _ => 0))), (q2, .inl (cI, 3, .inl (fun _ => 0))), (q3, .inl (cI, 9, .inl (fun _ => 0))), (q5, .inl (cI, 10, .inl (fun _ => 0))), (q6, .inl (cZ, 10, .inl (fun _ => 0))), (q7, .inl (cZ, 10, .inl (fun _ => 0))), (q8, .inl (cI, 30, .inl (fun _ => 0))), (q9, .inl (cI, 90, .inl (fun _ => 0))), (q11, .inl (cI, 12, .inl (fun _ => 0))), (q13, .inl (cI, 1160, .inl (fun _ => 0))), (q14, .inl (cI, 145, .inl (fun _ => 0))), (q15, .inl (cI, 12, .inl (fun _ => 0)))] := hD
  refine W.widen (k := 12) (n := 1503) (by omega) (by omega) ?_
  refine va_putF (D := D) (ci := 0) (v := .ref q15) (ty := .array .int) (C := R_X) (T := F_X) (N := 24) hx hb hts i_X t_X t_X_ok n_X hown hK hP hD hS 0 rfl rfl 15 (by decide) (hts _ fl_X_15) (fun _ h9 => h9) rfl hin rfl (t_X_ok 15 (by decide)) rfl rfl (Nat.le_of_ble_eq_true rfl) d_X_init_98 (fun H locs hP hD hS => ?_)
  have hP : va_P D classes [(h, .inr (0, [.ref q0, .int 0, .ref q2, .ref q3, .int 0, .ref q5, .ref q6, .ref q7, .ref q8, .ref q9, .int 0, .ref q11, .int 0, .ref q13, .ref q14, .ref q15, .null, .int 0, .null, .int 0, .null, .int 0, .int 0, .null])), (q0, .inl (cI, 12, .inl (fun _ => 0))), (q2, .inl (cI, 3, .inl (fun _ => 0))), (q3, .inl (cI, 9, .inl (fun _ => 0))), (q5, .inl (cI, 10, .inl (fun _ => 0))), (q6, .inl (cZ, 10, .inl (fun _ => 0))), (q7, .inl (cZ, 10, .inl (fun _ => 0))), (q8, .inl (cI, 30, .inl (fun _ => 0))), (q9, .inl (cI, 90, .inl (fun _ => 0))), (q11, .inl (cI, 12, .inl (fun _ => 0))), (q13, .inl (cI, 1160, .inl (fun _ => 0))), (q14, .inl (cI, 145, .inl (fun _ => 0))), (q15, .inl (cI, 12, .inl (fun _ => 0)))] H := hP
  have hD : va_D A [(h, .inr (0, [.ref q0, .int 0, .ref q2, .ref q3, .int 0, .ref q5, .ref q6, .ref q7, .ref q8, .ref q9, .int 0, .ref q11, .int 0, .ref q13, .ref q14, .ref q15, .null, .int 0, .null, .int 0, .null, .int 0, .int 0, .null])), (q0, .inl (cI, 12, .inl (fun _ => 0))), (q2, .inl (cI, 3, .inl (fun _ => 0))), (q3, .inl (cI, 9, .inl (fun _ => 0))), (q5, .inl (cI, 10, .inl (fun _ => 0))), (q6, .inl (cZ, 10, .inl (fun _ => 0))), (q7, .inl (cZ, 10, .inl (fun _ => 0))), (q8, .inl (cI, 30, .inl (fun _ => 0))), (q9, .inl (cI, 90, .inl (fun _ => 0))), (q11, .inl (cI, 12, .inl (fun _ => 0))), (q13, .inl (cI, 1160, .inl (fun _ => 0))), (q14, .inl (cI, 145, .inl (fun _ => 0))), (q15, .inl (cI, 12, .inl (fun _ => 0)))] := hD
  refine lv_aload_n hx hb d_X_init_101 rfl (lv_at hl 0 rfl) ?_
  refine lv_bipush (v := 13) hx hb d_X_init_102 (by decide) ?_
  refine va_newa (atype := .int) (ty := .int) (N' := 13) (a0 := (13, .inl (fun _ => 0))) hx hb (hts _ arr_i) rfl hK hP hD hS hA (fun _ => rfl) (by decide) (by decide) (by decide) (Nat.le_of_ble_eq_true rfl) (Nat.le_of_ble_eq_true rfl) d_X_init_104 (fun q16 cA H hK hP hD hS => ?_)
  have hK : va_K D classes [(cI, .int), (cZ, .boolean), (cA, .int)] s := hK
  have eA : cI = cA := k_same (by first | exact Or.inl rfl | exact Or.inr rfl) hK 0 2 rfl rfl
  subst eA
  have hK := hK.sub (tys' := [(cI, .int), (cZ, .boolean)]) [0, 1] rfl
  have hP : va_P D classes [(h, .inr (0, [.ref q0, .int 0, .ref q2, .ref q3, .int 0, .ref q5, .ref q6, .ref q7, .ref q8, .ref q9, .int 0, .ref q11, .int 0, .ref q13, .ref q14, .ref q15, .null, .int 0, .null, .int 0, .null, .int 0, .int 0, .null])), (q0, .inl (cI, 12, .inl (fun _ => 0))), (q2, .inl (cI, 3, .inl (fun _ => 0))), (q3, .inl (cI, 9, .inl (fun _ => 0))), (q5, .inl (cI, 10, .inl (fun _ => 0))), (q6, .inl (cZ, 10, .inl (fun _ => 0))), (q7, .inl (cZ, 10, .inl (fun _ => 0))), (q8, .inl (cI, 30, .inl (fun _ => 0))), (q9, .inl (cI, 90, .inl (fun _ => 0))), (q11, .inl (cI, 12, .inl (fun _ => 0))), (q13, .inl (cI, 1160, .inl (fun _ => 0))), (q14, .inl (cI, 145, .inl (fun _ => 0))), (q15, .inl (cI, 12, .inl (fun _ => 0))), (q16, .inl (cI, 13, .inl (fun _ => 0)))] H := hP
  have hD : va_D A [(h, .inr (0, [.ref q0, .int 0, .ref q2, .ref q3, .int 0, .ref q5, .ref q6, .ref q7, .ref q8, .ref q9, .int 0, .ref q11, .int 0, .ref q13, .ref q14, .ref q15, .null, .int 0, .null, .int 0, .null, .int 0, .int 0, .null])), (q0, .inl (cI, 12, .inl (fun _ => 0))), (q2, .inl (cI, 3, .inl (fun _ => 0))), (q3, .inl (cI, 9, .inl (fun _ => 0))), (q5, .inl (cI, 10, .inl (fun _ => 0))), (q6, .inl (cZ, 10, .inl (fun _ => 0))), (q7, .inl (cZ, 10, .inl (fun _ => 0))), (q8, .inl (cI, 30, .inl (fun _ => 0))), (q9, .inl (cI, 90, .inl (fun _ => 0))), (q11, .inl (cI, 12, .inl (fun _ => 0))), (q13, .inl (cI, 1160, .inl (fun _ => 0))), (q14, .inl (cI, 145, .inl (fun _ => 0))), (q15, .inl (cI, 12, .inl (fun _ => 0))), (q16, .inl (cI, 13, .inl (fun _ => 0)))] := hD
  refine W.widen (k := 13) (n := 1516) (by omega) (by omega) ?_
  refine va_putF (D := D) (ci := 0) (v := .ref q16) (ty := .array .int) (C := R_X) (T := F_X) (N := 24) hx hb hts i_X t_X t_X_ok n_X hown hK hP hD hS 0 rfl rfl 16 (by decide) (hts _ fl_X_16) (fun _ h9 => h9) rfl hin rfl (t_X_ok 16 (by decide)) rfl rfl (Nat.le_of_ble_eq_true rfl) d_X_init_106 (fun H locs hP hD hS => ?_)
  have hP : va_P D classes [(h, .inr (0, [.ref q0, .int 0, .ref q2, .ref q3, .int 0, .ref q5, .ref q6, .ref q7, .ref q8, .ref q9, .int 0, .ref q11, .int 0, .ref q13, .ref q14, .ref q15, .ref q16, .int 0, .null, .int 0, .null, .int 0, .int 0, .null])), (q0, .inl (cI, 12, .inl (fun _ => 0))), (q2, .inl (cI, 3, .inl (fun _ => 0))), (q3, .inl (cI, 9, .inl (fun _ => 0))), (q5, .inl (cI, 10, .inl (fun _ => 0))), (q6, .inl (cZ, 10, .inl (fun _ => 0))), (q7, .inl (cZ, 10, .inl (fun _ => 0))), (q8, .inl (cI, 30, .inl (fun _ => 0))), (q9, .inl (cI, 90, .inl (fun _ => 0))), (q11, .inl (cI, 12, .inl (fun _ => 0))), (q13, .inl (cI, 1160, .inl (fun _ => 0))), (q14, .inl (cI, 145, .inl (fun _ => 0))), (q15, .inl (cI, 12, .inl (fun _ => 0))), (q16, .inl (cI, 13, .inl (fun _ => 0)))] H := hP
  have hD : va_D A [(h, .inr (0, [.ref q0, .int 0, .ref q2, .ref q3, .int 0, .ref q5, .ref q6, .ref q7, .ref q8, .ref q9, .int 0, .ref q11, .int 0, .ref q13, .ref q14, .ref q15, .ref q16, .int 0, .null, .int 0, .null, .int 0, .int 0, .null])), (q0, .inl (cI, 12, .inl (fun _ => 0))), (q2, .inl (cI, 3, .inl (fun _ => 0))), (q3, .inl (cI, 9, .inl (fun _ => 0))), (q5, .inl (cI, 10, .inl (fun _ => 0))), (q6, .inl (cZ, 10, .inl (fun _ => 0))), (q7, .inl (cZ, 10, .inl (fun _ => 0))), (q8, .inl (cI, 30, .inl (fun _ => 0))), (q9, .inl (cI, 90, .inl (fun _ => 0))), (q11, .inl (cI, 12, .inl (fun _ => 0))), (q13, .inl (cI, 1160, .inl (fun _ => 0))), (q14, .inl (cI, 145, .inl (fun _ => 0))), (q15, .inl (cI, 12, .inl (fun _ => 0))), (q16, .inl (cI, 13, .inl (fun _ => 0)))] := hD
  refine lv_aload_n hx hb d_X_init_109 rfl (lv_at hl 0 rfl) ?_
  refine lv_bipush (v := 16) hx hb d_X_init_110 (by decide) ?_
  refine va_newa (atype := .int) (ty := .int) (N' := 16) (a0 := (16, .inl (fun _ => 0))) hx hb (hts _ arr_i) rfl hK hP hD hS hA (fun _ => rfl) (by decide) (by decide) (by decide) (Nat.le_of_ble_eq_true rfl) (Nat.le_of_ble_eq_true rfl) d_X_init_112 (fun q18 cA H hK hP hD hS => ?_)
  have hK : va_K D classes [(cI, .int), (cZ, .boolean), (cA, .int)] s := hK
  have eA : cI = cA := k_same (by first | exact Or.inl rfl | exact Or.inr rfl) hK 0 2 rfl rfl
  subst eA
  have hK := hK.sub (tys' := [(cI, .int), (cZ, .boolean)]) [0, 1] rfl
  have hP : va_P D classes [(h, .inr (0, [.ref q0, .int 0, .ref q2, .ref q3, .int 0, .ref q5, .ref q6, .ref q7, .ref q8, .ref q9, .int 0, .ref q11, .int 0, .ref q13, .ref q14, .ref q15, .ref q16, .int 0, .null, .int 0, .null, .int 0, .int 0, .null])), (q0, .inl (cI, 12, .inl (fun _ => 0))), (q2, .inl (cI, 3, .inl (fun _ => 0))), (q3, .inl (cI, 9, .inl (fun _ => 0))), (q5, .inl (cI, 10, .inl (fun _ => 0))), (q6, .inl (cZ, 10, .inl (fun _ => 0))), (q7, .inl (cZ, 10, .inl (fun _ => 0))), (q8, .inl (cI, 30, .inl (fun _ => 0))), (q9, .inl (cI, 90, .inl (fun _ => 0))), (q11, .inl (cI, 12, .inl (fun _ => 0))), (q13, .inl (cI, 1160, .inl (fun _ => 0))), (q14, .inl (cI, 145, .inl (fun _ => 0))), (q15, .inl (cI, 12, .inl (fun _ => 0))), (q16, .inl (cI, 13, .inl (fun _ => 0))), (q18, .inl (cI, 16, .inl (fun _ => 0)))] H := hP
  have hD : va_D A [(h, .inr (0, [.ref q0, .int 0, .ref q2, .ref q3, .int 0, .ref q5, .ref q6, .ref q7, .ref q8, .ref q9, .int 0, .ref q11, .int 0, .ref q13, .ref q14, .ref q15, .ref q16, .int 0, .null, .int 0, .null, .int 0, .int 0, .null])), (q0, .inl (cI, 12, .inl (fun _ => 0))), (q2, .inl (cI, 3, .inl (fun _ => 0))), (q3, .inl (cI, 9, .inl (fun _ => 0))), (q5, .inl (cI, 10, .inl (fun _ => 0))), (q6, .inl (cZ, 10, .inl (fun _ => 0))), (q7, .inl (cZ, 10, .inl (fun _ => 0))), (q8, .inl (cI, 30, .inl (fun _ => 0))), (q9, .inl (cI, 90, .inl (fun _ => 0))), (q11, .inl (cI, 12, .inl (fun _ => 0))), (q13, .inl (cI, 1160, .inl (fun _ => 0))), (q14, .inl (cI, 145, .inl (fun _ => 0))), (q15, .inl (cI, 12, .inl (fun _ => 0))), (q16, .inl (cI, 13, .inl (fun _ => 0))), (q18, .inl (cI, 16, .inl (fun _ => 0)))] := hD
  refine W.widen (k := 14) (n := 1532) (by omega) (by omega) ?_
  refine va_putF (D := D) (ci := 0) (v := .ref q18) (ty := .array .int) (C := R_X) (T := F_X) (N := 24) hx hb hts i_X t_X t_X_ok n_X hown hK hP hD hS 0 rfl rfl 18 (by decide) (hts _ fl_X_18) (fun _ h9 => h9) rfl hin rfl (t_X_ok 18 (by decide)) rfl rfl (Nat.le_of_ble_eq_true rfl) d_X_init_114 (fun H locs hP hD hS => ?_)
  have hP : va_P D classes [(h, .inr (0, [.ref q0, .int 0, .ref q2, .ref q3, .int 0, .ref q5, .ref q6, .ref q7, .ref q8, .ref q9, .int 0, .ref q11, .int 0, .ref q13, .ref q14, .ref q15, .ref q16, .int 0, .ref q18, .int 0, .null, .int 0, .int 0, .null])), (q0, .inl (cI, 12, .inl (fun _ => 0))), (q2, .inl (cI, 3, .inl (fun _ => 0))), (q3, .inl (cI, 9, .inl (fun _ => 0))), (q5, .inl (cI, 10, .inl (fun _ => 0))), (q6, .inl (cZ, 10, .inl (fun _ => 0))), (q7, .inl (cZ, 10, .inl (fun _ => 0))), (q8, .inl (cI, 30, .inl (fun _ => 0))), (q9, .inl (cI, 90, .inl (fun _ => 0))), (q11, .inl (cI, 12, .inl (fun _ => 0))), (q13, .inl (cI, 1160, .inl (fun _ => 0))), (q14, .inl (cI, 145, .inl (fun _ => 0))), (q15, .inl (cI, 12, .inl (fun _ => 0))), (q16, .inl (cI, 13, .inl (fun _ => 0))), (q18, .inl (cI, 16, .inl (fun _ => 0)))] H := hP
  have hD : va_D A [(h, .inr (0, [.ref q0, .int 0, .ref q2, .ref q3, .int 0, .ref q5, .ref q6, .ref q7, .ref q8, .ref q9, .int 0, .ref q11, .int 0, .ref q13, .ref q14, .ref q15, .ref q16, .int 0, .ref q18, .int 0, .null, .int 0, .int 0, .null])), (q0, .inl (cI, 12, .inl (fun _ => 0))), (q2, .inl (cI, 3, .inl (fun _ => 0))), (q3, .inl (cI, 9, .inl (fun _ => 0))), (q5, .inl (cI, 10, .inl (fun _ => 0))), (q6, .inl (cZ, 10, .inl (fun _ => 0))), (q7, .inl (cZ, 10, .inl (fun _ => 0))), (q8, .inl (cI, 30, .inl (fun _ => 0))), (q9, .inl (cI, 90, .inl (fun _ => 0))), (q11, .inl (cI, 12, .inl (fun _ => 0))), (q13, .inl (cI, 1160, .inl (fun _ => 0))), (q14, .inl (cI, 145, .inl (fun _ => 0))), (q15, .inl (cI, 12, .inl (fun _ => 0))), (q16, .inl (cI, 13, .inl (fun _ => 0))), (q18, .inl (cI, 16, .inl (fun _ => 0)))] := hD
  refine lv_aload_n hx hb d_X_init_117 rfl (lv_at hl 0 rfl) ?_
  refine lv_bipush (v := 20) hx hb d_X_init_118 (by decide) ?_
  refine va_newa (atype := .int) (ty := .int) (N' := 20) (a0 := (20, .inl (fun _ => 0))) hx hb (hts _ arr_i) rfl hK hP hD hS hA (fun _ => rfl) (by decide) (by decide) (by decide) (Nat.le_of_ble_eq_true rfl) (Nat.le_of_ble_eq_true rfl) d_X_init_120 (fun q20 cA H hK hP hD hS => ?_)
  have hK : va_K D classes [(cI, .int), (cZ, .boolean), (cA, .int)] s := hK
  have eA : cI = cA := k_same (by first | exact Or.inl rfl | exact Or.inr rfl) hK 0 2 rfl rfl
  subst eA
  have hK := hK.sub (tys' := [(cI, .int), (cZ, .boolean)]) [0, 1] rfl
  have hP : va_P D classes [(h, .inr (0, [.ref q0, .int 0, .ref q2, .ref q3, .int 0, .ref q5, .ref q6, .ref q7, .ref q8, .ref q9, .int 0, .ref q11, .int 0, .ref q13, .ref q14, .ref q15, .ref q16, .int 0, .ref q18, .int 0, .null, .int 0, .int 0, .null])), (q0, .inl (cI, 12, .inl (fun _ => 0))), (q2, .inl (cI, 3, .inl (fun _ => 0))), (q3, .inl (cI, 9, .inl (fun _ => 0))), (q5, .inl (cI, 10, .inl (fun _ => 0))), (q6, .inl (cZ, 10, .inl (fun _ => 0))), (q7, .inl (cZ, 10, .inl (fun _ => 0))), (q8, .inl (cI, 30, .inl (fun _ => 0))), (q9, .inl (cI, 90, .inl (fun _ => 0))), (q11, .inl (cI, 12, .inl (fun _ => 0))), (q13, .inl (cI, 1160, .inl (fun _ => 0))), (q14, .inl (cI, 145, .inl (fun _ => 0))), (q15, .inl (cI, 12, .inl (fun _ => 0))), (q16, .inl (cI, 13, .inl (fun _ => 0))), (q18, .inl (cI, 16, .inl (fun _ => 0))), (q20, .inl (cI, 20, .inl (fun _ => 0)))] H := hP
  have hD : va_D A [(h, .inr (0, [.ref q0, .int 0, .ref q2, .ref q3, .int 0, .ref q5, .ref q6, .ref q7, .ref q8, .ref q9, .int 0, .ref q11, .int 0, .ref q13, .ref q14, .ref q15, .ref q16, .int 0, .ref q18, .int 0, .null, .int 0, .int 0, .null])), (q0, .inl (cI, 12, .inl (fun _ => 0))), (q2, .inl (cI, 3, .inl (fun _ => 0))), (q3, .inl (cI, 9, .inl (fun _ => 0))), (q5, .inl (cI, 10, .inl (fun _ => 0))), (q6, .inl (cZ, 10, .inl (fun _ => 0))), (q7, .inl (cZ, 10, .inl (fun _ => 0))), (q8, .inl (cI, 30, .inl (fun _ => 0))), (q9, .inl (cI, 90, .inl (fun _ => 0))), (q11, .inl (cI, 12, .inl (fun _ => 0))), (q13, .inl (cI, 1160, .inl (fun _ => 0))), (q14, .inl (cI, 145, .inl (fun _ => 0))), (q15, .inl (cI, 12, .inl (fun _ => 0))), (q16, .inl (cI, 13, .inl (fun _ => 0))), (q18, .inl (cI, 16, .inl (fun _ => 0))), (q20, .inl (cI, 20, .inl (fun _ => 0)))] := hD
  refine W.widen (k := 15) (n := 1552) (by omega) (by omega) ?_
  refine va_putF (D := D) (ci := 0) (v := .ref q20) (ty := .array .int) (C := R_X) (T := F_X) (N := 24) hx hb hts i_X t_X t_X_ok n_X hown hK hP hD hS 0 rfl rfl 20 (by decide) (hts _ fl_X_20) (fun _ h9 => h9) rfl hin rfl (t_X_ok 20 (by decide)) rfl rfl (Nat.le_of_ble_eq_true rfl) d_X_init_122 (fun H locs hP hD hS => ?_)
  have hP : va_P D classes [(h, .inr (0, [.ref q0, .int 0, .ref q2, .ref q3, .int 0, .ref q5, .ref q6, .ref q7, .ref q8, .ref q9, .int 0, .ref q11, .int 0, .ref q13, .ref q14, .ref q15, .ref q16, .int 0, .ref q18, .int 0, .ref q20, .int 0, .int 0, .null])), (q0, .inl (cI, 12, .inl (fun _ => 0))), (q2, .inl (cI, 3, .inl (fun _ => 0))), (q3, .inl (cI, 9, .inl (fun _ => 0))), (q5, .inl (cI, 10, .inl (fun _ => 0))), (q6, .inl (cZ, 10, .inl (fun _ => 0))), (q7, .inl (cZ, 10, .inl (fun _ => 0))), (q8, .inl (cI, 30, .inl (fun _ => 0))), (q9, .inl (cI, 90, .inl (fun _ => 0))), (q11, .inl (cI, 12, .inl (fun _ => 0))), (q13, .inl (cI, 1160, .inl (fun _ => 0))), (q14, .inl (cI, 145, .inl (fun _ => 0))), (q15, .inl (cI, 12, .inl (fun _ => 0))), (q16, .inl (cI, 13, .inl (fun _ => 0))), (q18, .inl (cI, 16, .inl (fun _ => 0))), (q20, .inl (cI, 20, .inl (fun _ => 0)))] H := hP
  have hD : va_D A [(h, .inr (0, [.ref q0, .int 0, .ref q2, .ref q3, .int 0, .ref q5, .ref q6, .ref q7, .ref q8, .ref q9, .int 0, .ref q11, .int 0, .ref q13, .ref q14, .ref q15, .ref q16, .int 0, .ref q18, .int 0, .ref q20, .int 0, .int 0, .null])), (q0, .inl (cI, 12, .inl (fun _ => 0))), (q2, .inl (cI, 3, .inl (fun _ => 0))), (q3, .inl (cI, 9, .inl (fun _ => 0))), (q5, .inl (cI, 10, .inl (fun _ => 0))), (q6, .inl (cZ, 10, .inl (fun _ => 0))), (q7, .inl (cZ, 10, .inl (fun _ => 0))), (q8, .inl (cI, 30, .inl (fun _ => 0))), (q9, .inl (cI, 90, .inl (fun _ => 0))), (q11, .inl (cI, 12, .inl (fun _ => 0))), (q13, .inl (cI, 1160, .inl (fun _ => 0))), (q14, .inl (cI, 145, .inl (fun _ => 0))), (q15, .inl (cI, 12, .inl (fun _ => 0))), (q16, .inl (cI, 13, .inl (fun _ => 0))), (q18, .inl (cI, 16, .inl (fun _ => 0))), (q20, .inl (cI, 20, .inl (fun _ => 0)))] := hD
  refine lv_aload_n hx hb d_X_init_125 rfl (lv_at hl 0 rfl) ?_
  refine lv_sipush (v := 440) hx hb d_X_init_126 (by decide) ?_
  refine va_newa (atype := .int) (ty := .int) (N' := 440) (a0 := (440, .inl (fun _ => 0))) hx hb (hts _ arr_i) rfl hK hP hD hS hA (fun _ => rfl) (by decide) (by decide) (by decide) (Nat.le_of_ble_eq_true rfl) (Nat.le_of_ble_eq_true rfl) d_X_init_129 (fun q23 cA H hK hP hD hS => ?_)
  have hK : va_K D classes [(cI, .int), (cZ, .boolean), (cA, .int)] s := hK
  have eA : cI = cA := k_same (by first | exact Or.inl rfl | exact Or.inr rfl) hK 0 2 rfl rfl
  subst eA
  have hK := hK.sub (tys' := [(cI, .int), (cZ, .boolean)]) [0, 1] rfl
  have hP : va_P D classes [(h, .inr (0, [.ref q0, .int 0, .ref q2, .ref q3, .int 0, .ref q5, .ref q6, .ref q7, .ref q8, .ref q9, .int 0, .ref q11, .int 0, .ref q13, .ref q14, .ref q15, .ref q16, .int 0, .ref q18, .int 0, .ref q20, .int 0, .int 0, .null])), (q0, .inl (cI, 12, .inl (fun _ => 0))), (q2, .inl (cI, 3, .inl (fun _ => 0))), (q3, .inl (cI, 9, .inl (fun _ => 0))), (q5, .inl (cI, 10, .inl (fun _ => 0))), (q6, .inl (cZ, 10, .inl (fun _ => 0))), (q7, .inl (cZ, 10, .inl (fun _ => 0))), (q8, .inl (cI, 30, .inl (fun _ => 0))), (q9, .inl (cI, 90, .inl (fun _ => 0))), (q11, .inl (cI, 12, .inl (fun _ => 0))), (q13, .inl (cI, 1160, .inl (fun _ => 0))), (q14, .inl (cI, 145, .inl (fun _ => 0))), (q15, .inl (cI, 12, .inl (fun _ => 0))), (q16, .inl (cI, 13, .inl (fun _ => 0))), (q18, .inl (cI, 16, .inl (fun _ => 0))), (q20, .inl (cI, 20, .inl (fun _ => 0))), (q23, .inl (cI, 440, .inl (fun _ => 0)))] H := hP
  have hD : va_D A [(h, .inr (0, [.ref q0, .int 0, .ref q2, .ref q3, .int 0, .ref q5, .ref q6, .ref q7, .ref q8, .ref q9, .int 0, .ref q11, .int 0, .ref q13, .ref q14, .ref q15, .ref q16, .int 0, .ref q18, .int 0, .ref q20, .int 0, .int 0, .null])), (q0, .inl (cI, 12, .inl (fun _ => 0))), (q2, .inl (cI, 3, .inl (fun _ => 0))), (q3, .inl (cI, 9, .inl (fun _ => 0))), (q5, .inl (cI, 10, .inl (fun _ => 0))), (q6, .inl (cZ, 10, .inl (fun _ => 0))), (q7, .inl (cZ, 10, .inl (fun _ => 0))), (q8, .inl (cI, 30, .inl (fun _ => 0))), (q9, .inl (cI, 90, .inl (fun _ => 0))), (q11, .inl (cI, 12, .inl (fun _ => 0))), (q13, .inl (cI, 1160, .inl (fun _ => 0))), (q14, .inl (cI, 145, .inl (fun _ => 0))), (q15, .inl (cI, 12, .inl (fun _ => 0))), (q16, .inl (cI, 13, .inl (fun _ => 0))), (q18, .inl (cI, 16, .inl (fun _ => 0))), (q20, .inl (cI, 20, .inl (fun _ => 0))), (q23, .inl (cI, 440, .inl (fun _ => 0)))] := hD
  refine W.widen (k := 16) (n := 1992) (by omega) (by omega) ?_
  refine va_putF (D := D) (ci := 0) (v := .ref q23) (ty := .array .int) (C := R_X) (T := F_X) (N := 24) hx hb hts i_X t_X t_X_ok n_X hown hK hP hD hS 0 rfl rfl 23 (by decide) (hts _ fl_X_23) (fun _ h9 => h9) rfl hin rfl (t_X_ok 23 (by decide)) rfl rfl (Nat.le_of_ble_eq_true rfl) d_X_init_131 (fun H locs hP hD hS => ?_)
  have hP : va_P D classes [(h, .inr (0, [.ref q0, .int 0, .ref q2, .ref q3, .int 0, .ref q5, .ref q6, .ref q7, .ref q8, .ref q9, .int 0, .ref q11, .int 0, .ref q13, .ref q14, .ref q15, .ref q16, .int 0, .ref q18, .int 0, .ref q20, .int 0, .int 0, .ref q23])), (q0, .inl (cI, 12, .inl (fun _ => 0))), (q2, .inl (cI, 3, .inl (fun _ => 0))), (q3, .inl (cI, 9, .inl (fun _ => 0))), (q5, .inl (cI, 10, .inl (fun _ => 0))), (q6, .inl (cZ, 10, .inl (fun _ => 0))), (q7, .inl (cZ, 10, .inl (fun _ => 0))), (q8, .inl (cI, 30, .inl (fun _ => 0))), (q9, .inl (cI, 90, .inl (fun _ => 0))), (q11, .inl (cI, 12, .inl (fun _ => 0))), (q13, .inl (cI, 1160, .inl (fun _ => 0))), (q14, .inl (cI, 145, .inl (fun _ => 0))), (q15, .inl (cI, 12, .inl (fun _ => 0))), (q16, .inl (cI, 13, .inl (fun _ => 0))), (q18, .inl (cI, 16, .inl (fun _ => 0))), (q20, .inl (cI, 20, .inl (fun _ => 0))), (q23, .inl (cI, 440, .inl (fun _ => 0)))] H := hP
  have hD : va_D A [(h, .inr (0, [.ref q0, .int 0, .ref q2, .ref q3, .int 0, .ref q5, .ref q6, .ref q7, .ref q8, .ref q9, .int 0, .ref q11, .int 0, .ref q13, .ref q14, .ref q15, .ref q16, .int 0, .ref q18, .int 0, .ref q20, .int 0, .int 0, .ref q23])), (q0, .inl (cI, 12, .inl (fun _ => 0))), (q2, .inl (cI, 3, .inl (fun _ => 0))), (q3, .inl (cI, 9, .inl (fun _ => 0))), (q5, .inl (cI, 10, .inl (fun _ => 0))), (q6, .inl (cZ, 10, .inl (fun _ => 0))), (q7, .inl (cZ, 10, .inl (fun _ => 0))), (q8, .inl (cI, 30, .inl (fun _ => 0))), (q9, .inl (cI, 90, .inl (fun _ => 0))), (q11, .inl (cI, 12, .inl (fun _ => 0))), (q13, .inl (cI, 1160, .inl (fun _ => 0))), (q14, .inl (cI, 145, .inl (fun _ => 0))), (q15, .inl (cI, 12, .inl (fun _ => 0))), (q16, .inl (cI, 13, .inl (fun _ => 0))), (q18, .inl (cI, 16, .inl (fun _ => 0))), (q20, .inl (cI, 20, .inl (fun _ => 0))), (q23, .inl (cI, 440, .inl (fun _ => 0)))] := hD
  refine lv_aload_n hx hb d_X_init_134 rfl (lv_at hl 0 rfl) ?_
  refine lv_iconst (v := 1) hx hb d_X_init_135 (by decide) ?_
  refine va_put (D := D) (ci := 0) (v := .int 1) (ty := .int) (C := R_X) (T := F_X) (N := 24) hx hb hts i_X t_X t_X_ok n_X hown hK hP hD hS 0 rfl rfl 12 (by decide) (hts _ fl_X_12) (fun _ h9 => h9) rfl (t_X_ok 12 (by decide)) rfl rfl (Nat.le_of_ble_eq_true rfl) d_X_init_136 (fun H locs hP hD hS => ?_)
  refine lv_aload_n hx hb d_X_init_139 rfl (lv_at hl 0 rfl) ?_
  refine va_get (D := D) (ci := 0) (v := .ref q14) (C := R_X) (T := F_X) (N := 24) hx hb hts i_X hown hK hP 0 rfl rfl 14 (by decide) (hts _ fl_X_14) (fun _ h9 => h9) rfl d_X_init_140 ?_
  refine lv_iconst (v := 0) hx hb d_X_init_143 (by decide) ?_
  refine lv_iconst (v := -1) hx hb d_X_init_144 (by decide) ?_
  refine va_iast (cA := cI) (n := 145) (f := fun _ => 0) hx hb hK hP hD hS 11 0 rfl rfl (vp_in_nI (n := 0) (by decide) (by decide)) d_X_init_145 (fun H locs hP hD hS => ?_)
  have hP9 : va_P D classes (zw 0 h (fun k => match k with | 0 => q0 | 2 => q2 | 3 => q3 | 5 => q5 | 6 => q6 | 7 => q7 | 8 => q8 | 9 => q9 | 11 => q11 | 13 => q13 | 14 => q14 | 15 => q15 | 16 => q16 | 18 => q18 | 20 => q20 | 23 => q23 | _ => 0) cI cZ g0_X) H := hP
  have hD9 : va_D A (zw 0 h (fun k => match k with | 0 => q0 | 2 => q2 | 3 => q3 | 5 => q5 | 6 => q6 | 7 => q7 | 8 => q8 | 9 => q9 | 11 => q11 | 13 => q13 | 14 => q14 | 15 => q15 | 16 => q16 | 18 => q18 | 20 => q20 | 23 => q23 | _ => 0) cI cZ g0_X) := hD
  exact W.vret hx hb hr (fun t ht hW => ⟨⟨g0_X, rfl, rfl, fun k => match k with | 0 => q0 | 2 => q2 | 3 => q3 | 5 => q5 | 6 => q6 | 7 => q7 | 8 => q8 | 9 => q9 | 11 => q11 | 13 => q13 | 14 => q14 | 15 => q15 | 16 => q16 | 18 => q18 | 20 => q20 | 23 => q23 | _ => 0, cI, cZ, by rw [ht]; exact hP9, va_K.moved hW.alike hK, hD9⟩, hS.F ht⟩) hS.2.2 d_X_init_146
abbrev nf_M : List Value := [.null, .int 0, .null, .null, .int 0, .null, .null, .null, .null, .null, .int 0, .null, .null, .null, .null, .int 0, .null, .int 0, .int 0]
set_option maxHeartbeats 4000000 in
set_option maxRecDepth 100000 in
theorem c_M_init (l : Launch) (D : va_G) (h sz : Nat) : Met l y_M_init (.code y_M_init b_M_init 1 none :: gt_tbl) ({ frames := 1, cells := 13, slots := 390, locals := 12 }) (va_Pc [.ref h] (fun U => U.heap.size = sz ∧ va_P D classes [(h, .inr (1, nf_M))] U.heap ∧ va_K D classes [] U ∧ va_D (fun _ => True) [(h, .inr (1, nf_M))])) (va_Qv (fun u : Sg => u = g0_M) (at_Z 1 D h (va_A [(h, .inr (1, nf_M))] sz)) (va_A [(h, .inr (1, nf_M))] sz)) 13 390 (va_A [(h, .inr (1, nf_M))] sz) := by
  refine Met.ofW (cc := b_M_init) (maxL := 1) (ret := none) (by decide) rfl ?_
  intro p e s m args below meth c s₁ B hml hv
  obtain ⟨rfl, hsz, hP, hK, hD0⟩ := hv
  have hx := B.exec
  have hb := B.bytes
  have hr := B.returns
  have hts0 := atoms_spec (ws := Cond.code y_M_init b_M_init 1 none :: gt_tbl) B.pre
  have hts : ∀ w ∈ gt_tbl, w.before [Value.ref h].toArray s = true := fun w hw => hts0 w (List.mem_cons_of_mem _ hw)
  have hown : s.vm.findClass R_M = some m.cls := findClass_of_methodNamed B.named
  have hlocks := B.notSynchronized
  have hin : meth.name = "<init>" := (name_of_methodNamed B.named B.method).1
  subst hsz
  have hD := hD0.self (sz := s.heap.size)
  generalize hAe : va_A [(h, .inr (1, nf_M))] s.heap.size = A at hD ⊢
  have hA : ∀ q : Nat, s.heap.size ≤ q → A q := fun q h => by rw [← hAe]; exact Or.inr h
  have hS : va_S A s.heap s.heap [] := va_S.rf
  have hP : va_P D classes [(h, .inr (1, nf_M))] s.heap := hP
  have hl := lv_entry ([.ref h]) (n := 1) (Nat.le_of_ble_eq_true rfl)
  rw [lg_entry_eq]
  generalize (lg_sl ([.ref h]) ++ List.replicate (1 - (lg_sl ([.ref h])).length) Slot.unset).toArray = ls at hl ⊢
  have hl : lv_has ls 1 [(0, .ref h)] := hl
  refine lv_aload_n hx hb d_M_init_0 rfl (lv_at hl 0 rfl) ?_
  refine W.objInit hx hb hown (hts _ mlo_M) (hts _ ino) (hts _ coo) rfl (by rw [hml]; exact hl.1) rfl d_M_init_1 (Nat.le_of_ble_eq_true rfl) (Nat.le_of_ble_eq_true rfl) ?_
  refine W.eq (g2 := F0 m 4 ls []) rfl ?_
  refine lv_aload_n hx hb d_M_init_4 rfl (lv_at hl 0 rfl) ?_
  refine lv_bipush (v := 12) hx hb d_M_init_5 (by decide) ?_
  refine va_newa (atype := .int) (ty := .int) (N' := 12) (a0 := (12, .inl (fun _ => 0))) hx hb (hts _ arr_i) rfl hK hP hD hS hA (fun _ => rfl) (by decide) (by decide) (by decide) (Nat.le_of_ble_eq_true rfl) (Nat.le_of_ble_eq_true rfl) d_M_init_7 (fun q0 cI H hK hP hD hS => ?_)
  have hK : va_K D classes [(cI, .int)] s := hK
  have hP : va_P D classes [(h, .inr (1, [.null, .int 0, .null, .null, .int 0, .null, .null, .null, .null, .null, .int 0, .null, .null, .null, .null, .int 0, .null, .int 0, .int 0])), (q0, .inl (cI, 12, .inl (fun _ => 0)))] H := hP
  have hD : va_D A [(h, .inr (1, [.null, .int 0, .null, .null, .int 0, .null, .null, .null, .null, .null, .int 0, .null, .null, .null, .null, .int 0, .null, .int 0, .int 0])), (q0, .inl (cI, 12, .inl (fun _ => 0)))] := hD
  refine W.widen (k := 1) (n := 12) (by omega) (by omega) ?_
  refine va_putF (D := D) (ci := 1) (v := .ref q0) (ty := .array .int) (C := R_M) (T := F_M) (N := 19) hx hb hts i_M t_M t_M_ok n_M hown hK hP hD hS 0 rfl rfl 0 (by decide) (hts _ fl_M_0) (fun _ h9 => h9) rfl hin rfl (t_M_ok 0 (by decide)) rfl rfl (Nat.le_of_ble_eq_true rfl) d_M_init_9 (fun H locs hP hD hS => ?_)
  have hP : va_P D classes [(h, .inr (1, [.ref q0, .int 0, .null, .null, .int 0, .null, .null, .null, .null, .null, .int 0, .null, .null, .null, .null, .int 0, .null, .int 0, .int 0])), (q0, .inl (cI, 12, .inl (fun _ => 0)))] H := hP
  have hD : va_D A [(h, .inr (1, [.ref q0, .int 0, .null, .null, .int 0, .null, .null, .null, .null, .null, .int 0, .null, .null, .null, .null, .int 0, .null, .int 0, .int 0])), (q0, .inl (cI, 12, .inl (fun _ => 0)))] := hD
  refine lv_aload_n hx hb d_M_init_12 rfl (lv_at hl 0 rfl) ?_
  refine lv_bipush (v := 9) hx hb d_M_init_13 (by decide) ?_
  refine va_newa (atype := .int) (ty := .int) (N' := 9) (a0 := (9, .inl (fun _ => 0))) hx hb (hts _ arr_i) rfl hK hP hD hS hA (fun _ => rfl) (by decide) (by decide) (by decide) (Nat.le_of_ble_eq_true rfl) (Nat.le_of_ble_eq_true rfl) d_M_init_15 (fun q2 cA H hK hP hD hS => ?_)
  have hK : va_K D classes [(cI, .int), (cA, .int)] s := hK
  have eA : cI = cA := k_same (by first | exact Or.inl rfl | exact Or.inr rfl) hK 0 1 rfl rfl
  subst eA
  have hK := hK.sub (tys' := [(cI, .int)]) [0] rfl
  have hP : va_P D classes [(h, .inr (1, [.ref q0, .int 0, .null, .null, .int 0, .null, .null, .null, .null, .null, .int 0, .null, .null, .null, .null, .int 0, .null, .int 0, .int 0])), (q0, .inl (cI, 12, .inl (fun _ => 0))), (q2, .inl (cI, 9, .inl (fun _ => 0)))] H := hP
  have hD : va_D A [(h, .inr (1, [.ref q0, .int 0, .null, .null, .int 0, .null, .null, .null, .null, .null, .int 0, .null, .null, .null, .null, .int 0, .null, .int 0, .int 0])), (q0, .inl (cI, 12, .inl (fun _ => 0))), (q2, .inl (cI, 9, .inl (fun _ => 0)))] := hD
  refine W.widen (k := 2) (n := 21) (by omega) (by omega) ?_
  refine va_putF (D := D) (ci := 1) (v := .ref q2) (ty := .array .int) (C := R_M) (T := F_M) (N := 19) hx hb hts i_M t_M t_M_ok n_M hown hK hP hD hS 0 rfl rfl 2 (by decide) (hts _ fl_M_2) (fun _ h9 => h9) rfl hin rfl (t_M_ok 2 (by decide)) rfl rfl (Nat.le_of_ble_eq_true rfl) d_M_init_17 (fun H locs hP hD hS => ?_)
  have hP : va_P D classes [(h, .inr (1, [.ref q0, .int 0, .ref q2, .null, .int 0, .null, .null, .null, .null, .null, .int 0, .null, .null, .null, .null, .int 0, .null, .int 0, .int 0])), (q0, .inl (cI, 12, .inl (fun _ => 0))), (q2, .inl (cI, 9, .inl (fun _ => 0)))] H := hP
  have hD : va_D A [(h, .inr (1, [.ref q0, .int 0, .ref q2, .null, .int 0, .null, .null, .null, .null, .null, .int 0, .null, .null, .null, .null, .int 0, .null, .int 0, .int 0])), (q0, .inl (cI, 12, .inl (fun _ => 0))), (q2, .inl (cI, 9, .inl (fun _ => 0)))] := hD
  refine lv_aload_n hx hb d_M_init_20 rfl (lv_at hl 0 rfl) ?_
  refine lv_iconst (v := 3) hx hb d_M_init_21 (by decide) ?_
  refine va_newa (atype := .int) (ty := .int) (N' := 3) (a0 := (3, .inl (fun _ => 0))) hx hb (hts _ arr_i) rfl hK hP hD hS hA (fun _ => rfl) (by decide) (by decide) (by decide) (Nat.le_of_ble_eq_true rfl) (Nat.le_of_ble_eq_true rfl) d_M_init_22 (fun q3 cA H hK hP hD hS => ?_)
  have hK : va_K D classes [(cI, .int), (cA, .int)] s := hK
  have eA : cI = cA := k_same (by first | exact Or.inl rfl | exact Or.inr rfl) hK 0 1 rfl rfl
  subst eA
  have hK := hK.sub (tys' := [(cI, .int)]) [0] rfl
  have hP : va_P D classes [(h, .inr (1, [.ref q0, .int 0, .ref q2, .null, .int 0, .null, .null, .null, .null, .null, .int 0, .null, .null, .null, .null, .int 0, .null, .int 0, .int 0])), (q0, .inl (cI, 12, .inl (fun _ => 0))), (q2, .inl (cI, 9, .inl (fun _ => 0))), (q3, .inl (cI, 3, .inl (fun _ => 0)))] H := hP
  have hD : va_D A [(h, .inr (1, [.ref q0, .int 0, .ref q2, .null, .int 0, .null, .null, .null, .null, .null, .int 0, .null, .null, .null, .null, .int 0, .null, .int 0, .int 0])), (q0, .inl (cI, 12, .inl (fun _ => 0))), (q2, .inl (cI, 9, .inl (fun _ => 0))), (q3, .inl (cI, 3, .inl (fun _ => 0)))] := hD
  refine W.widen (k := 3) (n := 24) (by omega) (by omega) ?_
  refine va_putF (D := D) (ci := 1) (v := .ref q3) (ty := .array .int) (C := R_M) (T := F_M) (N := 19) hx hb hts i_M t_M t_M_ok n_M hown hK hP hD hS 0 rfl rfl 3 (by decide) (hts _ fl_M_3) (fun _ h9 => h9) rfl hin rfl (t_M_ok 3 (by decide)) rfl rfl (Nat.le_of_ble_eq_true rfl) d_M_init_24 (fun H locs hP hD hS => ?_)
  have hP : va_P D classes [(h, .inr (1, [.ref q0, .int 0, .ref q2, .ref q3, .int 0, .null, .null, .null, .null, .null, .int 0, .null, .null, .null, .null, .int 0, .null, .int 0, .int 0])), (q0, .inl (cI, 12, .inl (fun _ => 0))), (q2, .inl (cI, 9, .inl (fun _ => 0))), (q3, .inl (cI, 3, .inl (fun _ => 0)))] H := hP
  have hD : va_D A [(h, .inr (1, [.ref q0, .int 0, .ref q2, .ref q3, .int 0, .null, .null, .null, .null, .null, .int 0, .null, .null, .null, .null, .int 0, .null, .int 0, .int 0])), (q0, .inl (cI, 12, .inl (fun _ => 0))), (q2, .inl (cI, 9, .inl (fun _ => 0))), (q3, .inl (cI, 3, .inl (fun _ => 0)))] := hD
  refine lv_aload_n hx hb d_M_init_27 rfl (lv_at hl 0 rfl) ?_
  refine lv_bipush (v := 10) hx hb d_M_init_28 (by decide) ?_
  refine va_newa (atype := .int) (ty := .int) (N' := 10) (a0 := (10, .inl (fun _ => 0))) hx hb (hts _ arr_i) rfl hK hP hD hS hA (fun _ => rfl) (by decide) (by decide) (by decide) (Nat.le_of_ble_eq_true rfl) (Nat.le_of_ble_eq_true rfl) d_M_init_30 (fun q5 cA H hK hP hD hS => ?_)
  have hK : va_K D classes [(cI, .int), (cA, .int)] s := hK
  have eA : cI = cA := k_same (by first | exact Or.inl rfl | exact Or.inr rfl) hK 0 1 rfl rfl
  subst eA
  have hK := hK.sub (tys' := [(cI, .int)]) [0] rfl
  have hP : va_P D classes [(h, .inr (1, [.ref q0, .int 0, .ref q2, .ref q3, .int 0, .null, .null, .null, .null, .null, .int 0, .null, .null, .null, .null, .int 0, .null, .int 0, .int 0])), (q0, .inl (cI, 12, .inl (fun _ => 0))), (q2, .inl (cI, 9, .inl (fun _ => 0))), (q3, .inl (cI, 3, .inl (fun _ => 0))), (q5, .inl (cI, 10, .inl (fun _ => 0)))] H := hP
  have hD : va_D A [(h, .inr (1, [.ref q0, .int 0, .ref q2, .ref q3, .int 0, .null, .null, .null, .null, .null, .int 0, .null, .null, .null, .null, .int 0, .null, .int 0, .int 0])), (q0, .inl (cI, 12, .inl (fun _ => 0))), (q2, .inl (cI, 9, .inl (fun _ => 0))), (q3, .inl (cI, 3, .inl (fun _ => 0))), (q5, .inl (cI, 10, .inl (fun _ => 0)))] := hD
  refine W.widen (k := 4) (n := 34) (by omega) (by omega) ?_
  refine va_putF (D := D) (ci := 1) (v := .ref q5) (ty := .array .int) (C := R_M) (T := F_M) (N := 19) hx hb hts i_M t_M t_M_ok n_M hown hK hP hD hS 0 rfl rfl 5 (by decide) (hts _ fl_M_5) (fun _ h9 => h9) rfl hin rfl (t_M_ok 5 (by decide)) rfl rfl (Nat.le_of_ble_eq_true rfl) d_M_init_32 (fun H locs hP hD hS => ?_)
  have hP : va_P D classes [(h, .inr (1, [.ref q0, .int 0, .ref q2, .ref q3, .int 0, .ref q5, .null, .null, .null, .null, .int 0, .null, .null, .null, .null, .int 0, .null, .int 0, .int 0])), (q0, .inl (cI, 12, .inl (fun _ => 0))), (q2, .inl (cI, 9, .inl (fun _ => 0))), (q3, .inl (cI, 3, .inl (fun _ => 0))), (q5, .inl (cI, 10, .inl (fun _ => 0)))] H := hP
  have hD : va_D A [(h, .inr (1, [.ref q0, .int 0, .ref q2, .ref q3, .int 0, .ref q5, .null, .null, .null, .null, .int 0, .null, .null, .null, .null, .int 0, .null, .int 0, .int 0])), (q0, .inl (cI, 12, .inl (fun _ => 0))), (q2, .inl (cI, 9, .inl (fun _ => 0))), (q3, .inl (cI, 3, .inl (fun _ => 0))), (q5, .inl (cI, 10, .inl (fun _ => 0)))] := hD
  refine lv_aload_n hx hb d_M_init_35 rfl (lv_at hl 0 rfl) ?_
  refine lv_bipush (v := 10) hx hb d_M_init_36 (by decide) ?_
  refine va_newa (atype := .boolean) (ty := .boolean) (N' := 10) (a0 := (10, .inl (fun _ => 0))) hx hb (hts _ arr_z) rfl hK hP hD hS hA (fun _ => rfl) (by decide) (by decide) (by decide) (Nat.le_of_ble_eq_true rfl) (Nat.le_of_ble_eq_true rfl) d_M_init_38 (fun q6 cZ H hK hP hD hS => ?_)
  have hK : va_K D classes [(cI, .int), (cZ, .boolean)] s := hK
  have hP : va_P D classes [(h, .inr (1, [.ref q0, .int 0, .ref q2, .ref q3, .int 0, .ref q5, .null, .null, .null, .null, .int 0, .null, .null, .null, .null, .int 0, .null, .int 0, .int 0])), (q0, .inl (cI, 12, .inl (fun _ => 0))), (q2, .inl (cI, 9, .inl (fun _ => 0))), (q3, .inl (cI, 3, .inl (fun _ => 0))), (q5, .inl (cI, 10, .inl (fun _ => 0))), (q6, .inl (cZ, 10, .inl (fun _ => 0)))] H := hP
  have hD : va_D A [(h, .inr (1, [.ref q0, .int 0, .ref q2, .ref q3, .int 0, .ref q5, .null, .null, .null, .null, .int 0, .null, .null, .null, .null, .int 0, .null, .int 0, .int 0])), (q0, .inl (cI, 12, .inl (fun _ => 0))), (q2, .inl (cI, 9, .inl (fun _ => 0))), (q3, .inl (cI, 3, .inl (fun _ => 0))), (q5, .inl (cI, 10, .inl (fun _ => 0))), (q6, .inl (cZ, 10, .inl (fun _ => 0)))] := hD
  refine W.widen (k := 5) (n := 44) (by omega) (by omega) ?_
  refine va_putF (D := D) (ci := 1) (v := .ref q6) (ty := .array .boolean) (C := R_M) (T := F_M) (N := 19) hx hb hts i_M t_M t_M_ok n_M hown hK hP hD hS 0 rfl rfl 6 (by decide) (hts _ fl_M_6) (fun _ h9 => h9) rfl hin rfl (t_M_ok 6 (by decide)) rfl rfl (Nat.le_of_ble_eq_true rfl) d_M_init_40 (fun H locs hP hD hS => ?_)
  have hP : va_P D classes [(h, .inr (1, [.ref q0, .int 0, .ref q2, .ref q3, .int 0, .ref q5, .ref q6, .null, .null, .null, .int 0, .null, .null, .null, .null, .int 0, .null, .int 0, .int 0])), (q0, .inl (cI, 12, .inl (fun _ => 0))), (q2, .inl (cI, 9, .inl (fun _ => 0))), (q3, .inl (cI, 3, .inl (fun _ => 0))), (q5, .inl (cI, 10, .inl (fun _ => 0))), (q6, .inl (cZ, 10, .inl (fun _ => 0)))] H := hP
  have hD : va_D A [(h, .inr (1, [.ref q0, .int 0, .ref q2, .ref q3, .int 0, .ref q5, .ref q6, .null, .null, .null, .int 0, .null, .null, .null, .null, .int 0, .null, .int 0, .int 0])), (q0, .inl (cI, 12, .inl (fun _ => 0))), (q2, .inl (cI, 9, .inl (fun _ => 0))), (q3, .inl (cI, 3, .inl (fun _ => 0))), (q5, .inl (cI, 10, .inl (fun _ => 0))), (q6, .inl (cZ, 10, .inl (fun _ => 0)))] := hD
  refine lv_aload_n hx hb d_M_init_43 rfl (lv_at hl 0 rfl) ?_
  refine lv_bipush (v := 10) hx hb d_M_init_44 (by decide) ?_
  refine va_newa (atype := .boolean) (ty := .boolean) (N' := 10) (a0 := (10, .inl (fun _ => 0))) hx hb (hts _ arr_z) rfl hK hP hD hS hA (fun _ => rfl) (by decide) (by decide) (by decide) (Nat.le_of_ble_eq_true rfl) (Nat.le_of_ble_eq_true rfl) d_M_init_46 (fun q7 cA H hK hP hD hS => ?_)
  have hK : va_K D classes [(cI, .int), (cZ, .boolean), (cA, .boolean)] s := hK
  have eA : cZ = cA := k_same (by first | exact Or.inl rfl | exact Or.inr rfl) hK 1 2 rfl rfl
  subst eA
  have hK := hK.sub (tys' := [(cI, .int), (cZ, .boolean)]) [0, 1] rfl
  have hP : va_P D classes [(h, .inr (1, [.ref q0, .int 0, .ref q2, .ref q3, .int 0, .ref q5, .ref q6, .null, .null, .null, .int 0, .null, .null, .null, .null, .int 0, .null, .int 0, .int 0])), (q0, .inl (cI, 12, .inl (fun _ => 0))), (q2, .inl (cI, 9, .inl (fun _ => 0))), (q3, .inl (cI, 3, .inl (fun _ => 0))), (q5, .inl (cI, 10, .inl (fun _ => 0))), (q6, .inl (cZ, 10, .inl (fun _ => 0))), (q7, .inl (cZ, 10, .inl (fun _ => 0)))] H := hP
  have hD : va_D A [(h, .inr (1, [.ref q0, .int 0, .ref q2, .ref q3, .int 0, .ref q5, .ref q6, .null, .null, .null, .int 0, .null, .null, .null, .null, .int 0, .null, .int 0, .int 0])), (q0, .inl (cI, 12, .inl (fun _ => 0))), (q2, .inl (cI, 9, .inl (fun _ => 0))), (q3, .inl (cI, 3, .inl (fun _ => 0))), (q5, .inl (cI, 10, .inl (fun _ => 0))), (q6, .inl (cZ, 10, .inl (fun _ => 0))), (q7, .inl (cZ, 10, .inl (fun _ => 0)))] := hD
  refine W.widen (k := 6) (n := 54) (by omega) (by omega) ?_
  refine va_putF (D := D) (ci := 1) (v := .ref q7) (ty := .array .boolean) (C := R_M) (T := F_M) (N := 19) hx hb hts i_M t_M t_M_ok n_M hown hK hP hD hS 0 rfl rfl 7 (by decide) (hts _ fl_M_7) (fun _ h9 => h9) rfl hin rfl (t_M_ok 7 (by decide)) rfl rfl (Nat.le_of_ble_eq_true rfl) d_M_init_48 (fun H locs hP hD hS => ?_)
  have hP : va_P D classes [(h, .inr (1, [.ref q0, .int 0, .ref q2, .ref q3, .int 0, .ref q5, .ref q6, .ref q7, .null, .null, .int 0, .null, .null, .null, .null, .int 0, .null, .int 0, .int 0])), (q0, .inl (cI, 12, .inl (fun _ => 0))), (q2, .inl (cI, 9, .inl (fun _ => 0))), (q3, .inl (cI, 3, .inl (fun _ => 0))), (q5, .inl (cI, 10, .inl (fun _ => 0))), (q6, .inl (cZ, 10, .inl (fun _ => 0))), (q7, .inl (cZ, 10, .inl (fun _ => 0)))] H := hP
  have hD : va_D A [(h, .inr (1, [.ref q0, .int 0, .ref q2, .ref q3, .int 0, .ref q5, .ref q6, .ref q7, .null, .null, .int 0, .null, .null, .null, .null, .int 0, .null, .int 0, .int 0])), (q0, .inl (cI, 12, .inl (fun _ => 0))), (q2, .inl (cI, 9, .inl (fun _ => 0))), (q3, .inl (cI, 3, .inl (fun _ => 0))), (q5, .inl (cI, 10, .inl (fun _ => 0))), (q6, .inl (cZ, 10, .inl (fun _ => 0))), (q7, .inl (cZ, 10, .inl (fun _ => 0)))] := hD
  refine lv_aload_n hx hb d_M_init_51 rfl (lv_at hl 0 rfl) ?_
  refine lv_bipush (v := 90) hx hb d_M_init_52 (by decide) ?_
  refine va_newa (atype := .int) (ty := .int) (N' := 90) (a0 := (90, .inl (fun _ => 0))) hx hb (hts _ arr_i) rfl hK hP hD hS hA (fun _ => rfl) (by decide) (by decide) (by decide) (Nat.le_of_ble_eq_true rfl) (Nat.le_of_ble_eq_true rfl) d_M_init_54 (fun q8 cA H hK hP hD hS => ?_)
  have hK : va_K D classes [(cI, .int), (cZ, .boolean), (cA, .int)] s := hK
  have eA : cI = cA := k_same (by first | exact Or.inl rfl | exact Or.inr rfl) hK 0 2 rfl rfl
  subst eA
  have hK := hK.sub (tys' := [(cI, .int), (cZ, .boolean)]) [0, 1] rfl
  have hP : va_P D classes [(h, .inr (1, [.ref q0, .int 0, .ref q2, .ref q3, .int 0, .ref q5, .ref q6, .ref q7, .null, .null, .int 0, .null, .null, .null, .null, .int 0, .null, .int 0, .int 0])), (q0, .inl (cI, 12, .inl (fun _ => 0))), (q2, .inl (cI, 9, .inl (fun _ => 0))), (q3, .inl (cI, 3, .inl (fun _ => 0))), (q5, .inl (cI, 10, .inl (fun _ => 0))), (q6, .inl (cZ, 10, .inl (fun _ => 0))), (q7, .inl (cZ, 10, .inl (fun _ => 0))), (q8, .inl (cI, 90, .inl (fun _ => 0)))] H := hP
  have hD : va_D A [(h, .inr (1, [.ref q0, .int 0, .ref q2, .ref q3, .int 0, .ref q5, .ref q6, .ref q7, .null, .null, .int 0, .null, .null, .null, .null, .int 0, .null, .int 0, .int 0])), (q0, .inl (cI, 12, .inl (fun _ => 0))), (q2, .inl (cI, 9, .inl (fun _ => 0))), (q3, .inl (cI, 3, .inl (fun _ => 0))), (q5, .inl (cI, 10, .inl (fun _ => 0))), (q6, .inl (cZ, 10, .inl (fun _ => 0))), (q7, .inl (cZ, 10, .inl (fun _ => 0))), (q8, .inl (cI, 90, .inl (fun _ => 0)))] := hD
  refine W.widen (k := 7) (n := 144) (by omega) (by omega) ?_
  refine va_putF (D := D) (ci := 1) (v := .ref q8) (ty := .array .int) (C := R_M) (T := F_M) (N := 19) hx hb hts i_M t_M t_M_ok n_M hown hK hP hD hS 0 rfl rfl 8 (by decide) (hts _ fl_M_8) (fun _ h9 => h9) rfl hin rfl (t_M_ok 8 (by decide)) rfl rfl (Nat.le_of_ble_eq_true rfl) d_M_init_56 (fun H locs hP hD hS => ?_)
  have hP : va_P D classes [(h, .inr (1, [.ref q0, .int 0, .ref q2, .ref q3, .int 0, .ref q5, .ref q6, .ref q7, .ref q8, .null, .int 0, .null, .null, .null, .null, .int 0, .null, .int 0, .int 0])), (q0, .inl (cI, 12, .inl (fun _ => 0))), (q2, .inl (cI, 9, .inl (fun _ => 0))), (q3, .inl (cI, 3, .inl (fun _ => 0))), (q5, .inl (cI, 10, .inl (fun _ => 0))), (q6, .inl (cZ, 10, .inl (fun _ => 0))), (q7, .inl (cZ, 10, .inl (fun _ => 0))), (q8, .inl (cI, 90, .inl (fun _ => 0)))] H := hP
  have hD : va_D A [(h, .inr (1, [.ref q0, .int 0, .ref q2, .ref q3, .int 0, .ref q5, .ref q6, .ref q7, .ref q8, .null, .int 0, .null, .null, .null, .null, .int 0, .null, .int 0, .int 0])), (q0, .inl (cI, 12, .inl (fun _ => 0))), (q2, .inl (cI, 9, .inl (fun _ => 0))), (q3, .inl (cI, 3, .inl (fun _ => 0))), (q5, .inl (cI, 10, .inl (fun _ => 0))), (q6, .inl (cZ, 10, .inl (fun _ => 0))), (q7, .inl (cZ, 10, .inl (fun _ => 0))), (q8, .inl (cI, 90, .inl (fun _ => 0)))] := hD
  refine lv_aload_n hx hb d_M_init_59 rfl (lv_at hl 0 rfl) ?_
  refine lv_bipush (v := 30) hx hb d_M_init_60 (by decide) ?_
  refine va_newa (atype := .int) (ty := .int) (N' := 30) (a0 := (30, .inl (fun _ => 0))) hx hb (hts _ arr_i) rfl hK hP hD hS hA (fun _ => rfl) (by decide) (by decide) (by decide) (Nat.le_of_ble_eq_true rfl) (Nat.le_of_ble_eq_true rfl) d_M_init_62 (fun q9 cA H hK hP hD hS => ?_)
  have hK : va_K D classes [(cI, .int), (cZ, .boolean), (cA, .int)] s := hK
  have eA : cI = cA := k_same (by first | exact Or.inl rfl | exact Or.inr rfl) hK 0 2 rfl rfl
  subst eA
  have hK := hK.sub (tys' := [(cI, .int), (cZ, .boolean)]) [0, 1] rfl
  have hP : va_P D classes [(h, .inr (1, [.ref q0, .int 0, .ref q2, .ref q3, .int 0, .ref q5, .ref q6, .ref q7, .ref q8, .null, .int 0, .null, .null, .null, .null, .int 0, .null, .int 0, .int 0])), (q0, .inl (cI, 12, .inl (fun _ => 0))), (q2, .inl (cI, 9, .inl (fun _ => 0))), (q3, .inl (cI, 3, .inl (fun _ => 0))), (q5, .inl (cI, 10, .inl (fun _ => 0))), (q6, .inl (cZ, 10, .inl (fun _ => 0))), (q7, .inl (cZ, 10, .inl (fun _ => 0))), (q8, .inl (cI, 90, .inl (fun _ => 0))), (q9, .inl (cI, 30, .inl (fun _ => 0)))] H := hP
  have hD : va_D A [(h, .inr (1, [.ref q0, .int 0, .ref q2, .ref q3, .int 0, .ref q5, .ref q6, .ref q7, .ref q8, .null, .int 0, .null, .null, .null, .null, .int 0, .null, .int 0, .int 0])), (q0, .inl (cI, 12, .inl (fun _ => 0))), (q2, .inl (cI, 9, .inl (fun _ => 0))), (q3, .inl (cI, 3, .inl (fun _ => 0))), (q5, .inl (cI, 10, .inl (fun _ => 0))), (q6, .inl (cZ, 10, .inl (fun _ => 0))), (q7, .inl (cZ, 10, .inl (fun _ => 0))), (q8, .inl (cI, 90, .inl (fun _ => 0))), (q9, .inl (cI, 30, .inl (fun _ => 0)))] := hD
  refine W.widen (k := 8) (n := 174) (by omega) (by omega) ?_
  refine va_putF (D := D) (ci := 1) (v := .ref q9) (ty := .array .int) (C := R_M) (T := F_M) (N := 19) hx hb hts i_M t_M t_M_ok n_M hown hK hP hD hS 0 rfl rfl 9 (by decide) (hts _ fl_M_9) (fun _ h9 => h9) rfl hin rfl (t_M_ok 9 (by decide)) rfl rfl (Nat.le_of_ble_eq_true rfl) d_M_init_64 (fun H locs hP hD hS => ?_)
  have hP : va_P D classes [(h, .inr (1, [.ref q0, .int 0, .ref q2, .ref q3, .int 0, .ref q5, .ref q6, .ref q7, .ref q8, .ref q9, .int 0, .null, .null, .null, .null, .int 0, .null, .int 0, .int 0])), (q0, .inl (cI, 12, .inl (fun _ => 0))), (q2, .inl (cI, 9, .inl (fun _ => 0))), (q3, .inl (cI, 3, .inl (fun _ => 0))), (q5, .inl (cI, 10, .inl (fun _ => 0))), (q6, .inl (cZ, 10, .inl (fun _ => 0))), (q7, .inl (cZ, 10, .inl (fun _ => 0))), (q8, .inl (cI, 90, .inl (fun _ => 0))), (q9, .inl (cI, 30, .inl (fun _ => 0)))] H := hP
  have hD : va_D A [(h, .inr (1, [.ref q0, .int 0, .ref q2, .ref q3, .int 0, .ref q5, .ref q6, .ref q7, .ref q8, .ref q9, .int 0, .null, .null, .null, .null, .int 0, .null, .int 0, .int 0])), (q0, .inl (cI, 12, .inl (fun _ => 0))), (q2, .inl (cI, 9, .inl (fun _ => 0))), (q3, .inl (cI, 3, .inl (fun _ => 0))), (q5, .inl (cI, 10, .inl (fun _ => 0))), (q6, .inl (cZ, 10, .inl (fun _ => 0))), (q7, .inl (cZ, 10, .inl (fun _ => 0))), (q8, .inl (cI, 90, .inl (fun _ => 0))), (q9, .inl (cI, 30, .inl (fun _ => 0)))] := hD
  refine lv_aload_n hx hb d_M_init_67 rfl (lv_at hl 0 rfl) ?_
  refine lv_bipush (v := 12) hx hb d_M_init_68 (by decide) ?_
  refine va_newa (atype := .int) (ty := .int) (N' := 12) (a0 := (12, .inl (fun _ => 0))) hx hb (hts _ arr_i) rfl hK hP hD hS hA (fun _ => rfl) (by decide) (by decide) (by decide) (Nat.le_of_ble_eq_true rfl) (Nat.le_of_ble_eq_true rfl) d_M_init_70 (fun q11 cA H hK hP hD hS => ?_)
  have hK : va_K D classes [(cI, .int), (cZ, .boolean), (cA, .int)] s := hK
  have eA : cI = cA := k_same (by first | exact Or.inl rfl | exact Or.inr rfl) hK 0 2 rfl rfl
  subst eA
  have hK := hK.sub (tys' := [(cI, .int), (cZ, .boolean)]) [0, 1] rfl
  have hP : va_P D classes [(h, .inr (1, [.ref q0, .int 0, .ref q2, .ref q3, .int 0, .ref q5, .ref q6, .ref q7, .ref q8, .ref q9, .int 0, .null, .null, .null, .null, .int 0, .null, .int 0, .int 0])), (q0, .inl (cI, 12, .inl (fun _ => 0))), (q2, .inl (cI, 9, .inl (fun _ => 0))), (q3, .inl (cI, 3, .inl (fun _ => 0))), (q5, .inl (cI, 10, .inl (fun _ => 0))), (q6, .inl (cZ, 10, .inl (fun _ => 0))), (q7, .inl (cZ, 10, .inl (fun _ => 0))), (q8, .inl (cI, 90, .inl (fun _ => 0))), (q9, .inl (cI, 30, .inl (fun _ => 0))), (q11, .inl (cI, 12, .inl (fun _ => 0)))] H := hP
  have hD : va_D A [(h, .inr (1, [.ref q0, .int 0, .ref q2, .ref q3, .int 0, .ref q5, .ref q6, .ref q7, .ref q8, .ref q9, .int 0, .null, .null, .null, .null, .int 0, .null, .int 0, .int 0])), (q0, .inl (cI, 12, .inl (fun _ => 0))), (q2, .inl (cI, 9, .inl (fun _ => 0))), (q3, .inl (cI, 3, .inl (fun _ => 0))), (q5, .inl (cI, 10, .inl (fun _ => 0))), (q6, .inl (cZ, 10, .inl (fun _ => 0))), (q7, .inl (cZ, 10, .inl (fun _ => 0))), (q8, .inl (cI, 90, .inl (fun _ => 0))), (q9, .inl (cI, 30, .inl (fun _ => 0))), (q11, .inl (cI, 12, .inl (fun _ => 0)))] := hD
  refine W.widen (k := 9) (n := 186) (by omega) (by omega) ?_
  refine va_putF (D := D) (ci := 1) (v := .ref q11) (ty := .array .int) (C := R_M) (T := F_M) (N := 19) hx hb hts i_M t_M t_M_ok n_M hown hK hP hD hS 0 rfl rfl 11 (by decide) (hts _ fl_M_11) (fun _ h9 => h9) rfl hin rfl (t_M_ok 11 (by decide)) rfl rfl (Nat.le_of_ble_eq_true rfl) d_M_init_72 (fun H locs hP hD hS => ?_)
  have hP : va_P D classes [(h, .inr (1, [.ref q0, .int 0, .ref q2, .ref q3, .int 0, .ref q5, .ref q6, .ref q7, .ref q8, .ref q9, .int 0, .ref q11, .null, .null, .null, .int 0, .null, .int 0, .int 0])), (q0, .inl (cI, 12, .inl (fun _ => 0))), (q2, .inl (cI, 9, .inl (fun _ => 0))), (q3, .inl (cI, 3, .inl (fun _ => 0))), (q5, .inl (cI, 10, .inl (fun _ => 0))), (q6, .inl (cZ, 10, .inl (fun _ => 0))), (q7, .inl (cZ, 10, .inl (fun _ => 0))), (q8, .inl (cI, 90, .inl (fun _ => 0))), (q9, .inl (cI, 30, .inl (fun _ => 0))), (q11, .inl (cI, 12, .inl (fun _ => 0)))] H := hP
  have hD : va_D A [(h, .inr (1, [.ref q0, .int 0, .ref q2, .ref q3, .int 0, .ref q5, .ref q6, .ref q7, .ref q8, .ref q9, .int 0, .ref q11, .null, .null, .null, .int 0, .null, .int 0, .int 0])), (q0, .inl (cI, 12, .inl (fun _ => 0))), (q2, .inl (cI, 9, .inl (fun _ => 0))), (q3, .inl (cI, 3, .inl (fun _ => 0))), (q5, .inl (cI, 10, .inl (fun _ => 0))), (q6, .inl (cZ, 10, .inl (fun _ => 0))), (q7, .inl (cZ, 10, .inl (fun _ => 0))), (q8, .inl (cI, 90, .inl (fun _ => 0))), (q9, .inl (cI, 30, .inl (fun _ => 0))), (q11, .inl (cI, 12, .inl (fun _ => 0)))] := hD
  refine lv_aload_n hx hb d_M_init_75 rfl (lv_at hl 0 rfl) ?_
  refine lv_bipush (v := 12) hx hb d_M_init_76 (by decide) ?_
  refine va_newa (atype := .int) (ty := .int) (N' := 12) (a0 := (12, .inl (fun _ => 0))) hx hb (hts _ arr_i) rfl hK hP hD hS hA (fun _ => rfl) (by decide) (by decide) (by decide) (Nat.le_of_ble_eq_true rfl) (Nat.le_of_ble_eq_true rfl) d_M_init_78 (fun q12 cA H hK hP hD hS => ?_)
  have hK : va_K D classes [(cI, .int), (cZ, .boolean), (cA, .int)] s := hK
  have eA : cI = cA := k_same (by first | exact Or.inl rfl | exact Or.inr rfl) hK 0 2 rfl rfl
  subst eA
  have hK := hK.sub (tys' := [(cI, .int), (cZ, .boolean)]) [0, 1] rfl
  have hP : va_P D classes [(h, .inr (1, [.ref q0, .int 0, .ref q2, .ref q3, .int 0, .ref q5, .ref q6, .ref q7, .ref q8, .ref q9, .int 0, .ref q11, .null, .null, .null, .int 0, .null, .int 0, .int 0])), (q0, .inl (cI, 12, .inl (fun _ => 0))), (q2, .inl (cI, 9, .inl (fun _ => 0))), (q3, .inl (cI, 3, .inl (fun _ => 0))), (q5, .inl (cI, 10, .inl (fun _ => 0))), (q6, .inl (cZ, 10, .inl (fun _ => 0))), (q7, .inl (cZ, 10, .inl (fun _ => 0))), (q8, .inl (cI, 90, .inl (fun _ => 0))), (q9, .inl (cI, 30, .inl (fun _ => 0))), (q11, .inl (cI, 12, .inl (fun _ => 0))), (q12, .inl (cI, 12, .inl (fun _ => 0)))] H := hP
  have hD : va_D A [(h, .inr (1, [.ref q0, .int 0, .ref q2, .ref q3, .int 0, .ref q5, .ref q6, .ref q7, .ref q8, .ref q9, .int 0, .ref q11, .null, .null, .null, .int 0, .null, .int 0, .int 0])), (q0, .inl (cI, 12, .inl (fun _ => 0))), (q2, .inl (cI, 9, .inl (fun _ => 0))), (q3, .inl (cI, 3, .inl (fun _ => 0))), (q5, .inl (cI, 10, .inl (fun _ => 0))), (q6, .inl (cZ, 10, .inl (fun _ => 0))), (q7, .inl (cZ, 10, .inl (fun _ => 0))), (q8, .inl (cI, 90, .inl (fun _ => 0))), (q9, .inl (cI, 30, .inl (fun _ => 0))), (q11, .inl (cI, 12, .inl (fun _ => 0))), (q12, .inl (cI, 12, .inl (fun _ => 0)))] := hD
  refine W.widen (k := 10) (n := 198) (by omega) (by omega) ?_
  refine va_putF (D := D) (ci := 1) (v := .ref q12) (ty := .array .int) (C := R_M) (T := F_M) (N := 19) hx hb hts i_M t_M t_M_ok n_M hown hK hP hD hS 0 rfl rfl 12 (by decide) (hts _ fl_M_12) (fun _ h9 => h9) rfl hin rfl (t_M_ok 12 (by decide)) rfl rfl (Nat.le_of_ble_eq_true rfl) d_M_init_80 (fun H locs hP hD hS => ?_)
  have hP : va_P D classes [(h, .inr (1, [.ref q0, .int 0, .ref q2, .ref q3, .int 0, .ref q5, .ref q6, .ref q7, .ref q8, .ref q9, .int 0, .ref q11, .ref q12, .null, .null, .int 0, .null, .int 0, .int 0])), (q0, .inl (cI, 12, .inl (fun _ => 0))), (q2, .inl (cI, 9, .inl (fun _ => 0))), (q3, .inl (cI, 3, .inl (fun _ => 0))), (q5, .inl (cI, 10, .inl (fun _ => 0))), (q6, .inl (cZ, 10, .inl (fun _ => 0))), (q7, .inl (cZ, 10, .inl (fun _ => 0))), (q8, .inl (cI, 90, .inl (fun _ => 0))), (q9, .inl (cI, 30, .inl (fun _ => 0))), (q11, .inl (cI, 12, .inl (fun _ => 0))), (q12, .inl (cI, 12, .inl (fun _ => 0)))] H := hP
  have hD : va_D A [(h, .inr (1, [.ref q0, .int 0, .ref q2, .ref q3, .int 0, .ref q5, .ref q6, .ref q7, .ref q8, .ref q9, .int 0, .ref q11, .ref q12, .null, .null, .int 0, .null, .int 0, .int 0])), (q0, .inl (cI, 12, .inl (fun _ => 0))), (q2, .inl (cI, 9, .inl (fun _ => 0))), (q3, .inl (cI, 3, .inl (fun _ => 0))), (q5, .inl (cI, 10, .inl (fun _ => 0))), (q6, .inl (cZ, 10, .inl (fun _ => 0))), (q7, .inl (cZ, 10, .inl (fun _ => 0))), (q8, .inl (cI, 90, .inl (fun _ => 0))), (q9, .inl (cI, 30, .inl (fun _ => 0))), (q11, .inl (cI, 12, .inl (fun _ => 0))), (q12, .inl (cI, 12, .inl (fun _ => 0)))] := hD
  refine lv_aload_n hx hb d_M_init_83 rfl (lv_at hl 0 rfl) ?_
  refine lv_sipush (v := 144) hx hb d_M_init_84 (by decide) ?_
  refine va_newa (atype := .int) (ty := .int) (N' := 144) (a0 := (144, .inl (fun _ => 0))) hx hb (hts _ arr_i) rfl hK hP hD hS hA (fun _ => rfl) (by decide) (by decide) (by decide) (Nat.le_of_ble_eq_true rfl) (Nat.le_of_ble_eq_true rfl) d_M_init_87 (fun q13 cA H hK hP hD hS => ?_)
  have hK : va_K D classes [(cI, .int), (cZ, .boolean), (cA, .int)] s := hK
  have eA : cI = cA := k_same (by first | exact Or.inl rfl | exact Or.inr rfl) hK 0 2 rfl rfl
  subst eA
  have hK := hK.sub (tys' := [(cI, .int), (cZ, .boolean)]) [0, 1] rfl
  have hP : va_P D classes [(h, .inr (1, [.ref q0, .int 0, .ref q2, .ref q3, .int 0, .ref q5, .ref q6, .ref q7, .ref q8, .ref q9, .int 0, .ref q11, .ref q12, .null, .null, .int 0, .null, .int 0, .int 0])), (q0, .inl (cI, 12, .inl (fun _ => 0))), (q2, .inl (cI, 9, .inl (fun _ => 0))), (q3, .inl (cI, 3, .inl (fun _ => 0))), (q5, .inl (cI, 10, .inl (fun _ => 0))), (q6, .inl (cZ, 10, .inl (fun _ => 0))), (q7, .inl (cZ, 10, .inl (fun _ => 0))), (q8, .inl (cI, 90, .inl (fun _ => 0))), (q9, .inl (cI, 30, .inl (fun _ => 0))), (q11, .inl (cI, 12, .inl (fun _ => 0))), (q12, .inl (cI, 12, .inl (fun _ => 0))), (q13, .inl (cI, 144, .inl (fun _ => 0)))] H := hP
  have hD : va_D A [(h, .inr (1, [.ref q0, .int 0, .ref q2, .ref q3, .int 0, .ref q5, .ref q6, .ref q7, .ref q8, .ref q9, .int 0, .ref q11, .ref q12, .null, .null, .int 0, .null, .int 0, .int 0])), (q0, .inl (cI, 12, .inl (fun _ => 0))), (q2, .inl (cI, 9, .inl (fun _ => 0))), (q3, .inl (cI, 3, .inl (fun _ => 0))), (q5, .inl (cI, 10, .inl (fun _ => 0))), (q6, .inl (cZ, 10, .inl (fun _ => 0))), (q7, .inl (cZ, 10, .inl (fun _ => 0))), (q8, .inl (cI, 90, .inl (fun _ => 0))), (q9, .inl (cI, 30, .inl (fun _ => 0))), (q11, .inl (cI, 12, .inl (fun _ => 0))), (q12, .inl (cI, 12, .inl (fun _ => 0))), (q13, .inl (cI, 144, .inl (fun _ => 0)))] := hD
  refine W.widen (k := 11) (n := 342) (by omega) (by omega) ?_
  refine va_putF (D := D) (ci := 1) (v := .ref q13) (ty := .array .int) (C := R_M) (T := F_M) (N := 19) hx hb hts i_M t_M t_M_ok n_M hown hK hP hD hS 0 rfl rfl 13 (by decide) (hts _ fl_M_13) (fun _ h9 => h9) rfl hin rfl (t_M_ok 13 (by decide)) rfl rfl (Nat.le_of_ble_eq_true rfl) d_M_init_89 (fun H locs hP hD hS => ?_)
  have hP : va_P D classes [(h, .inr (1, [.ref q0, .int 0, .ref q2, .ref q3, .int 0, .ref q5, .ref q6, .ref q7, .ref q8, .ref q9, .int 0, .ref q11, .ref q12, .ref q13, .null, .int 0, .null, .int 0, .int 0])), (q0, .inl (cI, 12, .inl (fun _ => 0))), (q2, .inl (cI, 9, .inl (fun _ => 0))), (q3, .inl (cI, 3, .inl (fun _ => 0))), (q5, .inl (cI, 10, .inl (fun _ => 0))), (q6, .inl (cZ, 10, .inl (fun _ => 0))), (q7, .inl (cZ, 10, .inl (fun _ => 0))), (q8, .inl (cI, 90, .inl (fun _ => 0))), (q9, .inl (cI, 30, .inl (fun _ => 0))), (q11, .inl (cI, 12, .inl (fun _ => 0))), (q12, .inl (cI, 12, .inl (fun _ => 0))), (q13, .inl (cI, 144, .inl (fun _ => 0)))] H := hP
  have hD : va_D A [(h, .inr (1, [.ref q0, .int 0, .ref q2, .ref q3, .int 0, .ref q5, .ref q6, .ref q7, .ref q8, .ref q9, .int 0, .ref q11, .ref q12, .ref q13, .null, .int 0, .null, .int 0, .int 0])), (q0, .inl (cI, 12, .inl (fun _ => 0))), (q2, .inl (cI, 9, .inl (fun _ => 0))), (q3, .inl (cI, 3, .inl (fun _ => 0))), (q5, .inl (cI, 10, .inl (fun _ => 0))), (q6, .inl (cZ, 10, .inl (fun _ => 0))), (q7, .inl (cZ, 10, .inl (fun _ => 0))), (q8, .inl (cI, 90, .inl (fun _ => 0))), (q9, .inl (cI, 30, .inl (fun _ => 0))), (q11, .inl (cI, 12, .inl (fun _ => 0))), (q12, .inl (cI, 12, .inl (fun _ => 0))), (q13, .inl (cI, 144, .inl (fun _ => 0)))] := hD
  refine lv_aload_n hx hb d_M_init_92 rfl (lv_at hl 0 rfl) ?_
  refine lv_bipush (v := 24) hx hb d_M_init_93 (by decide) ?_
  refine va_newa (atype := .int) (ty := .int) (N' := 24) (a0 := (24, .inl (fun _ => 0))) hx hb (hts _ arr_i) rfl hK hP hD hS hA (fun _ => rfl) (by decide) (by decide) (by decide) (Nat.le_of_ble_eq_true rfl) (Nat.le_of_ble_eq_true rfl) d_M_init_95 (fun q14 cA H hK hP hD hS => ?_)
  have hK : va_K D classes [(cI, .int), (cZ, .boolean), (cA, .int)] s := hK
  have eA : cI = cA := k_same (by first | exact Or.inl rfl | exact Or.inr rfl) hK 0 2 rfl rfl
  subst eA
  have hK := hK.sub (tys' := [(cI, .int), (cZ, .boolean)]) [0, 1] rfl
  have hP : va_P D classes [(h, .inr (1, [.ref q0, .int 0, .ref q2, .ref q3, .int 0, .ref q5, .ref q6, .ref q7, .ref q8, .ref q9, .int 0, .ref q11, .ref q12, .ref q13, .null, .int 0, .null, .int 0, .int 0])), (q0, .inl (cI, 12, .inl (fun _ => 0))), (q2, .inl (cI, 9, .inl (fun _ => 0))), (q3, .inl (cI, 3, .inl (fun _ => 0))), (q5, .inl (cI, 10, .inl (fun _ => 0))), (q6, .inl (cZ, 10, .inl (fun _ => 0))), (q7, .inl (cZ, 10, .inl (fun _ => 0))), (q8, .inl (cI, 90, .inl (fun _ => 0))), (q9, .inl (cI, 30, .inl (fun _ => 0))), (q11, .inl (cI, 12, .inl (fun _ => 0))), (q12, .inl (cI, 12, .inl (fun _ => 0))), (q13, .inl (cI, 144, .inl (fun _ => 0))), (q14, .inl (cI, 24, .inl (fun _ => 0)))] H := hP
  have hD : va_D A [(h, .inr (1, [.ref q0, .int 0, .ref q2, .ref q3, .int 0, .ref q5, .ref q6, .ref q7, .ref q8, .ref q9, .int 0, .ref q11, .ref q12, .ref q13, .null, .int 0, .null, .int 0, .int 0])), (q0, .inl (cI, 12, .inl (fun _ => 0))), (q2, .inl (cI, 9, .inl (fun _ => 0))), (q3, .inl (cI, 3, .inl (fun _ => 0))), (q5, .inl (cI, 10, .inl (fun _ => 0))), (q6, .inl (cZ, 10, .inl (fun _ => 0))), (q7, .inl (cZ, 10, .inl (fun _ => 0))), (q8, .inl (cI, 90, .inl (fun _ => 0))), (q9, .inl (cI, 30, .inl (fun _ => 0))), (q11, .inl (cI, 12, .inl (fun _ => 0))), (q12, .inl (cI, 12, .inl (fun _ => 0))), (q13, .inl (cI, 144, .inl (fun _ => 0))), (q14, .inl (cI, 24, .inl (fun _ => 0)))] := hD
  refine W.widen (k := 12) (n := 366) (by omega) (by omega) ?_
  refine va_putF (D := D) (ci := 1) (v := .ref q14) (ty := .array .int) (C := R_M) (T := F_M) (N := 19) hx hb hts i_M t_M t_M_ok n_M hown hK hP hD hS 0 rfl rfl 14 (by decide) (hts _ fl_M_14) (fun _ h9 => h9) rfl hin rfl (t_M_ok 14 (by decide)) rfl rfl (Nat.le_of_ble_eq_true rfl) d_M_init_97 (fun H locs hP hD hS => ?_)
  have hP : va_P D classes [(h, .inr (1, [.ref q0, .int 0, .ref q2, .ref q3, .int 0, .ref q5, .ref q6, .ref q7, .ref q8, .ref q9, .int 0, .ref q11, .ref q12, .ref q13, .ref q14, .int 0, .null, .int 0, .int 0])), (q0, .inl (cI, 12, .inl (fun _ => 0))), (q2, .inl (cI, 9, .inl (fun _ => 0))), (q3, .inl (cI, 3, .inl (fun _ => 0))), (q5, .inl (cI, 10, .inl (fun _ => 0))), (q6, .inl (cZ, 10, .inl (fun _ => 0))), (q7, .inl (cZ, 10, .inl (fun _ => 0))), (q8, .inl (cI, 90, .inl (fun _ => 0))), (q9, .inl (cI, 30, .inl (fun _ => 0))), (q11, .inl (cI, 12, .inl (fun _ => 0))), (q12, .inl (cI, 12, .inl (fun _ => 0))), (q13, .inl (cI, 144, .inl (fun _ => 0))), (q14, .inl (cI, 24, .inl (fun _ => 0)))] H := hP
  have hD : va_D A [(h, .inr (1, [.ref q0, .int 0, .ref q2, .ref q3, .int 0, .ref q5, .ref q6, .ref q7, .ref q8, .ref q9, .int 0, .ref q11, .ref q12, .ref q13, .ref q14, .int 0, .null, .int 0, .int 0])), (q0, .inl (cI, 12, .inl (fun _ => 0))), (q2, .inl (cI, 9, .inl (fun _ => 0))), (q3, .inl (cI, 3, .inl (fun _ => 0))), (q5, .inl (cI, 10, .inl (fun _ => 0))), (q6, .inl (cZ, 10, .inl (fun _ => 0))), (q7, .inl (cZ, 10, .inl (fun _ => 0))), (q8, .inl (cI, 90, .inl (fun _ => 0))), (q9, .inl (cI, 30, .inl (fun _ => 0))), (q11, .inl (cI, 12, .inl (fun _ => 0))), (q12, .inl (cI, 12, .inl (fun _ => 0))), (q13, .inl (cI, 144, .inl (fun _ => 0))), (q14, .inl (cI, 24, .inl (fun _ => 0)))] := hD
  refine lv_aload_n hx hb d_M_init_100 rfl (lv_at hl 0 rfl) ?_
  refine lv_bipush (v := 24) hx hb d_M_init_101 (by decide) ?_
  refine va_newa (atype := .int) (ty := .int) (N' := 24) (a0 := (24, .inl (fun _ => 0))) hx hb (hts _ arr_i) rfl hK hP hD hS hA (fun _ => rfl) (by decide) (by decide) (by decide) (Nat.le_of_ble_eq_true rfl) (Nat.le_of_ble_eq_true rfl) d_M_init_103 (fun q16 cA H hK hP hD hS => ?_)
  have hK : va_K D classes [(cI, .int), (cZ, .boolean), (cA, .int)] s := hK
  have eA : cI = cA := k_same (by first | exact Or.inl rfl | exact Or.inr rfl) hK 0 2 rfl rfl
  subst eA
  have hK := hK.sub (tys' := [(cI, .int), (cZ, .boolean)]) [0, 1] rfl
  have hP : va_P D classes [(h, .inr (1, [.ref q0, .int 0, .ref q2, .ref q3, .int 0, .ref q5, .ref q6, .ref q7, .ref q8, .ref q9, .int 0, .ref q11, .ref q12, .ref q13, .ref q14, .int 0, .null, .int 0, .int 0])), (q0, .inl (cI, 12, .inl (fun _ => 0))), (q2, .inl (cI, 9, .inl (fun _ => 0))), (q3, .inl (cI, 3, .inl (fun _ => 0))), (q5, .inl (cI, 10, .inl (fun _ => 0))), (q6, .inl (cZ, 10, .inl (fun _ => 0))), (q7, .inl (cZ, 10, .inl (fun _ => 0))), (q8, .inl (cI, 90, .inl (fun _ => 0))), (q9, .inl (cI, 30, .inl (fun _ => 0))), (q11, .inl (cI, 12, .inl (fun _ => 0))), (q12, .inl (cI, 12, .inl (fun _ => 0))), (q13, .inl (cI, 144, .inl (fun _ => 0))), (q14, .inl (cI, 24, .inl (fun _ => 0))), (q16, .inl (cI, 24, .inl (fun _ => 0)))] H := hP
  have hD : va_D A [(h, .inr (1, [.ref q0, .int 0, .ref q2, .ref q3, .int 0, .ref q5, .ref q6, .ref q7, .ref q8, .ref q9, .int 0, .ref q11, .ref q12, .ref q13, .ref q14, .int 0, .null, .int 0, .int 0])), (q0, .inl (cI, 12, .inl (fun _ => 0))), (q2, .inl (cI, 9, .inl (fun _ => 0))), (q3, .inl (cI, 3, .inl (fun _ => 0))), (q5, .inl (cI, 10, .inl (fun _ => 0))), (q6, .inl (cZ, 10, .inl (fun _ => 0))), (q7, .inl (cZ, 10, .inl (fun _ => 0))), (q8, .inl (cI, 90, .inl (fun _ => 0))), (q9, .inl (cI, 30, .inl (fun _ => 0))), (q11, .inl (cI, 12, .inl (fun _ => 0))), (q12, .inl (cI, 12, .inl (fun _ => 0))), (q13, .inl (cI, 144, .inl (fun _ => 0))), (q14, .inl (cI, 24, .inl (fun _ => 0))), (q16, .inl (cI, 24, .inl (fun _ => 0)))] := hD
  refine W.widen (k := 13) (n := 390) (by omega) (by omega) ?_
  refine va_putF (D := D) (ci := 1) (v := .ref q16) (ty := .array .int) (C := R_M) (T := F_M) (N := 19) hx hb hts i_M t_M t_M_ok n_M hown hK hP hD hS 0 rfl rfl 16 (by decide) (hts _ fl_M_16) (fun _ h9 => h9) rfl hin rfl (t_M_ok 16 (by decide)) rfl rfl (Nat.le_of_ble_eq_true rfl) d_M_init_105 (fun H locs hP hD hS => ?_)
  have hP : va_P D classes [(h, .inr (1, [.ref q0, .int 0, .ref q2, .ref q3, .int 0, .ref q5, .ref q6, .ref q7, .ref q8, .ref q9, .int 0, .ref q11, .ref q12, .ref q13, .ref q14, .int 0, .ref q16, .int 0, .int 0])), (q0, .inl (cI, 12, .inl (fun _ => 0))), (q2, .inl (cI, 9, .inl (fun _ => 0))), (q3, .inl (cI, 3, .inl (fun _ => 0))), (q5, .inl (cI, 10, .inl (fun _ => 0))), (q6, .inl (cZ, 10, .inl (fun _ => 0))), (q7, .inl (cZ, 10, .inl (fun _ => 0))), (q8, .inl (cI, 90, .inl (fun _ => 0))), (q9, .inl (cI, 30, .inl (fun _ => 0))), (q11, .inl (cI, 12, .inl (fun _ => 0))), (q12, .inl (cI, 12, .inl (fun _ => 0))), (q13, .inl (cI, 144, .inl (fun _ => 0))), (q14, .inl (cI, 24, .inl (fun _ => 0))), (q16, .inl (cI, 24, .inl (fun _ => 0)))] H := hP
  have hD : va_D A [(h, .inr (1, [.ref q0, .int 0, .ref q2, .ref q3, .int 0, .ref q5, .ref q6, .ref q7, .ref q8, .ref q9, .int 0, .ref q11, .ref q12, .ref q13, .ref q14, .int 0, .ref q16, .int 0, .int 0])), (q0, .inl (cI, 12, .inl (fun _ => 0))), (q2, .inl (cI, 9, .inl (fun _ => 0))), (q3, .inl (cI, 3, .inl (fun _ => 0))), (q5, .inl (cI, 10, .inl (fun _ => 0))), (q6, .inl (cZ, 10, .inl (fun _ => 0))), (q7, .inl (cZ, 10, .inl (fun _ => 0))), (q8, .inl (cI, 90, .inl (fun _ => 0))), (q9, .inl (cI, 30, .inl (fun _ => 0))), (q11, .inl (cI, 12, .inl (fun _ => 0))), (q12, .inl (cI, 12, .inl (fun _ => 0))), (q13, .inl (cI, 144, .inl (fun _ => 0))), (q14, .inl (cI, 24, .inl (fun _ => 0))), (q16, .inl (cI, 24, .inl (fun _ => 0)))] := hD
  have hP9 : va_P D classes (zw 1 h (fun k => match k with | 0 => q0 | 2 => q2 | 3 => q3 | 5 => q5 | 6 => q6 | 7 => q7 | 8 => q8 | 9 => q9 | 11 => q11 | 12 => q12 | 13 => q13 | 14 => q14 | 16 => q16 | _ => 0) cI cZ g0_M) H := hP
  have hD9 : va_D A (zw 1 h (fun k => match k with | 0 => q0 | 2 => q2 | 3 => q3 | 5 => q5 | 6 => q6 | 7 => q7 | 8 => q8 | 9 => q9 | 11 => q11 | 12 => q12 | 13 => q13 | 14 => q14 | 16 => q16 | _ => 0) cI cZ g0_M) := hD
  exact W.vret hx hb hr (fun t ht hW => ⟨⟨g0_M, rfl, rfl, fun k => match k with | 0 => q0 | 2 => q2 | 3 => q3 | 5 => q5 | 6 => q6 | 7 => q7 | 8 => q8 | 9 => q9 | 11 => q11 | 12 => q12 | 13 => q13 | 14 => q14 | 16 => q16 | _ => 0, cI, cZ, by rw [ht]; exact hP9, va_K.moved hW.alike hK, hD9⟩, hS.F ht⟩) hS.2.2 d_M_init_108
def A0 : Ab := ([], fun _ => [], 0, fun _ => 0, fun _ => false, fun _ => false, fun _ _ => [], 0, fun _ => [], fun _ => 0)
theorem WA_0 : WA A0 := ⟨⟨Nat.zero_le _, fun c hc => by cases hc⟩, fun p _ => ⟨Nat.zero_le _, fun c hc => (by cases hc), fun _ c hc => (by cases hc)⟩, Nat.zero_le _, fun r hr => absurd hr (Nat.not_lt_zero r), Nat.zero_le _, fun s hs => absurd hs (Nat.not_lt_zero s)⟩
theorem JX_0 : JX g0_X A0 := by
  refine ⟨WA_0, ⟨rfl, fun i hi => absurd hi (Nat.not_lt_zero i)⟩, fun p _ => ⟨rfl, fun i hi => absurd hi (Nat.not_lt_zero i)⟩, ⟨rfl, fun r hr => absurd hr (Nat.not_lt_zero r)⟩, rfl, fun s hs => absurd hs (Nat.not_lt_zero s), fun _ => [], ⟨Nat.le_refl _, by decide, rfl, ?_, ?_, ?_⟩, Nat.le_refl _, ?_, fun s hs => absurd hs (Nat.not_lt_zero s)⟩
  · intro v c _ _ _
    exact ⟨0, rfl, Or.inl rfl⟩
  · intro u h1 h2
    have h2 : u < 1 := h2
    omega
  · intro j _ _
    rfl
  · intro v hv
    have hv : v < 1 := hv
    have : v = 0 := by omega
    subst this
    rfl
theorem JM_0 : JM g0_M A0 := ⟨WA_0, ⟨rfl, fun i hi => absurd hi (Nat.not_lt_zero i)⟩, fun p _ => ⟨rfl, fun i hi => absurd hi (Nat.not_lt_zero i)⟩, ⟨rfl, fun r hr => absurd hr (Nat.not_lt_zero r)⟩, rfl, fun s hs => absurd hs (Nat.not_lt_zero s)⟩
end
section
/-! the law's walk: both worlds side by side -/
theorem zw_map {z : Nat} (hz : z ≤ 1) (h : Nat) (ad : Nat → Nat) (cI cZ : ClassId) (g g2 : Sg) (k : Nat) (q : Nat × va_E) (hq : (zw z h ad cI cZ g)[k]? = some q) : ∃ q0, (zw z h ad cI cZ g2)[k]? = some q0 ∧ q0.1 = q.1 := by
  have e : ((zw z h ad cI cZ g)[k]?).map (fun q => q.1) = ((zw z h ad cI cZ g2)[k]?).map (fun q => q.1) := by
    rw [← List.getElem?_map, ← List.getElem?_map]
    rcases (show z = 0 ∨ z = 1 by omega) with rfl | rfl <;> rfl
  rw [hq] at e
  cases h2 : (zw z h ad cI cZ g2)[k]? with
  | none => rw [h2] at e; cases e
  | some q0 => rw [h2] at e; exact ⟨q0, rfl, (Option.some.inj e).symm⟩
theorem va_P_left {D : va_G} {cl : List vw_C} {w1 w2 : va_W} {H : Heap} (h : va_P D cl (w1 ++ w2) H) : va_P D cl w1 H := fun k q hk => h k q (by rw [List.getElem?_append_left (List.getElem?_eq_some_iff.mp hk).1]; exact hk)
theorem va_P_right {D : va_G} {cl : List vw_C} {w1 w2 : va_W} {H : Heap} (h : va_P D cl (w1 ++ w2) H) : va_P D cl w2 H := fun k q hk => h (w1.length + k) q (by rw [List.getElem?_append_right (by omega), Nat.add_sub_cancel_left]; exact hk)
theorem va_D_left {A : Nat → Prop} {w1 w2 : va_W} (h : va_D A (w1 ++ w2)) : va_D A w1 := by
  have key : ∀ (k : Nat) (q : Nat × va_E), w1[k]? = some q → (w1 ++ w2)[k]? = some q := fun k q hk => by rw [List.getElem?_append_left (List.getElem?_eq_some_iff.mp hk).1]; exact hk
  exact ⟨fun i j x y hi hj e => h.1 i j x y (key i x hi) (key j y hj) e, fun k q hk => h.2 k q (key k q hk)⟩
theorem va_D_right {A : Nat → Prop} {w1 w2 : va_W} (h : va_D A (w1 ++ w2)) : va_D A w2 := by
  have key : ∀ (k : Nat) (q : Nat × va_E), w2[k]? = some q → (w1 ++ w2)[w1.length + k]? = some q := fun k q hk => by rw [List.getElem?_append_right (by omega), Nat.add_sub_cancel_left]; exact hk
  exact ⟨fun i j x y hi hj e => by have := h.1 _ _ x y (key i x hi) (key j y hj) e; omega, fun k q hk => h.2 _ q (key k q hk)⟩
theorem va_D_apart {A : Nat → Prop} {w1 w2 : va_W} (h : va_D A (w1 ++ w2)) {i j : Nat} {p q : Nat × va_E} (hp : w1[i]? = some p) (hq : w2[j]? = some q) : p.1 ≠ q.1 := by
  intro e
  have hi := (List.getElem?_eq_some_iff.mp hp).1
  have := h.1 i (w1.length + j) p q (by rw [List.getElem?_append_left hi]; exact hp) (by rw [List.getElem?_append_right (by omega), Nat.add_sub_cancel_left]; exact hq) e
  omega
section LAWF
variable {p : Program} {l : Launch} {e : Env} {s : State} {m : MethodId} {args : Array Value} {below : List Frame} {meth : Method} {c : Code} {H : Heap} {locs : List Loc} {cells slots : Nat} {Q : State → Prop} {cc : ByteArray} {nL pc : Nat} {ls : Array Slot} {st rest : List Value} {D : va_G} {A : Nat → Prop} {R : Room} {own : String}
theorem kept_rest {z h : Nat} {ad : Nat → Nat} {cI cZ : ClassId} {u : Sg} {w1 : va_W} {H1 : Heap} (hP1 : va_P D classes w1 H) (hap : ∀ (i j : Nat) (p q : Nat × va_E), (zw z h ad cI cZ u)[i]? = some p → w1[j]? = some q → p.1 ≠ q.1) (hk : ∀ q : Nat, q < H.size → ¬ va_A (zw z h ad cI cZ u) H.size q → H1[q]? = H[q]?) : va_P D classes w1 H1 := by
  refine hP1.kept (fun k q hq => ?_)
  have hlt := (hP1 k q hq).lt
  refine hk q.1 hlt (fun z => ?_)
  rcases z with ⟨j, e, hj⟩ | z
  · exact hap j k _ q hj hq rfl
  · omega
theorem two_i {z h : Nat} {ad : Nat → Nat} {cI cZ : ClassId} {u : Sg} {w1 : va_W} {d2 : Nat} {y : MethodName} {cc2 : ByteArray} {nL2 index : Nat} {rt : FieldType} {av : List Value} {post : Int32 → Sg → Prop} (hz : z ≤ 1) (hS0 : CallFix p m c cc nL s args gt_tbl own) (hKK : va_K D classes (tyl cI cZ) s) (hA : ∀ q, s.heap.size ≤ q → A q) (hP : va_P D classes (zw z h ad cI cZ u) H) (hP1 : va_P D classes w1 H) (hD : va_D A (zw z h ad cI cZ u)) (hap : ∀ (i j : Nat) (p q : Nat × va_E), (zw z h ad cI cZ u)[i]? = some p → w1[j]? = some q → p.1 ≠ q.1) (hS : va_S A s.heap H locs)
    (hM : mMi z d2 y cc2 nL2 rt av u post) (hl : lk own z index y cc2 nL2 (some rt) av.length) (h1 : d2 + 1 ≤ R.frames) (h2 : 30 * (d2 + 1) ≤ R.locals) (hsz : ls.size = nL) (hd : decode cc pc = .ok (.invokevirtual index, 3)) (hst : st = av.reverse ++ .ref h :: rest) (hro : (rest.map fun v => v.category).sum ≤ 8) (hf : cells ≤ R.cells ∧ slots ≤ R.slots)
    (kk : ∀ (r : Int32) (u2 : Sg) (H1 : Heap) (locs1 : List Loc), post r u2 → va_P D classes (zw z h ad cI cZ u2) H1 → va_P D classes w1 H1 → va_S A s.heap H1 locs1 → W p l e R s m args below meth c H1 locs1 cells slots Q (F0 m (pc + 3) ls (.int r :: rest))) : W p l e R s m args below meth c H locs cells slots Q (F0 m pc ls st) := by
  have hFc : ∀ q, va_A (zw z h ad cI cZ u) H.size q → A q := fun q hq => by
    rcases hq with ⟨k, e, hq⟩ | hq
    · exact hD.2 k (q, e) hq
    · exact hA q (Nat.le_trans hS.1 hq)
  refine va_calli (va_runV (As := av) (rest := rest) hS0 (hM l D h ad cI cZ H.size) (lk_cw hz hl hS0.2.2.2.2 h1 h2) ⟨mP_blind, va_recv hKK hP (z_cls hz) (z_obj h ad cI cZ u hz), fun U hU hW => ⟨rfl, by rw [hU], by rw [hU]; exact hP, va_K.moved hW.alike hKK, hD.weaken (fun _ _ _ _ => trivial)⟩⟩ rfl rfl hsz hst (lv_room hro) hd hf) hS (fun q _ hq => hFc q hq) hFc (fun r u2 t H1 locs1 ht hvm hw hB hz1 hk1 hS1 => ?_)
  obtain ⟨hP2, hK2, hD2⟩ := hB
  rw [ht] at hP2
  exact kk r u2 H1 locs1 hw hP2 (kept_rest hP1 hap hk1) hS1
theorem two_v {z h : Nat} {ad : Nat → Nat} {cI cZ : ClassId} {u : Sg} {w1 : va_W} {d2 : Nat} {y : MethodName} {cc2 : ByteArray} {nL2 index : Nat} {av : List Value} {post : Sg → Prop} (hz : z ≤ 1) (hS0 : CallFix p m c cc nL s args gt_tbl own) (hKK : va_K D classes (tyl cI cZ) s) (hA : ∀ q, s.heap.size ≤ q → A q) (hP : va_P D classes (zw z h ad cI cZ u) H) (hP1 : va_P D classes w1 H) (hD : va_D A (zw z h ad cI cZ u)) (hap : ∀ (i j : Nat) (p q : Nat × va_E), (zw z h ad cI cZ u)[i]? = some p → w1[j]? = some q → p.1 ≠ q.1) (hS : va_S A s.heap H locs)
    (hM : mMv z d2 y cc2 nL2 av u post) (hl : lk own z index y cc2 nL2 none av.length) (h1 : d2 + 1 ≤ R.frames) (h2 : 30 * (d2 + 1) ≤ R.locals) (hsz : ls.size = nL) (hd : decode cc pc = .ok (.invokevirtual index, 3)) (hst : st = av.reverse ++ .ref h :: rest) (hro : (rest.map fun v => v.category).sum ≤ 8) (hf : cells ≤ R.cells ∧ slots ≤ R.slots)
    (kk : ∀ (u2 : Sg) (H1 : Heap) (locs1 : List Loc), post u2 → va_P D classes (zw z h ad cI cZ u2) H1 → va_P D classes w1 H1 → va_S A s.heap H1 locs1 → W p l e R s m args below meth c H1 locs1 cells slots Q (F0 m (pc + 3) ls rest)) : W p l e R s m args below meth c H locs cells slots Q (F0 m pc ls st) := by
  have hFc : ∀ q, va_A (zw z h ad cI cZ u) H.size q → A q := fun q hq => by
    rcases hq with ⟨k, e, hq⟩ | hq
    · exact hD.2 k (q, e) hq
    · exact hA q (Nat.le_trans hS.1 hq)
  refine va_callv (va_runV (As := av) (rest := rest) hS0 (hM l D h ad cI cZ H.size) (lk_cw hz hl hS0.2.2.2.2 h1 h2) ⟨mP_blind, va_recv hKK hP (z_cls hz) (z_obj h ad cI cZ u hz), fun U hU hW => ⟨rfl, by rw [hU], by rw [hU]; exact hP, va_K.moved hW.alike hKK, hD.weaken (fun _ _ _ _ => trivial)⟩⟩ rfl rfl hsz hst (lv_room hro) hd hf) hS (fun q _ hq => hFc q hq) hFc (fun u2 t H1 locs1 ht hvm hw hB hz1 hk1 hS1 => ?_)
  obtain ⟨hP2, hK2, hD2⟩ := hB
  rw [ht] at hP2
  exact kk u2 H1 locs1 hw hP2 (kept_rest hP1 hap hk1) hS1
end LAWF
def lOk (hX hM : Nat) (aX aM : Nat → Nat) (b L : Nat) (xs : Nat → Int32) (K : Kt (Sg × Sg)) : Prop :=
  ∃ (p : Program) (l : Launch) (e : Env) (s : State) (m : MethodId) (args : Array Value) (below : List Frame) (meth : Method) (c : Code) (Q : State → Prop) (D : va_G) (c1 c2 c3 c4 : ClassId) (A : Nat → Prop),
    CallFix p m c code 4 s args gt_tbl R_law ∧ va_K D classes (tyl c1 c2) s ∧ va_K D classes (tyl c3 c4) s ∧ (∀ q, s.heap.size ≤ q → A q) ∧ (va_X b L xs s s.heap ∧ b < s.heap.size ∧ ¬ A b) ∧ ((∀ g : Sg, va_D A (zw 0 hX aX c1 c2 g)) ∧ (∀ g : Sg, va_D A (zw 1 hM aM c3 c4 g)) ∧ ∀ (g g2 : Sg) (i j : Nat) (p q : Nat × va_E), (zw 0 hX aX c1 c2 g)[i]? = some p → (zw 1 hM aM c3 c4 g2)[j]? = some q → p.1 ≠ q.1) ∧
    ∀ (g : Sg × Sg) (pc : Nat) (lv : List (Nat × Value)) (st : List Value), K g pc lv st ↔ ∀ (H : Heap) (locs : List Loc) (ls : Array Slot), (va_P D classes (zw 0 hX aX c1 c2 g.1) H ∧ va_P D classes (zw 1 hM aM c3 c4 g.2) H ∧ va_S A s.heap H locs) → lv_has ls 4 lv → W p l e room_1 s m args below meth c H locs 31 2425 Q (F0 m pc ls st)
section LROWS
variable {hX hM : Nat} {aX aM : Nat → Nat} {b L : Nat} {xs : Nat → Int32} {K : Kt (Sg × Sg)} {g : Sg × Sg} {pc : Nat} {lv : List (Nat × Value)} {st rest : List Value}
theorem lOk_b (hg : lOk hX hM aX aM b L xs K) : bOk code 4 K := by
  obtain ⟨p, l, e, s, m, args, below, meth, c, Q, D, c1, c2, c3, c4, A, hF, hK1, hK2, hA, hX0, hD, hK⟩ := hg
  exact ⟨p, l, e, room_1, s, m, args, below, meth, c, 31, 2425, Q, _, hF.1, hF.2.1, hK⟩
theorem l_sld (hg : lOk hX hM aX aM b L xs K) {j : Nat} (hj : j < L) (hL : L < 2 ^ 31) (hd : decode code pc = .ok (.iaload, 1)) (kk : K g (pc + 1) lv (.int (xs j) :: st)) : K g pc lv (.int (nI j) :: .ref b :: st) := by
  obtain ⟨p, l, e, s, m, args, below, meth, c, Q, D, c1, c2, c3, c4, A, hF, hK1, hK2, hA, hX0, hD, hK⟩ := hg
  refine (hK _ _ _ _).2 fun H locs ls hP hl => va_sld hF.1 hF.2.1 hX0.1 hX0.2.1 hX0.2.2 hP.2.2 (vp_in_nI hj hL) hd ?_
  rw [nI_clamp (Nat.lt_trans hj hL)]
  exact (hK _ _ _ _).1 kk H locs ls hP hl
theorem l_slen (hg : lOk hX hM aX aM b L xs K) (hd : decode code pc = .ok (.arraylength, 1)) (kk : K g (pc + 1) lv (.int (nI L) :: st)) : K g pc lv (.ref b :: st) := by
  obtain ⟨p, l, e, s, m, args, below, meth, c, Q, D, c1, c2, c3, c4, A, hF, hK1, hK2, hA, hX0, hD, hK⟩ := hg
  exact (hK _ _ _ _).2 fun H locs ls hP hl => va_slen hF.1 hF.2.1 hX0.1 hX0.2.1 hX0.2.2 hP.2.2 hd ((hK _ _ _ _).1 kk H locs ls hP hl)
theorem l_tabIn (hg : lOk hX hM aX aM b L xs K) {dflt lo hi : Int} {offs : Array Int} {len : Nat} {x : Int32} {off : Int} {tgt : Nat} (hd : decode code pc = .ok (.tableswitch dflt lo hi offs, len)) (h1 : ¬ x.toInt < lo) (h2 : ¬ hi < x.toInt) (ho : offs[(x.toInt - lo).toNat]? = some off) (ht : (pc : Int) + off = (tgt : Int)) (kk : K g tgt lv st) : K g pc lv (.int x :: st) := by
  obtain ⟨p, l, e, s, m, args, below, meth, c, Q, D, c1, c2, c3, c4, A, hF, hK1, hK2, hA, hX0, hD, hK⟩ := hg
  exact (hK _ _ _ _).2 fun H locs ls hP hl => lv_tableIn hF.1 hF.2.1 hd h1 h2 ho ht ((hK _ _ _ _).1 kk H locs ls hP hl)
theorem l_tabOut (hg : lOk hX hM aX aM b L xs K) {dflt lo hi : Int} {offs : Array Int} {len : Nat} {x : Int32} {tgt : Nat} (hd : decode code pc = .ok (.tableswitch dflt lo hi offs, len)) (h1 : x.toInt < lo ∨ hi < x.toInt) (ht : (pc : Int) + dflt = (tgt : Int)) (kk : K g tgt lv st) : K g pc lv (.int x :: st) := by
  obtain ⟨p, l, e, s, m, args, below, meth, c, Q, D, c1, c2, c3, c4, A, hF, hK1, hK2, hA, hX0, hD, hK⟩ := hg
  exact (hK _ _ _ _).2 fun H locs ls hP hl => lv_tableOut hF.1 hF.2.1 hd h1 ht ((hK _ _ _ _).1 kk H locs ls hP hl)
theorem l_callXi (hg : lOk hX hM aX aM b L xs K) {d2 : Nat} {y : MethodName} {cc2 : ByteArray} {nL2 index : Nat} {rt : FieldType} {av : List Value} {post : Int32 → Sg → Prop} (hM : mMi 0 d2 y cc2 nL2 rt av g.1 post) (hl : lk R_law 0 index y cc2 nL2 (some rt) av.length) (hd2 : d2 ≤ 7) (hd : decode code pc = .ok (.invokevirtual index, 3)) (hst : st = av.reverse ++ .ref hX :: rest) (hro : (rest.map fun v => v.category).sum ≤ 8) (kk : ∀ (r : Int32) (u : Sg), post r u → K (u, g.2) (pc + 3) lv (.int r :: rest)) : K g pc lv st := by
  obtain ⟨p, l, e, s, m, args, below, meth, c, Q, D, c1, c2, c3, c4, A, hF, hK1, hK2, hA, hX0, hD, hK⟩ := hg
  exact (hK _ _ _ _).2 fun H locs ls hP hl0 => two_i (Nat.zero_le _) hF hK1 hA hP.1 hP.2.1 (hD.1 _) (hD.2.2 _ _) hP.2.2 hM hl (show d2 + 1 ≤ 8 by omega) (show 30 * (d2 + 1) ≤ 298 by omega) hl0.1 hd hst hro ⟨Nat.le_of_ble_eq_true rfl, Nat.le_of_ble_eq_true rfl⟩ (fun r u2 H1 locs1 hp q1 q2 q3 => (hK _ _ _ _).1 (kk r u2 hp) H1 locs1 ls ⟨q1, q2, q3⟩ hl0)
theorem l_callXv (hg : lOk hX hM aX aM b L xs K) {d2 : Nat} {y : MethodName} {cc2 : ByteArray} {nL2 index : Nat} {av : List Value} {post : Sg → Prop} (hM : mMv 0 d2 y cc2 nL2 av g.1 post) (hl : lk R_law 0 index y cc2 nL2 none av.length) (hd2 : d2 ≤ 7) (hd : decode code pc = .ok (.invokevirtual index, 3)) (hst : st = av.reverse ++ .ref hX :: rest) (hro : (rest.map fun v => v.category).sum ≤ 8) (kk : ∀ (u : Sg), post u → K (u, g.2) (pc + 3) lv rest) : K g pc lv st := by
  obtain ⟨p, l, e, s, m, args, below, meth, c, Q, D, c1, c2, c3, c4, A, hF, hK1, hK2, hA, hX0, hD, hK⟩ := hg
  exact (hK _ _ _ _).2 fun H locs ls hP hl0 => two_v (Nat.zero_le _) hF hK1 hA hP.1 hP.2.1 (hD.1 _) (hD.2.2 _ _) hP.2.2 hM hl (show d2 + 1 ≤ 8 by omega) (show 30 * (d2 + 1) ≤ 298 by omega) hl0.1 hd hst hro ⟨Nat.le_of_ble_eq_true rfl, Nat.le_of_ble_eq_true rfl⟩ (fun u2 H1 locs1 hp q1 q2 q3 => (hK _ _ _ _).1 (kk u2 hp) H1 locs1 ls ⟨q1, q2, q3⟩ hl0)
theorem l_callMi (hg : lOk hX hM aX aM b L xs K) {d2 : Nat} {y : MethodName} {cc2 : ByteArray} {nL2 index : Nat} {rt : FieldType} {av : List Value} {post : Int32 → Sg → Prop} (hM0 : mMi 1 d2 y cc2 nL2 rt av g.2 post) (hl : lk R_law 1 index y cc2 nL2 (some rt) av.length) (hd2 : d2 ≤ 7) (hd : decode code pc = .ok (.invokevirtual index, 3)) (hst : st = av.reverse ++ .ref hM :: rest) (hro : (rest.map fun v => v.category).sum ≤ 8) (kk : ∀ (r : Int32) (u : Sg), post r u → K (g.1, u) (pc + 3) lv (.int r :: rest)) : K g pc lv st := by
  obtain ⟨p, l, e, s, m, args, below, meth, c, Q, D, c1, c2, c3, c4, A, hF, hK1, hK2, hA, hX0, hD, hK⟩ := hg
  exact (hK _ _ _ _).2 fun H locs ls hP hl0 => two_i (Nat.le_refl _) hF hK2 hA hP.2.1 hP.1 (hD.2.1 _) (fun i j p q h1 h2 z => hD.2.2 _ _ j i q p h2 h1 z.symm) hP.2.2 hM0 hl (show d2 + 1 ≤ 8 by omega) (show 30 * (d2 + 1) ≤ 298 by omega) hl0.1 hd hst hro ⟨Nat.le_of_ble_eq_true rfl, Nat.le_of_ble_eq_true rfl⟩ (fun r u2 H1 locs1 hp q1 q2 q3 => (hK _ _ _ _).1 (kk r u2 hp) H1 locs1 ls ⟨q2, q1, q3⟩ hl0)
theorem l_callMv (hg : lOk hX hM aX aM b L xs K) {d2 : Nat} {y : MethodName} {cc2 : ByteArray} {nL2 index : Nat} {av : List Value} {post : Sg → Prop} (hM0 : mMv 1 d2 y cc2 nL2 av g.2 post) (hl : lk R_law 1 index y cc2 nL2 none av.length) (hd2 : d2 ≤ 7) (hd : decode code pc = .ok (.invokevirtual index, 3)) (hst : st = av.reverse ++ .ref hM :: rest) (hro : (rest.map fun v => v.category).sum ≤ 8) (kk : ∀ (u : Sg), post u → K (g.1, u) (pc + 3) lv rest) : K g pc lv st := by
  obtain ⟨p, l, e, s, m, args, below, meth, c, Q, D, c1, c2, c3, c4, A, hF, hK1, hK2, hA, hX0, hD, hK⟩ := hg
  exact (hK _ _ _ _).2 fun H locs ls hP hl0 => two_v (Nat.le_refl _) hF hK2 hA hP.2.1 hP.1 (hD.2.1 _) (fun i j p q h1 h2 z => hD.2.2 _ _ j i q p h2 h1 z.symm) hP.2.2 hM0 hl (show d2 + 1 ≤ 8 by omega) (show 30 * (d2 + 1) ≤ 298 by omega) hl0.1 hd hst hro ⟨Nat.le_of_ble_eq_true rfl, Nat.le_of_ble_eq_true rfl⟩ (fun u2 H1 locs1 hp q1 q2 q3 => (hK _ _ _ _).1 (kk u2 hp) H1 locs1 ls ⟨q2, q1, q3⟩ hl0)
end LROWS
end
section
/-! the law's loop; printed by tools/law.py -/
set_option maxHeartbeats 4000000 in
theorem law_loop {hX hM : Nat} {aX aM : Nat → Nat} {b L : Nat} {xs : Nat → Int32} {K : Kt (Sg × Sg)} (hg : lOk hX hM aX aM b L xs K) (hL : L ≤ 2048) (hret : ∀ (g : Sg × Sg) (lv : List (Nat × Value)), K g 399 lv [.int (nI 1)]) :
    ∀ (n i : Nat) (A : Ab) (g : Sg × Sg), L + 1 ≤ i + n → i ≤ L + 4 → JX g.1 A → JM g.2 A → K g 18 [(3, .int (nI i)), (2, .ref hM), (1, .ref hX), (0, .ref b)] [] := by
  have hb := lOk_b hg
  have head : ∀ (i : Nat) (g : Sg × Sg), i ≤ L + 4 → (i + 4 ≤ L → K g 26 [(3, .int (nI i)), (2, .ref hM), (1, .ref hX), (0, .ref b)] []) → K g 18 [(3, .int (nI i)), (2, .ref hM), (1, .ref hX), (0, .ref b)] [] := by
    intro i g hi k26
    have fin : K g 398 [(3, .int (nI i)), (2, .ref hM), (1, .ref hX), (0, .ref b)] [] := by
      refine b_iconst (v := nI 1) hb d_law_398 rfl ?_
      exact hret _ _
    refine b_iload_n hb d_law_18 rfl rfl ?_
    refine b_aload_n hb d_law_19 rfl rfl ?_
    refine l_slen hg d_law_20 ?_
    refine b_iconst (v := nI 4) hb d_law_21 rfl ?_
    by_cases h4 : 4 ≤ L
    · refine b_isubN hb d_law_22 (by omega) ?_
      refine b_gtN (tgt := 398) hb (by omega) (by omega) d_law_23 (by decide) (fun c1 => ?_) (fun c1 => ?_)
      · exact fin
      · exact k26 (by omega)
    · refine b_isub hb d_law_22 ?_
      refine b_icmp_gt (tgt := 398) hb d_law_23 (by decide) (fun c1 => ?_) (fun c1 => ?_)
      · exact fin
      · exact absurd (Int32.lt_of_lt_of_le (pk_sneg (by omega) (by omega)) (nI_pos' (by omega))) c1
  intro n
  induction n with
  | zero =>
    intro i A g hi hi2 _ _
    exact head i g hi2 (fun z => absurd z (by omega))
  | succ n ih =>
    intro i A g hi hi2 hJX hJM
    refine head i g hi2 (fun hlt => ?_)
    have next : ∀ (u : Sg × Sg) (A2 : Ab), JX u.1 A2 → JM u.2 A2 → K u 392 [(3, .int (nI i)), (2, .ref hM), (1, .ref hX), (0, .ref b)] [] := by
      intro u A2 h1 h2
      refine b_iinc (v := nI (i + 4)) (lv' := [(3, _), (2, _), (1, _), (0, _)]) hb d_law_392 rfl (nI_add i 4) (by decide) rfl ?_
      refine b_goto (tgt := 18) hb d_law_395 (by decide) ?_
      exact ih (i + 4) A2 u (by omega) (by omega) h1 h2
    refine b_aload_n hb d_law_26 rfl rfl ?_
    refine b_iload_n hb d_law_27 rfl rfl ?_
    refine l_sld hg (by omega) (by omega) d_law_28 ?_
    refine b_bipush (v := nI 15) hb d_law_29 rfl ?_
    refine b_iand hb d_law_31 ?_
    refine b_top (pk_and (xs i) (m := nI 15) 4 (by decide)) ?_
    have hk := Nat.mod_lt (xs i).toBitVec.toNat (show 0 < 2 ^ 4 by decide)
    generalize (xs i).toBitVec.toNat % 2 ^ 4 = k at hk ⊢
    have hk : k < 16 := hk
    rcases (show k = 0 ∨ k = 1 ∨ k = 2 ∨ k = 3 ∨ k = 4 ∨ k = 5 ∨ k = 6 ∨ k = 7 ∨ k = 8 ∨ k = 9 ∨ k = 10 ∨ k = 11 ∨ (12 ≤ k) by omega) with rfl | rfl | rfl | rfl | rfl | rfl | rfl | rfl | rfl | rfl | rfl | rfl | hk12
    · refine l_tabIn (off := 64) (tgt := 96) hg d_law_32 (by decide) (by decide) (by decide) (by decide) ?_
      refine b_aload_n hb d_law_96 rfl rfl ?_
      refine b_aload_n hb d_law_97 rfl rfl ?_
      refine b_iload_n hb d_law_98 rfl rfl ?_
      refine b_iconst (v := nI 1) hb d_law_99 rfl ?_
      refine b_iaddN hb d_law_100 ?_
      refine l_sld hg (by omega) (by omega) d_law_101 ?_
      refine l_callXi hg (x_type hJX) lk_law_X_type (by decide) d_law_102 rfl (Nat.le_of_ble_eq_true rfl) (fun r1 u1 hp1 => ?_)
      obtain ⟨hr1, h1⟩ := hp1
      refine b_aload_n hb d_law_105 rfl rfl ?_
      refine b_aload_n hb d_law_106 rfl rfl ?_
      refine b_iload_n hb d_law_107 rfl rfl ?_
      refine b_iconst (v := nI 1) hb d_law_108 rfl ?_
      refine b_iaddN hb d_law_109 ?_
      refine l_sld hg (by omega) (by omega) d_law_110 ?_
      refine l_callMi hg (m_type hJM) lk_law_M_type (by decide) d_law_111 rfl (Nat.le_of_ble_eq_true rfl) (fun r2 u2 hp2 => ?_)
      obtain ⟨hr2, h2⟩ := hp2
      refine b_icmp_eq (tgt := 392) hb d_law_114 (by decide) (fun c1 => ?_) (fun c1 => ?_)
      · exact next _ _ h1 h2
      · exact absurd (hr1.trans hr2.symm) c1
    · refine l_tabIn (off := 87) (tgt := 119) hg d_law_32 (by decide) (by decide) (by decide) (by decide) ?_
      refine b_aload_n hb d_law_119 rfl rfl ?_
      refine l_callXv hg (x_erase hJX) lk_law_X_erase (by decide) d_law_120 rfl (Nat.le_of_ble_eq_true rfl) (fun u1 h1 => ?_)
      refine b_aload_n hb d_law_123 rfl rfl ?_
      refine l_callMv hg (m_erase hJM) lk_law_M_erase (by decide) d_law_124 rfl (Nat.le_of_ble_eq_true rfl) (fun u2 h2 => ?_)
      refine b_goto (tgt := 392) hb d_law_127 (by decide) ?_
      exact next _ _ h1 h2
    · refine l_tabIn (off := 98) (tgt := 130) hg d_law_32 (by decide) (by decide) (by decide) (by decide) ?_
      refine b_aload_n hb d_law_130 rfl rfl ?_
      refine b_aload_n hb d_law_131 rfl rfl ?_
      refine b_iload_n hb d_law_132 rfl rfl ?_
      refine b_iconst (v := nI 1) hb d_law_133 rfl ?_
      refine b_iaddN hb d_law_134 ?_
      refine l_sld hg (by omega) (by omega) d_law_135 ?_
      refine l_callXi hg (x_keep hJX) lk_law_X_keep (by decide) d_law_136 rfl (Nat.le_of_ble_eq_true rfl) (fun r1 u1 hp1 => ?_)
      obtain ⟨hr1, h1⟩ := hp1
      refine b_aload_n hb d_law_139 rfl rfl ?_
      refine b_aload_n hb d_law_140 rfl rfl ?_
      refine b_iload_n hb d_law_141 rfl rfl ?_
      refine b_iconst (v := nI 1) hb d_law_142 rfl ?_
      refine b_iaddN hb d_law_143 ?_
      refine l_sld hg (by omega) (by omega) d_law_144 ?_
      refine l_callMi hg (m_keep hJM) lk_law_M_keep (by decide) d_law_145 rfl (Nat.le_of_ble_eq_true rfl) (fun r2 u2 hp2 => ?_)
      obtain ⟨hr2, h2⟩ := hp2
      refine b_icmp_eq (tgt := 392) hb d_law_148 (by decide) (fun c1 => ?_) (fun c1 => ?_)
      · exact next _ _ h1 h2
      · exact absurd (hr1.trans hr2.symm) c1
    · refine l_tabIn (off := 121) (tgt := 153) hg d_law_32 (by decide) (by decide) (by decide) (by decide) ?_
      by_cases q2 : xs (i + 2) = 0
      · by_cases q3 : xs (i + 3) = 0
        · refine b_aload_n hb d_law_153 rfl rfl ?_
          refine b_aload_n hb d_law_154 rfl rfl ?_
          refine b_iload_n hb d_law_155 rfl rfl ?_
          refine b_iconst (v := nI 1) hb d_law_156 rfl ?_
          refine b_iaddN hb d_law_157 ?_
          refine l_sld hg (by omega) (by omega) d_law_158 ?_
          refine b_aload_n hb d_law_159 rfl rfl ?_
          refine b_iload_n hb d_law_160 rfl rfl ?_
          refine b_iconst (v := nI 2) hb d_law_161 rfl ?_
          refine b_iaddN hb d_law_162 ?_
          refine l_sld hg (by omega) (by omega) d_law_163 ?_
          refine b_if_eq (tgt := 171) hb d_law_164 (by decide) (fun c1 => ?_) (fun c1 => ?_)
          · refine b_iconst (v := nI 0) hb d_law_171 rfl ?_
            refine b_aload_n hb d_law_172 rfl rfl ?_
            refine b_iload_n hb d_law_173 rfl rfl ?_
            refine b_iconst (v := nI 3) hb d_law_174 rfl ?_
            refine b_iaddN hb d_law_175 ?_
            refine l_sld hg (by omega) (by omega) d_law_176 ?_
            refine b_if_eq (tgt := 184) hb d_law_177 (by decide) (fun c1 => ?_) (fun c1 => ?_)
            · refine b_iconst (v := nI 0) hb d_law_184 rfl ?_
              refine l_callXi hg (x_rule (su := false) (cr := false) hJX) lk_law_X_rule (by decide) d_law_185 rfl (Nat.le_of_ble_eq_true rfl) (fun r1 u1 hp1 => ?_)
              obtain ⟨hr1, h1⟩ := hp1
              refine b_aload_n hb d_law_188 rfl rfl ?_
              refine b_aload_n hb d_law_189 rfl rfl ?_
              refine b_iload_n hb d_law_190 rfl rfl ?_
              refine b_iconst (v := nI 1) hb d_law_191 rfl ?_
              refine b_iaddN hb d_law_192 ?_
              refine l_sld hg (by omega) (by omega) d_law_193 ?_
              refine b_aload_n hb d_law_194 rfl rfl ?_
              refine b_iload_n hb d_law_195 rfl rfl ?_
              refine b_iconst (v := nI 2) hb d_law_196 rfl ?_
              refine b_iaddN hb d_law_197 ?_
              refine l_sld hg (by omega) (by omega) d_law_198 ?_
              refine b_if_eq (tgt := 206) hb d_law_199 (by decide) (fun c1 => ?_) (fun c1 => ?_)
              · refine b_iconst (v := nI 0) hb d_law_206 rfl ?_
                refine b_aload_n hb d_law_207 rfl rfl ?_
                refine b_iload_n hb d_law_208 rfl rfl ?_
                refine b_iconst (v := nI 3) hb d_law_209 rfl ?_
                refine b_iaddN hb d_law_210 ?_
                refine l_sld hg (by omega) (by omega) d_law_211 ?_
                refine b_if_eq (tgt := 219) hb d_law_212 (by decide) (fun c1 => ?_) (fun c1 => ?_)
                · refine b_iconst (v := nI 0) hb d_law_219 rfl ?_
                  refine l_callMi hg (m_rule (su := false) (cr := false) hJM) lk_law_M_rule (by decide) d_law_220 rfl (Nat.le_of_ble_eq_true rfl) (fun r2 u2 hp2 => ?_)
                  obtain ⟨hr2, h2⟩ := hp2
                  refine b_icmp_eq (tgt := 392) hb d_law_223 (by decide) (fun c9 => ?_) (fun c9 => ?_)
                  · exact next _ _ h1 h2
                  · exact absurd (hr1.trans hr2.symm) c9
                · exact absurd q3 c1
              · exact absurd q2 c1
            · exact absurd q3 c1
          · exact absurd q2 c1
        · refine b_aload_n hb d_law_153 rfl rfl ?_
          refine b_aload_n hb d_law_154 rfl rfl ?_
          refine b_iload_n hb d_law_155 rfl rfl ?_
          refine b_iconst (v := nI 1) hb d_law_156 rfl ?_
          refine b_iaddN hb d_law_157 ?_
          refine l_sld hg (by omega) (by omega) d_law_158 ?_
          refine b_aload_n hb d_law_159 rfl rfl ?_
          refine b_iload_n hb d_law_160 rfl rfl ?_
          refine b_iconst (v := nI 2) hb d_law_161 rfl ?_
          refine b_iaddN hb d_law_162 ?_
          refine l_sld hg (by omega) (by omega) d_law_163 ?_
          refine b_if_eq (tgt := 171) hb d_law_164 (by decide) (fun c1 => ?_) (fun c1 => ?_)
          · refine b_iconst (v := nI 0) hb d_law_171 rfl ?_
            refine b_aload_n hb d_law_172 rfl rfl ?_
            refine b_iload_n hb d_law_173 rfl rfl ?_
            refine b_iconst (v := nI 3) hb d_law_174 rfl ?_
            refine b_iaddN hb d_law_175 ?_
            refine l_sld hg (by omega) (by omega) d_law_176 ?_
            refine b_if_eq (tgt := 184) hb d_law_177 (by decide) (fun c1 => ?_) (fun c1 => ?_)
            · exact absurd c1 q3
            · refine b_iconst (v := nI 1) hb d_law_180 rfl ?_
              refine b_goto (tgt := 185) hb d_law_181 (by decide) ?_
              refine l_callXi hg (x_rule (su := false) (cr := true) hJX) lk_law_X_rule (by decide) d_law_185 rfl (Nat.le_of_ble_eq_true rfl) (fun r1 u1 hp1 => ?_)
              obtain ⟨hr1, h1⟩ := hp1
              refine b_aload_n hb d_law_188 rfl rfl ?_
              refine b_aload_n hb d_law_189 rfl rfl ?_
              refine b_iload_n hb d_law_190 rfl rfl ?_
              refine b_iconst (v := nI 1) hb d_law_191 rfl ?_
              refine b_iaddN hb d_law_192 ?_
              refine l_sld hg (by omega) (by omega) d_law_193 ?_
              refine b_aload_n hb d_law_194 rfl rfl ?_
              refine b_iload_n hb d_law_195 rfl rfl ?_
              refine b_iconst (v := nI 2) hb d_law_196 rfl ?_
              refine b_iaddN hb d_law_197 ?_
              refine l_sld hg (by omega) (by omega) d_law_198 ?_
              refine b_if_eq (tgt := 206) hb d_law_199 (by decide) (fun c1 => ?_) (fun c1 => ?_)
              · refine b_iconst (v := nI 0) hb d_law_206 rfl ?_
                refine b_aload_n hb d_law_207 rfl rfl ?_
                refine b_iload_n hb d_law_208 rfl rfl ?_
                refine b_iconst (v := nI 3) hb d_law_209 rfl ?_
                refine b_iaddN hb d_law_210 ?_
                refine l_sld hg (by omega) (by omega) d_law_211 ?_
                refine b_if_eq (tgt := 219) hb d_law_212 (by decide) (fun c1 => ?_) (fun c1 => ?_)
                · exact absurd c1 q3
                · refine b_iconst (v := nI 1) hb d_law_215 rfl ?_
                  refine b_goto (tgt := 220) hb d_law_216 (by decide) ?_
                  refine l_callMi hg (m_rule (su := false) (cr := true) hJM) lk_law_M_rule (by decide) d_law_220 rfl (Nat.le_of_ble_eq_true rfl) (fun r2 u2 hp2 => ?_)
                  obtain ⟨hr2, h2⟩ := hp2
                  refine b_icmp_eq (tgt := 392) hb d_law_223 (by decide) (fun c9 => ?_) (fun c9 => ?_)
                  · exact next _ _ h1 h2
                  · exact absurd (hr1.trans hr2.symm) c9
              · exact absurd q2 c1
          · exact absurd q2 c1
      · by_cases q3 : xs (i + 3) = 0
        · refine b_aload_n hb d_law_153 rfl rfl ?_
          refine b_aload_n hb d_law_154 rfl rfl ?_
          refine b_iload_n hb d_law_155 rfl rfl ?_
          refine b_iconst (v := nI 1) hb d_law_156 rfl ?_
          refine b_iaddN hb d_law_157 ?_
          refine l_sld hg (by omega) (by omega) d_law_158 ?_
          refine b_aload_n hb d_law_159 rfl rfl ?_
          refine b_iload_n hb d_law_160 rfl rfl ?_
          refine b_iconst (v := nI 2) hb d_law_161 rfl ?_
          refine b_iaddN hb d_law_162 ?_
          refine l_sld hg (by omega) (by omega) d_law_163 ?_
          refine b_if_eq (tgt := 171) hb d_law_164 (by decide) (fun c1 => ?_) (fun c1 => ?_)
          · exact absurd c1 q2
          · refine b_iconst (v := nI 1) hb d_law_167 rfl ?_
            refine b_goto (tgt := 172) hb d_law_168 (by decide) ?_
            refine b_aload_n hb d_law_172 rfl rfl ?_
            refine b_iload_n hb d_law_173 rfl rfl ?_
            refine b_iconst (v := nI 3) hb d_law_174 rfl ?_
            refine b_iaddN hb d_law_175 ?_
            refine l_sld hg (by omega) (by omega) d_law_176 ?_
            refine b_if_eq (tgt := 184) hb d_law_177 (by decide) (fun c1 => ?_) (fun c1 => ?_)
            · refine b_iconst (v := nI 0) hb d_law_184 rfl ?_
              refine l_callXi hg (x_rule (su := true) (cr := false) hJX) lk_law_X_rule (by decide) d_law_185 rfl (Nat.le_of_ble_eq_true rfl) (fun r1 u1 hp1 => ?_)
              obtain ⟨hr1, h1⟩ := hp1
              refine b_aload_n hb d_law_188 rfl rfl ?_
              refine b_aload_n hb d_law_189 rfl rfl ?_
              refine b_iload_n hb d_law_190 rfl rfl ?_
              refine b_iconst (v := nI 1) hb d_law_191 rfl ?_
              refine b_iaddN hb d_law_192 ?_
              refine l_sld hg (by omega) (by omega) d_law_193 ?_
              refine b_aload_n hb d_law_194 rfl rfl ?_
              refine b_iload_n hb d_law_195 rfl rfl ?_
              refine b_iconst (v := nI 2) hb d_law_196 rfl ?_
              refine b_iaddN hb d_law_197 ?_
              refine l_sld hg (by omega) (by omega) d_law_198 ?_
              refine b_if_eq (tgt := 206) hb d_law_199 (by decide) (fun c1 => ?_) (fun c1 => ?_)
              · exact absurd c1 q2
              · refine b_iconst (v := nI 1) hb d_law_202 rfl ?_
                refine b_goto (tgt := 207) hb d_law_203 (by decide) ?_
                refine b_aload_n hb d_law_207 rfl rfl ?_
                refine b_iload_n hb d_law_208 rfl rfl ?_
                refine b_iconst (v := nI 3) hb d_law_209 rfl ?_
                refine b_iaddN hb d_law_210 ?_
                refine l_sld hg (by omega) (by omega) d_law_211 ?_
                refine b_if_eq (tgt := 219) hb d_law_212 (by decide) (fun c1 => ?_) (fun c1 => ?_)
                · refine b_iconst (v := nI 0) hb d_law_219 rfl ?_
                  refine l_callMi hg (m_rule (su := true) (cr := false) hJM) lk_law_M_rule (by decide) d_law_220 rfl (Nat.le_of_ble_eq_true rfl) (fun r2 u2 hp2 => ?_)
                  obtain ⟨hr2, h2⟩ := hp2
                  refine b_icmp_eq (tgt := 392) hb d_law_223 (by decide) (fun c9 => ?_) (fun c9 => ?_)
                  · exact next _ _ h1 h2
                  · exact absurd (hr1.trans hr2.symm) c9
                · exact absurd q3 c1
            · exact absurd q3 c1
        · refine b_aload_n hb d_law_153 rfl rfl ?_
          refine b_aload_n hb d_law_154 rfl rfl ?_
          refine b_iload_n hb d_law_155 rfl rfl ?_
          refine b_iconst (v := nI 1) hb d_law_156 rfl ?_
          refine b_iaddN hb d_law_157 ?_
          refine l_sld hg (by omega) (by omega) d_law_158 ?_
          refine b_aload_n hb d_law_159 rfl rfl ?_
          refine b_iload_n hb d_law_160 rfl rfl ?_
          refine b_iconst (v := nI 2) hb d_law_161 rfl ?_
          refine b_iaddN hb d_law_162 ?_
          refine l_sld hg (by omega) (by omega) d_law_163 ?_
          refine b_if_eq (tgt := 171) hb d_law_164 (by decide) (fun c1 => ?_) (fun c1 => ?_)
          · exact absurd c1 q2
          · refine b_iconst (v := nI 1) hb d_law_167 rfl ?_
            refine b_goto (tgt := 172) hb d_law_168 (by decide) ?_
            refine b_aload_n hb d_law_172 rfl rfl ?_
            refine b_iload_n hb d_law_173 rfl rfl ?_
            refine b_iconst (v := nI 3) hb d_law_174 rfl ?_
            refine b_iaddN hb d_law_175 ?_
            refine l_sld hg (by omega) (by omega) d_law_176 ?_
            refine b_if_eq (tgt := 184) hb d_law_177 (by decide) (fun c1 => ?_) (fun c1 => ?_)
            · exact absurd c1 q3
            · refine b_iconst (v := nI 1) hb d_law_180 rfl ?_
              refine b_goto (tgt := 185) hb d_law_181 (by decide) ?_
              refine l_callXi hg (x_rule (su := true) (cr := true) hJX) lk_law_X_rule (by decide) d_law_185 rfl (Nat.le_of_ble_eq_true rfl) (fun r1 u1 hp1 => ?_)
              obtain ⟨hr1, h1⟩ := hp1
              refine b_aload_n hb d_law_188 rfl rfl ?_
              refine b_aload_n hb d_law_189 rfl rfl ?_
              refine b_iload_n hb d_law_190 rfl rfl ?_
              refine b_iconst (v := nI 1) hb d_law_191 rfl ?_
              refine b_iaddN hb d_law_192 ?_
              refine l_sld hg (by omega) (by omega) d_law_193 ?_
              refine b_aload_n hb d_law_194 rfl rfl ?_
              refine b_iload_n hb d_law_195 rfl rfl ?_
              refine b_iconst (v := nI 2) hb d_law_196 rfl ?_
              refine b_iaddN hb d_law_197 ?_
              refine l_sld hg (by omega) (by omega) d_law_198 ?_
              refine b_if_eq (tgt := 206) hb d_law_199 (by decide) (fun c1 => ?_) (fun c1 => ?_)
              · exact absurd c1 q2
              · refine b_iconst (v := nI 1) hb d_law_202 rfl ?_
                refine b_goto (tgt := 207) hb d_law_203 (by decide) ?_
                refine b_aload_n hb d_law_207 rfl rfl ?_
                refine b_iload_n hb d_law_208 rfl rfl ?_
                refine b_iconst (v := nI 3) hb d_law_209 rfl ?_
                refine b_iaddN hb d_law_210 ?_
                refine l_sld hg (by omega) (by omega) d_law_211 ?_
                refine b_if_eq (tgt := 219) hb d_law_212 (by decide) (fun c1 => ?_) (fun c1 => ?_)
                · exact absurd c1 q3
                · refine b_iconst (v := nI 1) hb d_law_215 rfl ?_
                  refine b_goto (tgt := 220) hb d_law_216 (by decide) ?_
                  refine l_callMi hg (m_rule (su := true) (cr := true) hJM) lk_law_M_rule (by decide) d_law_220 rfl (Nat.le_of_ble_eq_true rfl) (fun r2 u2 hp2 => ?_)
                  obtain ⟨hr2, h2⟩ := hp2
                  refine b_icmp_eq (tgt := 392) hb d_law_223 (by decide) (fun c9 => ?_) (fun c9 => ?_)
                  · exact next _ _ h1 h2
                  · exact absurd (hr1.trans hr2.symm) c9
    · refine l_tabIn (off := 196) (tgt := 228) hg d_law_32 (by decide) (by decide) (by decide) (by decide) ?_
      refine b_aload_n hb d_law_228 rfl rfl ?_
      refine b_aload_n hb d_law_229 rfl rfl ?_
      refine b_iload_n hb d_law_230 rfl rfl ?_
      refine b_iconst (v := nI 1) hb d_law_231 rfl ?_
      refine b_iaddN hb d_law_232 ?_
      refine l_sld hg (by omega) (by omega) d_law_233 ?_
      refine l_callXi hg (x_stem hJX) lk_law_X_stem (by decide) d_law_234 rfl (Nat.le_of_ble_eq_true rfl) (fun r1 u1 hp1 => ?_)
      obtain ⟨hr1, h1⟩ := hp1
      refine b_aload_n hb d_law_237 rfl rfl ?_
      refine b_aload_n hb d_law_238 rfl rfl ?_
      refine b_iload_n hb d_law_239 rfl rfl ?_
      refine b_iconst (v := nI 1) hb d_law_240 rfl ?_
      refine b_iaddN hb d_law_241 ?_
      refine l_sld hg (by omega) (by omega) d_law_242 ?_
      refine l_callMi hg (m_stem hJM) lk_law_M_stem (by decide) d_law_243 rfl (Nat.le_of_ble_eq_true rfl) (fun r2 u2 hp2 => ?_)
      obtain ⟨hr2, h2⟩ := hp2
      refine b_icmp_eq (tgt := 392) hb d_law_246 (by decide) (fun c1 => ?_) (fun c1 => ?_)
      · exact next _ _ h1 h2
      · exact absurd (hr1.trans hr2.symm) c1
    · refine l_tabIn (off := 219) (tgt := 251) hg d_law_32 (by decide) (by decide) (by decide) (by decide) ?_
      refine b_aload_n hb d_law_251 rfl rfl ?_
      refine b_aload_n hb d_law_252 rfl rfl ?_
      refine b_iload_n hb d_law_253 rfl rfl ?_
      refine b_iconst (v := nI 1) hb d_law_254 rfl ?_
      refine b_iaddN hb d_law_255 ?_
      refine l_sld hg (by omega) (by omega) d_law_256 ?_
      refine b_aload_n hb d_law_257 rfl rfl ?_
      refine b_iload_n hb d_law_258 rfl rfl ?_
      refine b_iconst (v := nI 2) hb d_law_259 rfl ?_
      refine b_iaddN hb d_law_260 ?_
      refine l_sld hg (by omega) (by omega) d_law_261 ?_
      refine l_callXi hg (x_reflag hJX) lk_law_X_reflag (by decide) d_law_262 rfl (Nat.le_of_ble_eq_true rfl) (fun r1 u1 hp1 => ?_)
      obtain ⟨hr1, h1⟩ := hp1
      refine b_aload_n hb d_law_265 rfl rfl ?_
      refine b_aload_n hb d_law_266 rfl rfl ?_
      refine b_iload_n hb d_law_267 rfl rfl ?_
      refine b_iconst (v := nI 1) hb d_law_268 rfl ?_
      refine b_iaddN hb d_law_269 ?_
      refine l_sld hg (by omega) (by omega) d_law_270 ?_
      refine b_aload_n hb d_law_271 rfl rfl ?_
      refine b_iload_n hb d_law_272 rfl rfl ?_
      refine b_iconst (v := nI 2) hb d_law_273 rfl ?_
      refine b_iaddN hb d_law_274 ?_
      refine l_sld hg (by omega) (by omega) d_law_275 ?_
      refine l_callMi hg (m_reflag hJM) lk_law_M_reflag (by decide) d_law_276 rfl (Nat.le_of_ble_eq_true rfl) (fun r2 u2 hp2 => ?_)
      obtain ⟨hr2, h2⟩ := hp2
      refine b_icmp_eq (tgt := 392) hb d_law_279 (by decide) (fun c1 => ?_) (fun c1 => ?_)
      · exact next _ _ h1 h2
      · exact absurd (hr1.trans hr2.symm) c1
    · refine l_tabIn (off := 252) (tgt := 284) hg d_law_32 (by decide) (by decide) (by decide) (by decide) ?_
      refine b_aload_n hb d_law_284 rfl rfl ?_
      refine l_callXi hg (x_length hJX) lk_law_X_length (by decide) d_law_285 rfl (Nat.le_of_ble_eq_true rfl) (fun r1 u1 hp1 => ?_)
      obtain ⟨hr1, h1⟩ := hp1
      refine b_aload_n hb d_law_288 rfl rfl ?_
      refine l_callMi hg (m_length hJM) lk_law_M_length (by decide) d_law_289 rfl (Nat.le_of_ble_eq_true rfl) (fun r2 u2 hp2 => ?_)
      obtain ⟨hr2, h2⟩ := hp2
      refine b_icmp_eq (tgt := 392) hb d_law_292 (by decide) (fun c1 => ?_) (fun c1 => ?_)
      · exact next _ _ h1 h2
      · exact absurd (hr1.trans hr2.symm) c1
    · refine l_tabIn (off := 265) (tgt := 297) hg d_law_32 (by decide) (by decide) (by decide) (by decide) ?_
      refine b_aload_n hb d_law_297 rfl rfl ?_
      refine l_callXi hg (x_derivations hJX) lk_law_X_derivations (by decide) d_law_298 rfl (Nat.le_of_ble_eq_true rfl) (fun r1 u1 hp1 => ?_)
      obtain ⟨hr1, h1⟩ := hp1
      refine b_aload_n hb d_law_301 rfl rfl ?_
      refine l_callMi hg (m_derivations hJM) lk_law_M_derivations (by decide) d_law_302 rfl (Nat.le_of_ble_eq_true rfl) (fun r2 u2 hp2 => ?_)
      obtain ⟨hr2, h2⟩ := hp2
      refine b_icmp_eq (tgt := 392) hb d_law_305 (by decide) (fun c1 => ?_) (fun c1 => ?_)
      · exact next _ _ h1 h2
      · exact absurd (hr1.trans hr2.symm) c1
    · refine l_tabIn (off := 278) (tgt := 310) hg d_law_32 (by decide) (by decide) (by decide) (by decide) ?_
      refine b_aload_n hb d_law_310 rfl rfl ?_
      refine b_aload_n hb d_law_311 rfl rfl ?_
      refine b_iload_n hb d_law_312 rfl rfl ?_
      refine b_iconst (v := nI 1) hb d_law_313 rfl ?_
      refine b_iaddN hb d_law_314 ?_
      refine l_sld hg (by omega) (by omega) d_law_315 ?_
      refine l_callXi hg (x_stemOf hJX) lk_law_X_stemOf (by decide) d_law_316 rfl (Nat.le_of_ble_eq_true rfl) (fun r1 u1 hp1 => ?_)
      obtain ⟨hr1, h1⟩ := hp1
      refine b_aload_n hb d_law_319 rfl rfl ?_
      refine b_aload_n hb d_law_320 rfl rfl ?_
      refine b_iload_n hb d_law_321 rfl rfl ?_
      refine b_iconst (v := nI 1) hb d_law_322 rfl ?_
      refine b_iaddN hb d_law_323 ?_
      refine l_sld hg (by omega) (by omega) d_law_324 ?_
      refine l_callMi hg (m_stemOf hJM) lk_law_M_stemOf (by decide) d_law_325 rfl (Nat.le_of_ble_eq_true rfl) (fun r2 u2 hp2 => ?_)
      obtain ⟨hr2, h2⟩ := hp2
      refine b_icmp_eq (tgt := 392) hb d_law_328 (by decide) (fun c1 => ?_) (fun c1 => ?_)
      · exact next _ _ h1 h2
      · exact absurd (hr1.trans hr2.symm) c1
    · refine l_tabIn (off := 301) (tgt := 333) hg d_law_32 (by decide) (by decide) (by decide) (by decide) ?_
      refine b_aload_n hb d_law_333 rfl rfl ?_
      refine b_aload_n hb d_law_334 rfl rfl ?_
      refine b_iload_n hb d_law_335 rfl rfl ?_
      refine b_iconst (v := nI 1) hb d_law_336 rfl ?_
      refine b_iaddN hb d_law_337 ?_
      refine l_sld hg (by omega) (by omega) d_law_338 ?_
      refine l_callXi hg (x_suffixOf hJX) lk_law_X_suffixOf (by decide) d_law_339 rfl (Nat.le_of_ble_eq_true rfl) (fun r1 u1 hp1 => ?_)
      obtain ⟨hr1, h1⟩ := hp1
      refine b_aload_n hb d_law_342 rfl rfl ?_
      refine b_aload_n hb d_law_343 rfl rfl ?_
      refine b_iload_n hb d_law_344 rfl rfl ?_
      refine b_iconst (v := nI 1) hb d_law_345 rfl ?_
      refine b_iaddN hb d_law_346 ?_
      refine l_sld hg (by omega) (by omega) d_law_347 ?_
      refine l_callMi hg (m_suffixOf hJM) lk_law_M_suffixOf (by decide) d_law_348 rfl (Nat.le_of_ble_eq_true rfl) (fun r2 u2 hp2 => ?_)
      obtain ⟨hr2, h2⟩ := hp2
      refine b_icmp_eq (tgt := 392) hb d_law_351 (by decide) (fun c1 => ?_) (fun c1 => ?_)
      · exact next _ _ h1 h2
      · exact absurd (hr1.trans hr2.symm) c1
    · refine l_tabIn (off := 324) (tgt := 356) hg d_law_32 (by decide) (by decide) (by decide) (by decide) ?_
      refine b_aload_n hb d_law_356 rfl rfl ?_
      refine b_aload_n hb d_law_357 rfl rfl ?_
      refine b_iload_n hb d_law_358 rfl rfl ?_
      refine b_iconst (v := nI 1) hb d_law_359 rfl ?_
      refine b_iaddN hb d_law_360 ?_
      refine l_sld hg (by omega) (by omega) d_law_361 ?_
      refine l_callXi hg (x_prefixOf hJX) lk_law_X_prefixOf (by decide) d_law_362 rfl (Nat.le_of_ble_eq_true rfl) (fun r1 u1 hp1 => ?_)
      obtain ⟨hr1, h1⟩ := hp1
      refine b_aload_n hb d_law_365 rfl rfl ?_
      refine b_aload_n hb d_law_366 rfl rfl ?_
      refine b_iload_n hb d_law_367 rfl rfl ?_
      refine b_iconst (v := nI 1) hb d_law_368 rfl ?_
      refine b_iaddN hb d_law_369 ?_
      refine l_sld hg (by omega) (by omega) d_law_370 ?_
      refine l_callMi hg (m_prefixOf hJM) lk_law_M_prefixOf (by decide) d_law_371 rfl (Nat.le_of_ble_eq_true rfl) (fun r2 u2 hp2 => ?_)
      obtain ⟨hr2, h2⟩ := hp2
      refine b_icmp_eq (tgt := 392) hb d_law_374 (by decide) (fun c1 => ?_) (fun c1 => ?_)
      · exact next _ _ h1 h2
      · exact absurd (hr1.trans hr2.symm) c1
    · refine l_tabIn (off := 347) (tgt := 379) hg d_law_32 (by decide) (by decide) (by decide) (by decide) ?_
      refine b_aload_n hb d_law_379 rfl rfl ?_
      refine l_callXi hg (x_continuations hJX) lk_law_X_continuations (by decide) d_law_380 rfl (Nat.le_of_ble_eq_true rfl) (fun r1 u1 hp1 => ?_)
      obtain ⟨hr1, h1⟩ := hp1
      refine b_aload_n hb d_law_383 rfl rfl ?_
      refine l_callMi hg (m_continuations hJM) lk_law_M_continuations (by decide) d_law_384 rfl (Nat.le_of_ble_eq_true rfl) (fun r2 u2 hp2 => ?_)
      obtain ⟨hr2, h2⟩ := hp2
      refine b_icmp_eq (tgt := 392) hb d_law_387 (by decide) (fun c1 => ?_) (fun c1 => ?_)
      · exact next _ _ h1 h2
      · exact absurd (hr1.trans hr2.symm) c1
    · refine l_tabOut (tgt := 392) hg d_law_32 (Or.inr (by rw [nI_toInt (by omega)]; omega)) (by decide) ?_
      exact next _ _ hJX hJM
end
section
/-! the law from its entry; printed by tools/start.py -/
theorem nfok_X : ∀ j : Nat, j < 24 → defaultValue (t_X j) = vp_V nf_X j
  | 0, _ => rfl
  | 1, _ => rfl
  | 2, _ => rfl
  | 3, _ => rfl
  | 4, _ => rfl
  | 5, _ => rfl
  | 6, _ => rfl
  | 7, _ => rfl
  | 8, _ => rfl
  | 9, _ => rfl
  | 10, _ => rfl
  | 11, _ => rfl
  | 12, _ => rfl
  | 13, _ => rfl
  | 14, _ => rfl
  | 15, _ => rfl
  | 16, _ => rfl
  | 17, _ => rfl
  | 18, _ => rfl
  | 19, _ => rfl
  | 20, _ => rfl
  | 21, _ => rfl
  | 22, _ => rfl
  | 23, _ => rfl
  | k + 24, h => absurd h (by omega)
theorem gi_X : GoodIn gt_tbl (.code y_X_init b_X_init 1 none :: gt_tbl) := by
  intro w hw
  rcases List.mem_cons.mp hw with rfl | q
  · exact good_in _ k_X_init
  · exact good_in w q
theorem nfok_M : ∀ j : Nat, j < 19 → defaultValue (t_M j) = vp_V nf_M j
  | 0, _ => rfl
  | 1, _ => rfl
  | 2, _ => rfl
  | 3, _ => rfl
  | 4, _ => rfl
  | 5, _ => rfl
  | 6, _ => rfl
  | 7, _ => rfl
  | 8, _ => rfl
  | 9, _ => rfl
  | 10, _ => rfl
  | 11, _ => rfl
  | 12, _ => rfl
  | 13, _ => rfl
  | 14, _ => rfl
  | 15, _ => rfl
  | 16, _ => rfl
  | 17, _ => rfl
  | 18, _ => rfl
  | k + 19, h => absurd h (by omega)
theorem gi_M : GoodIn gt_tbl (.code y_M_init b_M_init 1 none :: gt_tbl) := by
  intro w hw
  rcases List.mem_cons.mp hw with rfl | q
  · exact good_in _ k_M_init
  · exact good_in w q
set_option maxHeartbeats 4000000 in
set_option maxRecDepth 100000 in
/-- THE LAW, from its entry -/
theorem whole_start {p : Program} {e : Env} {s : State} {m : MethodId} {below : List Frame} {meth : Method} {c : Code} (l : Launch) {b L : Nat} {xs : Nat → Int32} (hL : L ≤ 2048) (C0 : lw_At p s m meth c b L xs) : W p l e room_1 s m #[Value.ref b] below meth c s.heap [] 0 0 (lw_Z below #[Value.ref b] s) (entryFrame m ([Value.ref b] : List Value).toArray 4) := by
  obtain ⟨hx, hb, hr, hml, hown, hts0, hX, hbl, hlocks, hgv⟩ := id C0
  have hts : ∀ w ∈ gt_tbl, w.before #[Value.ref b] s = true := fun w hw => hts0 w (List.mem_filter.mp hw).1
  have hA : ∀ q : Nat, s.heap.size ≤ q → (fun q : Nat => s.heap.size ≤ q) q := fun _ h => h
  have hbA : ¬ (fun q : Nat => s.heap.size ≤ q) b := Nat.not_le.mpr hbl
  obtain ⟨c0, iS0, hKn0⟩ := u_known (C := R_X) (T := F_X) (N := 24) (n := 24) hts i_X (hts _ inst_X)
  obtain ⟨c1, iS1, hKn1⟩ := u_known (C := R_M) (T := F_M) (N := 19) (n := 19) hts i_M (hts _ inst_M)
  obtain ⟨D, hKc⟩ : ∃ D : va_G, ∀ (k : Nat) (q : vw_C), classes[k]? = some q → u_Kn s q.1 q.2.1 q.2.2 (D.1 k) (D.2 k) := by
    refine ⟨(fun k => if k = 0 then c0 else c1, fun k => if k = 0 then iS0 else iS1), ?_⟩
    intro k q hq
    match k, hq with
    | 0, hq => cases hq; exact hKn0
    | 1, hq => cases hq; exact hKn1
    | k + 2, hq => simp [classes] at hq
  have hS : va_S (fun q : Nat => s.heap.size ≤ q) s.heap s.heap [] := va_S.rf
  have hK : va_K D classes [] s := ⟨hKc, fun k q h => by simp at h⟩
  have hP : va_P D classes [] s.heap := fun k q h => by simp at h
  have hD : va_D (fun q : Nat => s.heap.size ≤ q) [] := ⟨fun i j p q h => by simp at h, fun k q h => by simp at h⟩
  have hl := lv_entry ([.ref b]) (n := 4) (Nat.le_of_ble_eq_true rfl)
  rw [lg_entry_eq]
  generalize (lg_sl ([.ref b]) ++ List.replicate (4 - (lg_sl ([.ref b])).length) Slot.unset).toArray = ls at hl ⊢
  have hl : lv_has ls 4 [(0, .ref b)] := hl
  refine va_new (ci := 0) (fs := nf_X) (C := R_X) (T := F_X) (N := 24) hx hb hts i_X t_X t_X_ok hown (hts _ cl_X) (hts _ inst_X) (hts _ ini_X) hK hP hD hS hA rfl nfok_X (Nat.le_of_ble_eq_true rfl) (Nat.le_of_ble_eq_true rfl) d_law_0 (fun hX0 H hP hD hS => ?_)
  have hP : va_P D classes [(hX0, .inr (0, nf_X))] H := hP
  have hD : va_D (fun q : Nat => s.heap.size ≤ q) [(hX0, .inr (0, nf_X))] := hD
  refine W.widen (k := 1) (n := 24) (by omega) (by omega) ?_
  refine lv_dup hx hb d_law_3 rfl ?_
  have hFc := va_free (wc := [(hX0, .inr (0, nf_X))]) hD hS hA [0] rfl
  refine va_callv (va_runI (As := []) (rest := [.ref hX0]) ⟨hx, hb, hml, hown, hts⟩ (c_X_init l D hX0 H.size) (cwI 0 hts gi_X rfl rfl rfl (hts _ ini_X) (hts _ ml_law_9) (hts _ in_X_init) rfl (by decide +kernel) ⟨Nat.le_of_ble_eq_true rfl, Nat.le_of_ble_eq_true rfl⟩) ⟨fun a U g mk q => by obtain ⟨q0, q1, qP, qK, qD⟩ := q; exact ⟨q0, q1, qP, va_K.moved (u := U) (U := U.calling g mk a) (Vm.Alike.refl U.vm) qK, qD⟩, fun U hU hW => ⟨rfl, by rw [hU], by rw [hU]; exact hP, va_K.moved hW.alike hK, hD.weaken (fun _ _ _ _ => trivial)⟩⟩ rfl rfl hl.1 rfl (lv_room (Nat.le_of_ble_eq_true rfl)) d_law_4 ⟨Nat.le_of_ble_eq_true rfl, Nat.le_of_ble_eq_true rfl⟩) hS (fun q _ h => hFc q h) hFc (fun u t H1 locs ht hvm hw hB hz1 hk1 hS => ?_)
  subst hw
  obtain ⟨aX, k1, k2, hP1, hK1, hD1⟩ := hB
  rw [ht] at hP1
  have hK1 := va_K.moved hvm.symm hK1
  have hD : va_D (fun q : Nat => s.heap.size ≤ q) (zw 0 hX0 aX k1 k2 g0_X) := hD1.weaken (fun _ q _ h => hFc q.1 h)
  clear hP
  generalize H1 = H at hP1 hS ⊢
  refine W.widen (k := 17) (n := 2016) (by omega) (by omega) ?_
  refine lv_astore_n (lv' := [(1, .ref hX0), (0, .ref b)]) hx hb d_law_7 rfl hl (by decide) rfl (fun ls hl => ?_)
  refine va_new (ci := 1) (fs := nf_M) (C := R_M) (T := F_M) (N := 19) hx hb hts i_M t_M t_M_ok hown (hts _ cl_M) (hts _ inst_M) (hts _ ini_M) hK1 hP1 hD hS hA rfl nfok_M (Nat.le_of_ble_eq_true rfl) (Nat.le_of_ble_eq_true rfl) d_law_8 (fun hM0 H hP hD hS => ?_)
  refine W.widen (k := 18) (n := 2035) (by omega) (by omega) ?_
  refine lv_dup hx hb d_law_11 rfl ?_
  have hPc := hP.sub (ws' := [(hM0, .inr (1, nf_M))]) [17] rfl
  have hDc := hD.sub (ws' := [(hM0, .inr (1, nf_M))]) [17] (by decide) rfl
  have hKc2 := hK1.sub (tys' := []) [] rfl
  have hFc := va_free (wc := [(hM0, .inr (1, nf_M))]) hD hS hA [17] rfl
  refine va_callv (va_runI (As := []) (rest := [.ref hM0]) ⟨hx, hb, hml, hown, hts⟩ (c_M_init l D hM0 H.size) (cwI 0 hts gi_M rfl rfl rfl (hts _ ini_M) (hts _ ml_law_12) (hts _ in_M_init) rfl (by decide +kernel) ⟨Nat.le_of_ble_eq_true rfl, Nat.le_of_ble_eq_true rfl⟩) ⟨fun a U g mk q => by obtain ⟨q0, q1, qP, qK, qD⟩ := q; exact ⟨q0, q1, qP, va_K.moved (u := U) (U := U.calling g mk a) (Vm.Alike.refl U.vm) qK, qD⟩, fun U hU hW => ⟨rfl, by rw [hU], by rw [hU]; exact hPc, va_K.moved hW.alike hKc2, hDc.weaken (fun _ _ _ _ => trivial)⟩⟩ rfl rfl hl.1 rfl (lv_room (Nat.le_of_ble_eq_true rfl)) d_law_12 ⟨Nat.le_of_ble_eq_true rfl, Nat.le_of_ble_eq_true rfl⟩) hS (fun q _ h => hFc q h) hFc (fun u t H1 locs ht hvm hw hB hz1 hk1 hS => ?_)
  subst hw
  obtain ⟨aM, k3, k4, hP2, hK2, hD2⟩ := hB
  rw [ht] at hP2
  have hK2 := va_K.moved hvm.symm hK2
  obtain ⟨hPj, hDj⟩ := va_join (wr := zw 0 hX0 aX k1 k2 g0_X) (w1 := zw 1 hM0 aM k3 k4 g0_M) hP hD [17] [0, 1, 2, 3, 4, 5, 6, 7, 8, 9, 10, 11, 12, 13, 14, 15, 16] rfl rfl (by decide) (by decide) hk1 hFc hP2 hD2
  clear hP hP1 hPc hP2
  generalize H1 = H at hPj hS ⊢
  refine W.widen (k := 31) (n := 2425) (by omega) (by omega) ?_
  have lok : lOk hX0 hM0 aX aM b L xs (fun (g : Sg × Sg) (pc : Nat) (lv : List (Nat × Value)) (st : List Value) => ∀ (H : Heap) (locs : List Loc) (ls : Array Slot), (va_P D classes (zw 0 hX0 aX k1 k2 g.1) H ∧ va_P D classes (zw 1 hM0 aM k3 k4 g.2) H ∧ va_S (fun q : Nat => s.heap.size ≤ q) s.heap H locs) → lv_has ls 4 lv → W p l e room_1 s m #[Value.ref b] below meth c H locs 31 2425 (lw_Z below #[Value.ref b] s) (F0 m pc ls st)) := by
    refine ⟨p, l, e, s, m, _, below, meth, c, _, D, k1, k2, k3, k4, _, ⟨hx, hb, hml, hown, hts⟩, hK1, hK2, hA, ⟨hX, hbl, hbA⟩, ⟨fun g => z_moveD (Nat.zero_le _) g0_X g (va_D_left hDj), fun g => z_moveD (Nat.le_refl _) g0_M g (va_D_right hDj), ?_⟩, fun _ _ _ _ => Iff.rfl⟩
    intro g g2 i j pp q hp hq
    obtain ⟨p0, h1, e1⟩ := zw_map (Nat.zero_le _) hX0 aX k1 k2 g g0_X i pp hp
    obtain ⟨q0, h2, e2⟩ := zw_map (Nat.le_refl _) hM0 aM k3 k4 g2 g0_M j q hq
    rw [← e1, ← e2]
    exact va_D_apart hDj h1 h2
  refine lv_astore_n (lv' := [(2, .ref hM0), (1, .ref hX0), (0, .ref b)]) hx hb d_law_15 rfl hl (by decide) rfl (fun ls hl => ?_)
  refine lv_iconst (v := 0) hx hb d_law_16 (by decide) ?_
  refine lv_istore_n (lv' := [(3, .int 0), (2, .ref hM0), (1, .ref hX0), (0, .ref b)]) hx hb d_law_17 rfl hl (by decide) rfl (fun ls hl => ?_)
  refine law_loop lok hL ?_ (L + 1) 0 A0 (g0_X, g0_M) (by omega) (Nat.zero_le _) JX_0 JM_0 H locs ls ⟨va_P_left hPj, va_P_right hPj, hS⟩ hl
  intro g lv H locs ls hF hl
  refine va_forget (fun q hq => hF.2.2.2.2 q hq) ?_
  exact lw_ret hx hb hr hlocks d_law_399
end
section
set_option maxHeartbeats 4000000 in
theorem lw_walk (l : Launch) (b : Addr) (xs : List Int32) : MetFree l x (headSpec (Jvm.Cond.code x code maxLocals ret :: tables_1) room_1) (lw_P b xs) (fun _ _ _ _ _ => True) lw_Q := by
  refine MetFree.of_bodyS (code := code) (maxLocals := maxLocals) (ret := ret) (by decide) ?_ ?_
  · intro args s m h hn
    obtain ⟨meth, c, h1, h2, h3, h4, h5, h6, -, -⟩ := Cond.code_spec hn (atoms_spec (ws := Jvm.Cond.code x code maxLocals ret :: tables_1) h _ List.mem_cons_self)
    exact ⟨meth, c, h1, h2, h3, h4, h5, h6⟩
  · intro p e s m args below meth c s₁ B hml0 hP _
    obtain ⟨rfl, hx, hbd, hgv⟩ := hP
    obtain ⟨scr, harrAt, hlist, hof, hsmall⟩ := hx
    obtain ⟨hcb, hkn, -, -⟩ := State.arrayAt?_spec harrAt
    have hown : s.vm.findClass R_law = some m.cls := findClass_of_methodNamed B.named
    have hts0 : ∀ c ∈ (Jvm.Cond.code x code maxLocals ret :: tables_1), c.before #[Value.ref b] s = true := atoms_spec (ws := Jvm.Cond.code x code maxLocals ret :: tables_1) B.pre
    have hts : ∀ w ∈ lw_tbl, w.before #[Value.ref b] s = true := k2_hts_sels lw_privs (fun w hw => hts0 w (List.mem_cons_of_mem _ hw)) lw_privs_ok
    have hml : c.maxLocals = 4 := B.maxLocals_eq (hts0 _ List.mem_cons_self)
    have X₀ : Stand p l e room_1 s m #[Value.ref b] below meth c s₁ [] 0 0 := Stand.of_body B
    have hh0 : s₁.heap = s.heap := by rw [B.state]; rfl
    have hsz : scr.slots.size = xs.length := by rw [← Array.length_toList, hlist, List.length_map]
    have hval : ∀ j : Nat, j < xs.length → scr.slots[j]? = some (.int (xs.getD j 0)) := fun j hj => by
      rw [← Array.getElem?_toList, hlist]
      simp [hj]
    have hbl : b < s.heap.size := (Array.getElem?_eq_some_iff.mp hcb).1
    have hX : va_X b xs.length (fun j => xs.getD j 0) s s.heap := ⟨scr, hcb, hof, hkn, hsz, hval⟩
    have K : W p l e room_1 s m #[Value.ref b] below meth c s₁.heap [] 0 0 (lw_Z below #[Value.ref b] s) (entryFrame m ([Value.ref b] : List Value).toArray 4) := by
      rw [hh0]
      exact whole_start l hbd ⟨B.exec, B.bytes, B.returns, hml, hown, hts, hX, hbl, B.notSynchronized, hgv⟩
    obtain ⟨t, a1, o, b1, b2, b3⟩ := K s₁ rfl X₀
    exact ⟨t, o, a1, b1, b2, b3⟩
theorem lw_pre_spec {args : Array Value} {s : State} (h : (Jvm.Cond.and given_1 narrow_1).before args s = true) (hr : rest_1_c.before args s = true) : ∃ (b : Addr) (xs : List Int32), lw_P b xs args s := by
  have hs := flat_of_before _ h
  have hq := flat_of_before _ hr
  have hc : (Cond.count 1).before args s = true := hs _ (by decide +kernel)
  have harr : (Cond.arrayOf (.arg 0) .int).before args s = true := hs _ (by decide +kernel)
  have hle : (Cond.le (.length (.arg 0)) (.int 2048)).before args s = true := hs _ (by decide +kernel)
  have hlen : (Cond.isInt (.length (.arg 0))).before args s = true := hq _ (by decide +kernel)
  have hall : (Cond.all (.arg 0) (.isInt (.elem (.arg 0) (.index 0)))).before args s = true := hq _ (by decide +kernel)
  obtain ⟨b, xs, hb, hx⟩ := State.ints_of_pre rfl harr hlen hall
  have hsm : xs.length < 2 ^ 31 := hx.choose_spec.2.2.2
  have hev : (Term.length (.arg 0)).eval args s none [] s = some (.int xs.length.toInt32) := hx.length_eval hb
  have hv := Cond.le_ints hev (show (Term.int 2048).eval args s none [] s = some (.int 2048) from rfl)
  have hd : xs.length.toInt32 ≤ 2048 := by
    simpa [Cond.before, Cond.holds, hv] using hle
  have hN : xs.length ≤ 2048 := (Int32.ofNat_le_ofNat hsm (by decide)).mp (show Int32.ofNat xs.length ≤ Int32.ofNat 2048 from hd)
  exact ⟨b, xs, Cond.one_arg hc (show args[0]? = some (.ref b) from hb), hx, hN, h⟩
theorem lw_comes (l : Launch) : Comes l x (Jvm.Cond.code x code maxLocals ret :: tables_1) room_1 (fun tb e args s => Calls_1 tb e args s ∧ rest_1 tb e args s ∧ Pre_1 tb e args s)
    (fun _ _ args s o t => lw_Q args s o t) := by
  intro p e ha hc hk s m args below hf hfit hheap happ hpre
  obtain ⟨b, xs, hP⟩ := lw_pre_spec hpre.2.2 hpre.2.1
  obtain ⟨k, o, h1, h2, h3, hQ⟩ := lw_walk l b xs p e ha hc hk s m args below hf ((Spec.applies_iff_loose hf).mp happ).1 hP trivial
  exact ⟨k, o, h1, h2, h3, hQ⟩
theorem lw_frame {s t : State} {o : Outcome} {args : Array Value} (h : Framed s o t [] 31 2425) :
    Framed s o t (fieldLocs frame_1_writes args s ++ arrayLocs frame_1_arrays args s ++ staticLocs frame_1_statics s) 31 2425 := h
theorem lw_limb (L : Cond) (hL : ∀ (args : Array Value) (s t : State), L.after args s (.returned (some (.int 1))) t = true) :
    ArmFor flags0 classFile x code maxLocals ret World_1 tables_1 room_1 Calls_1 rest_1 Pre_1
      (fun tb e a s o t => postC L tb e a s o t ∧ Framed s o t (fieldLocs frame_1_writes a s ++ arrayLocs frame_1_arrays a s ++ staticLocs frame_1_statics s) 31 2425) := by
  intro l _ _ _ p e ha hc hk s m args below hf hfit hheap happ hpre
  obtain ⟨k, o, h1, h2, h3, rfl, hF⟩ := lw_comes l p e ha hc hk s m args below hf hfit hheap happ hpre
  exact ⟨k, _, h1, h2, h3, hL args s _, lw_frame hF⟩
theorem i_vc : Claimed_1_1 ∧ Claimed_1_2 := ⟨lw_limb limb_1_1 (fun args s t => by simp [limb_1_1, Cond.after, Cond.holds, Cond.value]), lw_limb limb_1_2 (fun args s t => Cond.after_iff.mpr (by
  first | (rw [show limb_1_2 = Cond.eq .result (.int 1) from rfl, Cond.eq_ints (x := 1) (y := 1) rfl rfl]; simp; done) | (simp [limb_1_2, Cond.value, Term.eval]; done)))⟩
end
