section
-- ===== PART A: goes FIRST, ahead of the names: the tables' words, and 'selects' of the private methods out of them =====
/-- a private method of a class that the tables say can be made, by its rows of tables_1 -/
def lw_okq (q : MethodName × Nat) : Prop := (q.1.cls ≠ "java/lang/invoke/MethodHandle" ∧ q.1.cls ≠ "java/lang/invoke/VarHandle") ∧ Cond.instantiable q.1.cls q.2 ∈ tables_1 ∧ Cond.privateMethod q.1 ∈ tables_1 ∧ Cond.instanceMethod q.1 ∈ tables_1
theorem lw_p0 : lw_okq (⟨"PatternSieve$Pattern", "times", "(ILPatternSieve$Pile;II)V"⟩, 11) := ⟨⟨by decide +kernel, by decide +kernel⟩, List.mem_of_getElem? (i := 31) (by decide +kernel), List.mem_of_getElem? (i := 143) (by decide +kernel), List.mem_of_getElem? (i := 144) (by decide +kernel)⟩
theorem lw_p1 : lw_okq (⟨"PatternSieve$Pattern", "once", "(ILPatternSieve$Pile;II)I"⟩, 11) := ⟨⟨by decide +kernel, by decide +kernel⟩, List.mem_of_getElem? (i := 31) (by decide +kernel), List.mem_of_getElem? (i := 147) (by decide +kernel), List.mem_of_getElem? (i := 148) (by decide +kernel)⟩
theorem lw_p2 : lw_okq (⟨"PatternSieveModel", "fitsFirst", "(I)Z"⟩, 13) := ⟨⟨by decide +kernel, by decide +kernel⟩, List.mem_of_getElem? (i := 169) (by decide +kernel), List.mem_of_getElem? (i := 249) (by decide +kernel), List.mem_of_getElem? (i := 250) (by decide +kernel)⟩
theorem lw_p3 : lw_okq (⟨"PatternSieveModel", "back", "(II)V"⟩, 13) := ⟨⟨by decide +kernel, by decide +kernel⟩, List.mem_of_getElem? (i := 169) (by decide +kernel), List.mem_of_getElem? (i := 253) (by decide +kernel), List.mem_of_getElem? (i := 254) (by decide +kernel)⟩
theorem lw_p4 : lw_okq (⟨"PatternSieveModel", "tally", "(III)V"⟩, 13) := ⟨⟨by decide +kernel, by decide +kernel⟩, List.mem_of_getElem? (i := 169) (by decide +kernel), List.mem_of_getElem? (i := 257) (by decide +kernel), List.mem_of_getElem? (i := 258) (by decide +kernel)⟩
theorem lw_p5 : lw_okq (⟨"PatternSieveModel", "stands", "(III)Z"⟩, 13) := ⟨⟨by decide +kernel, by decide +kernel⟩, List.mem_of_getElem? (i := 169) (by decide +kernel), List.mem_of_getElem? (i := 261) (by decide +kernel), List.mem_of_getElem? (i := 262) (by decide +kernel)⟩
def lw_privs_1 : List (MethodName × Nat) := [(⟨"PatternSieve$Pattern", "times", "(ILPatternSieve$Pile;II)V"⟩, 11), (⟨"PatternSieve$Pattern", "once", "(ILPatternSieve$Pile;II)I"⟩, 11), (⟨"PatternSieveModel", "fitsFirst", "(I)Z"⟩, 13), (⟨"PatternSieveModel", "back", "(II)V"⟩, 13), (⟨"PatternSieveModel", "tally", "(III)V"⟩, 13), (⟨"PatternSieveModel", "stands", "(III)Z"⟩, 13)]
theorem lw_r1 : ∀ q ∈ lw_privs_1, lw_okq q := List.forall_mem_cons.mpr ⟨lw_p0, List.forall_mem_cons.mpr ⟨lw_p1, List.forall_mem_cons.mpr ⟨lw_p2, List.forall_mem_cons.mpr ⟨lw_p3, List.forall_mem_cons.mpr ⟨lw_p4, List.forall_mem_cons.mpr ⟨lw_p5, fun _ h => absurd h List.not_mem_nil⟩⟩⟩⟩⟩⟩
def lw_privs : List (MethodName × Nat) := lw_privs_1
def lw_tbl : List Cond := k2_sels lw_privs ++ tables_1
theorem lw_privs_ok : ∀ q ∈ lw_privs, lw_okq q := lw_r1
/-- the words that every state keeps: of lw_tbl all but the private members of nest mates -/
def gw_ (w : Cond) : Bool := (w.onTables && w.keeps) || (match w with | .arrayClass _ => true | _ => false)
def tw_ : List Cond := lw_tbl.filter gw_
theorem tw_in {w : Cond} (k : Nat) (h : lw_tbl[k]? = some w) (g : gw_ w = true) : w ∈ tw_ := List.mem_filter.mpr ⟨List.mem_of_getElem? h, g⟩
theorem tw_sub : ∀ w ∈ tw_, w ∈ lw_tbl := fun _ h => (List.mem_filter.mp h).1
theorem tw_good : ∀ w ∈ tw_, (w.onTables && w.keeps) = true ∨ ∃ ty, w = .arrayClass ty := by
  intro w h
  have g := (List.mem_filter.mp h).2
  unfold gw_ at g
  rcases (Bool.or_eq_true _ _).mp g with g | g
  · exact Or.inl g
  · right
    cases w <;> first | exact ⟨_, rfl⟩ | cases g
abbrev R_Sv : String := "PatternSieve"
abbrev R_Nu : String := "PatternSieve$Numbers"
abbrev R_Pt : String := "PatternSieve$Pattern"
abbrev R_Pi : String := "PatternSieve$Pile"
abbrev R_Mo : String := "PatternSieveModel"
def F_Sv : u_T := fun k => match k with
  | 0 => ("PatternSieve", "pile", "LPatternSieve$Pile;", true)
  | _ => ("PatternSieve", "pattern", "LPatternSieve$Pattern;", true)
def t_Sv : Nat → FieldType := fun k => match k with
  | 0 => .object "PatternSieve$Pile"
  | _ => .object "PatternSieve$Pattern"
theorem n_Sv : ∀ a, a < 2 → ∀ b, b < 2 → a ≠ b → (F_Sv a).2.1 ≠ (F_Sv b).2.1 := by decide +kernel
theorem t_Sv_ok : ∀ k, k < 2 → parseFieldDescriptor (F_Sv k).2.2.1 = some (t_Sv k) := by decide +kernel
def F_Pt : u_T := fun k => match k with
  | 0 => ("PatternSieve$Pattern", "least", "[I", true)
  | 1 => ("PatternSieve$Pattern", "most", "[I", true)
  | 2 => ("PatternSieve$Pattern", "classes", "[I", true)
  | 3 => ("PatternSieve$Pattern", "from", "[I", true)
  | 4 => ("PatternSieve$Pattern", "sizes", "[I", true)
  | 5 => ("PatternSieve$Pattern", "literals", "[B", true)
  | 6 => ("PatternSieve$Pattern", "now", "[Z", true)
  | 7 => ("PatternSieve$Pattern", "then", "[Z", true)
  | 8 => ("PatternSieve$Pattern", "round", "[Z", true)
  | 9 => ("PatternSieve$Pattern", "count", "I", false)
  | _ => ("PatternSieve$Pattern", "used", "I", false)
def t_Pt : Nat → FieldType := fun k => match k with
  | 0 => .array .int
  | 1 => .array .int
  | 2 => .array .int
  | 3 => .array .int
  | 4 => .array .int
  | 5 => .array .byte
  | 6 => .array .boolean
  | 7 => .array .boolean
  | 8 => .array .boolean
  | 9 => .int
  | _ => .int
theorem n_Pt : ∀ a, a < 11 → ∀ b, b < 11 → a ≠ b → (F_Pt a).2.1 ≠ (F_Pt b).2.1 := by decide +kernel
theorem t_Pt_ok : ∀ k, k < 11 → parseFieldDescriptor (F_Pt k).2.2.1 = some (t_Pt k) := by decide +kernel
def F_Pi : u_T := fun k => match k with
  | 0 => ("PatternSieve$Pile", "bytes", "[B", true)
  | _ => ("PatternSieve$Pile", "size", "I", false)
def t_Pi : Nat → FieldType := fun k => match k with
  | 0 => .array .byte
  | _ => .int
theorem n_Pi : ∀ a, a < 2 → ∀ b, b < 2 → a ≠ b → (F_Pi a).2.1 ≠ (F_Pi b).2.1 := by decide +kernel
theorem t_Pi_ok : ∀ k, k < 2 → parseFieldDescriptor (F_Pi k).2.2.1 = some (t_Pi k) := by decide +kernel
def F_Mo : u_T := fun k => match k with
  | 0 => ("PatternSieveModel", "parts", "I", false)
  | 1 => ("PatternSieveModel", "least", "[I", true)
  | 2 => ("PatternSieveModel", "most", "[I", true)
  | 3 => ("PatternSieveModel", "classes", "[I", true)
  | 4 => ("PatternSieveModel", "own", "[I", true)
  | 5 => ("PatternSieveModel", "ownAt", "[I", true)
  | 6 => ("PatternSieveModel", "texts", "[B", true)
  | 7 => ("PatternSieveModel", "textsSize", "I", false)
  | 8 => ("PatternSieveModel", "text", "[B", true)
  | 9 => ("PatternSieveModel", "size", "I", false)
  | 10 => ("PatternSieveModel", "good", "[Z", true)
  | 11 => ("PatternSieveModel", "next", "[Z", true)
  | _ => ("PatternSieveModel", "times", "[I", true)
def t_Mo : Nat → FieldType := fun k => match k with
  | 0 => .int
  | 1 => .array .int
  | 2 => .array .int
  | 3 => .array .int
  | 4 => .array .int
  | 5 => .array .int
  | 6 => .array .byte
  | 7 => .int
  | 8 => .array .byte
  | 9 => .int
  | 10 => .array .boolean
  | 11 => .array .boolean
  | _ => .array .int
theorem n_Mo : ∀ a, a < 13 → ∀ b, b < 13 → a ≠ b → (F_Mo a).2.1 ≠ (F_Mo b).2.1 := by decide +kernel
theorem t_Mo_ok : ∀ k, k < 13 → parseFieldDescriptor (F_Mo k).2.2.1 = some (t_Mo k) := by decide +kernel
theorem tw_k0 : Cond.selects "PatternSieve$Pattern" ⟨"PatternSieve$Pattern", "times", "(ILPatternSieve$Pile;II)V"⟩ ⟨"PatternSieve$Pattern", "times", "(ILPatternSieve$Pile;II)V"⟩ ∈ tw_ := tw_in 0 rfl rfl
theorem tw_k1 : Cond.selects "PatternSieve$Pattern" ⟨"PatternSieve$Pattern", "once", "(ILPatternSieve$Pile;II)I"⟩ ⟨"PatternSieve$Pattern", "once", "(ILPatternSieve$Pile;II)I"⟩ ∈ tw_ := tw_in 1 rfl rfl
theorem tw_k2 : Cond.selects "PatternSieveModel" ⟨"PatternSieveModel", "fitsFirst", "(I)Z"⟩ ⟨"PatternSieveModel", "fitsFirst", "(I)Z"⟩ ∈ tw_ := tw_in 2 rfl rfl
theorem tw_k3 : Cond.selects "PatternSieveModel" ⟨"PatternSieveModel", "back", "(II)V"⟩ ⟨"PatternSieveModel", "back", "(II)V"⟩ ∈ tw_ := tw_in 3 rfl rfl
theorem tw_k4 : Cond.selects "PatternSieveModel" ⟨"PatternSieveModel", "tally", "(III)V"⟩ ⟨"PatternSieveModel", "tally", "(III)V"⟩ ∈ tw_ := tw_in 4 rfl rfl
theorem tw_k5 : Cond.selects "PatternSieveModel" ⟨"PatternSieveModel", "stands", "(III)Z"⟩ ⟨"PatternSieveModel", "stands", "(III)Z"⟩ ∈ tw_ := tw_in 5 rfl rfl
theorem tw_k6 : Cond.initialized "PatternSieveLaw" ∈ tw_ := tw_in 6 rfl rfl
theorem tw_k7 : Cond.initialized "PatternSieve" ∈ tw_ := tw_in 7 rfl rfl
theorem tw_k8 : Cond.initialized "PatternSieve$Pile" ∈ tw_ := tw_in 8 rfl rfl
theorem tw_k9 : Cond.initialized "PatternSieve$Pattern" ∈ tw_ := tw_in 9 rfl rfl
theorem tw_k10 : Cond.initialized "PatternSieveModel" ∈ tw_ := tw_in 10 rfl rfl
theorem tw_k11 : Cond.initialized "PatternSieve$Numbers" ∈ tw_ := tw_in 11 rfl rfl
theorem tw_k12 : Cond.classLink "PatternSieveLaw" 7 "PatternSieve" ∈ tw_ := tw_in 12 rfl rfl
theorem tw_k13 : Cond.instantiable "PatternSieve" 2 ∈ tw_ := tw_in 13 rfl rfl
theorem tw_k14 : Cond.methodLink "PatternSieveLaw" 9 ⟨"PatternSieve", "<init>", "()V"⟩ ∈ tw_ := tw_in 14 rfl rfl
theorem tw_k15 : Cond.instanceMethod ⟨"PatternSieve", "<init>", "()V"⟩ ∈ tw_ := tw_in 15 rfl rfl
theorem tw_k16 : Cond.code ⟨"PatternSieve", "<init>", "()V"⟩ prog_1_method_1_code 1 none ∈ tw_ := tw_in 16 rfl rfl
theorem tw_k17 : Cond.methodLink "PatternSieve" 1 ⟨"java/lang/Object", "<init>", "()V"⟩ ∈ tw_ := tw_in 17 rfl rfl
theorem tw_k18 : Cond.instanceMethod ⟨"java/lang/Object", "<init>", "()V"⟩ ∈ tw_ := tw_in 18 rfl rfl
theorem tw_k19 : Cond.code ⟨"java/lang/Object", "<init>", "()V"⟩ object_method_1_code 1 none ∈ tw_ := tw_in 19 rfl rfl
theorem tw_k20 : Cond.classLink "PatternSieve" 7 "PatternSieve$Pile" ∈ tw_ := tw_in 20 rfl rfl
theorem tw_k21 : Cond.instantiable "PatternSieve$Pile" 2 ∈ tw_ := tw_in 21 rfl rfl
theorem tw_k23 : Cond.instanceMethod ⟨"PatternSieve$Pile", "<init>", "()V"⟩ ∈ tw_ := tw_in 23 rfl rfl
theorem tw_k24 : Cond.code ⟨"PatternSieve$Pile", "<init>", "()V"⟩ prog_4_method_1_code 1 none ∈ tw_ := tw_in 24 rfl rfl
theorem tw_k25 : Cond.methodLink "PatternSieve$Pile" 3 ⟨"java/lang/Object", "<init>", "()V"⟩ ∈ tw_ := tw_in 25 rfl rfl
theorem tw_k26 : Cond.fieldLink "PatternSieve$Pile" 9 "PatternSieve$Pile" "bytes" "[B" ∈ tw_ := tw_in 26 rfl rfl
theorem tw_k28 : Cond.fieldLink "PatternSieve$Pile" 15 "PatternSieve$Pile" "size" "I" ∈ tw_ := tw_in 28 rfl rfl
theorem tw_k30 : Cond.laysFinal "PatternSieve$Pile" "PatternSieve$Pile" "bytes" "[B" ∈ tw_ := tw_in 30 rfl rfl
theorem tw_k32 : Cond.lays "PatternSieve$Pile" "PatternSieve$Pile" "size" "I" ∈ tw_ := tw_in 32 rfl rfl
theorem tw_k35 : Cond.arrayClass FieldType.byte ∈ tw_ := tw_in 35 rfl rfl
theorem tw_k36 : Cond.classLink "PatternSieve" 16 "PatternSieve$Pattern" ∈ tw_ := tw_in 36 rfl rfl
theorem tw_k37 : Cond.instantiable "PatternSieve$Pattern" 11 ∈ tw_ := tw_in 37 rfl rfl
theorem tw_k39 : Cond.instanceMethod ⟨"PatternSieve$Pattern", "<init>", "()V"⟩ ∈ tw_ := tw_in 39 rfl rfl
theorem tw_k40 : Cond.code ⟨"PatternSieve$Pattern", "<init>", "()V"⟩ prog_3_method_1_code 1 none ∈ tw_ := tw_in 40 rfl rfl
theorem tw_k41 : Cond.methodLink "PatternSieve$Pattern" 3 ⟨"java/lang/Object", "<init>", "()V"⟩ ∈ tw_ := tw_in 41 rfl rfl
theorem tw_k42 : Cond.fieldLink "PatternSieve$Pattern" 11 "PatternSieve$Pattern" "least" "[I" ∈ tw_ := tw_in 42 rfl rfl
theorem tw_k43 : Cond.fieldLink "PatternSieve$Pattern" 15 "PatternSieve$Pattern" "most" "[I" ∈ tw_ := tw_in 43 rfl rfl
theorem tw_k44 : Cond.fieldLink "PatternSieve$Pattern" 18 "PatternSieve$Pattern" "classes" "[I" ∈ tw_ := tw_in 44 rfl rfl
theorem tw_k46 : Cond.fieldLink "PatternSieve$Pattern" 21 "PatternSieve$Pattern" "from" "[I" ∈ tw_ := tw_in 46 rfl rfl
theorem tw_k47 : Cond.fieldLink "PatternSieve$Pattern" 24 "PatternSieve$Pattern" "sizes" "[I" ∈ tw_ := tw_in 47 rfl rfl
theorem tw_k49 : Cond.fieldLink "PatternSieve$Pattern" 27 "PatternSieve$Pattern" "literals" "[B" ∈ tw_ := tw_in 49 rfl rfl
theorem tw_k50 : Cond.fieldLink "PatternSieve$Pattern" 31 "PatternSieve$Pattern" "now" "[Z" ∈ tw_ := tw_in 50 rfl rfl
theorem tw_k52 : Cond.fieldLink "PatternSieve$Pattern" 35 "PatternSieve$Pattern" "then" "[Z" ∈ tw_ := tw_in 52 rfl rfl
theorem tw_k53 : Cond.fieldLink "PatternSieve$Pattern" 38 "PatternSieve$Pattern" "round" "[Z" ∈ tw_ := tw_in 53 rfl rfl
theorem tw_k54 : Cond.fieldLink "PatternSieve$Pattern" 41 "PatternSieve$Pattern" "count" "I" ∈ tw_ := tw_in 54 rfl rfl
theorem tw_k56 : Cond.fieldLink "PatternSieve$Pattern" 45 "PatternSieve$Pattern" "used" "I" ∈ tw_ := tw_in 56 rfl rfl
theorem tw_k58 : Cond.laysFinal "PatternSieve$Pattern" "PatternSieve$Pattern" "least" "[I" ∈ tw_ := tw_in 58 rfl rfl
theorem tw_k60 : Cond.laysFinal "PatternSieve$Pattern" "PatternSieve$Pattern" "most" "[I" ∈ tw_ := tw_in 60 rfl rfl
theorem tw_k62 : Cond.laysFinal "PatternSieve$Pattern" "PatternSieve$Pattern" "classes" "[I" ∈ tw_ := tw_in 62 rfl rfl
theorem tw_k64 : Cond.laysFinal "PatternSieve$Pattern" "PatternSieve$Pattern" "from" "[I" ∈ tw_ := tw_in 64 rfl rfl
theorem tw_k66 : Cond.laysFinal "PatternSieve$Pattern" "PatternSieve$Pattern" "sizes" "[I" ∈ tw_ := tw_in 66 rfl rfl
theorem tw_k68 : Cond.laysFinal "PatternSieve$Pattern" "PatternSieve$Pattern" "literals" "[B" ∈ tw_ := tw_in 68 rfl rfl
theorem tw_k70 : Cond.laysFinal "PatternSieve$Pattern" "PatternSieve$Pattern" "now" "[Z" ∈ tw_ := tw_in 70 rfl rfl
theorem tw_k72 : Cond.laysFinal "PatternSieve$Pattern" "PatternSieve$Pattern" "then" "[Z" ∈ tw_ := tw_in 72 rfl rfl
theorem tw_k74 : Cond.laysFinal "PatternSieve$Pattern" "PatternSieve$Pattern" "round" "[Z" ∈ tw_ := tw_in 74 rfl rfl
theorem tw_k76 : Cond.lays "PatternSieve$Pattern" "PatternSieve$Pattern" "count" "I" ∈ tw_ := tw_in 76 rfl rfl
theorem tw_k78 : Cond.lays "PatternSieve$Pattern" "PatternSieve$Pattern" "used" "I" ∈ tw_ := tw_in 78 rfl rfl
theorem tw_k81 : Cond.arrayClass FieldType.int ∈ tw_ := tw_in 81 rfl rfl
theorem tw_k82 : Cond.arrayClass FieldType.boolean ∈ tw_ := tw_in 82 rfl rfl
theorem tw_k83 : Cond.fieldLink "PatternSieve" 10 "PatternSieve" "pile" "LPatternSieve$Pile;" ∈ tw_ := tw_in 83 rfl rfl
theorem tw_k84 : Cond.fieldLink "PatternSieve" 19 "PatternSieve" "pattern" "LPatternSieve$Pattern;" ∈ tw_ := tw_in 84 rfl rfl
theorem tw_k85 : Cond.laysFinal "PatternSieve" "PatternSieve" "pile" "LPatternSieve$Pile;" ∈ tw_ := tw_in 85 rfl rfl
theorem tw_k87 : Cond.laysFinal "PatternSieve" "PatternSieve" "pattern" "LPatternSieve$Pattern;" ∈ tw_ := tw_in 87 rfl rfl
theorem tw_k90 : Cond.methodLink "PatternSieveLaw" 13 ⟨"PatternSieve", "clear", "()V"⟩ ∈ tw_ := tw_in 90 rfl rfl
theorem tw_k91 : Cond.instanceMethod ⟨"PatternSieve", "clear", "()V"⟩ ∈ tw_ := tw_in 91 rfl rfl
theorem tw_k92 : Cond.selects "PatternSieve" ⟨"PatternSieve", "clear", "()V"⟩ ⟨"PatternSieve", "clear", "()V"⟩ ∈ tw_ := tw_in 92 rfl rfl
theorem tw_k93 : Cond.code ⟨"PatternSieve", "clear", "()V"⟩ prog_1_method_2_code 1 none ∈ tw_ := tw_in 93 rfl rfl
theorem tw_k94 : Cond.methodLink "PatternSieve" 23 ⟨"PatternSieve$Pattern", "clear", "()V"⟩ ∈ tw_ := tw_in 94 rfl rfl
theorem tw_k95 : Cond.instanceMethod ⟨"PatternSieve$Pattern", "clear", "()V"⟩ ∈ tw_ := tw_in 95 rfl rfl
theorem tw_k96 : Cond.selects "PatternSieve$Pattern" ⟨"PatternSieve$Pattern", "clear", "()V"⟩ ⟨"PatternSieve$Pattern", "clear", "()V"⟩ ∈ tw_ := tw_in 96 rfl rfl
theorem tw_k97 : Cond.code ⟨"PatternSieve$Pattern", "clear", "()V"⟩ prog_3_method_2_code 1 none ∈ tw_ := tw_in 97 rfl rfl
theorem tw_k98 : Cond.methodLink "PatternSieveLaw" 17 ⟨"PatternSieve", "part", "(II)Z"⟩ ∈ tw_ := tw_in 98 rfl rfl
theorem tw_k99 : Cond.instanceMethod ⟨"PatternSieve", "part", "(II)Z"⟩ ∈ tw_ := tw_in 99 rfl rfl
theorem tw_k100 : Cond.selects "PatternSieve" ⟨"PatternSieve", "part", "(II)Z"⟩ ⟨"PatternSieve", "part", "(II)Z"⟩ ∈ tw_ := tw_in 100 rfl rfl
theorem tw_k101 : Cond.code ⟨"PatternSieve", "part", "(II)Z"⟩ prog_1_method_4_code 3 (some FieldType.boolean) ∈ tw_ := tw_in 101 rfl rfl
theorem tw_k102 : Cond.methodLink "PatternSieve" 30 ⟨"PatternSieve", "isTimes", "(I)Z"⟩ ∈ tw_ := tw_in 102 rfl rfl
theorem tw_k103 : Cond.static ⟨"PatternSieve", "isTimes", "(I)Z"⟩ ∈ tw_ := tw_in 103 rfl rfl
theorem tw_k104 : Cond.code ⟨"PatternSieve", "isTimes", "(I)Z"⟩ prog_1_method_3_code 1 (some FieldType.boolean) ∈ tw_ := tw_in 104 rfl rfl
theorem tw_k105 : Cond.methodLink "PatternSieve" 34 ⟨"PatternSieve$Pattern", "part", "(II)V"⟩ ∈ tw_ := tw_in 105 rfl rfl
theorem tw_k106 : Cond.instanceMethod ⟨"PatternSieve$Pattern", "part", "(II)V"⟩ ∈ tw_ := tw_in 106 rfl rfl
theorem tw_k107 : Cond.selects "PatternSieve$Pattern" ⟨"PatternSieve$Pattern", "part", "(II)V"⟩ ⟨"PatternSieve$Pattern", "part", "(II)V"⟩ ∈ tw_ := tw_in 107 rfl rfl
theorem tw_k108 : Cond.code ⟨"PatternSieve$Pattern", "part", "(II)V"⟩ prog_3_method_3_code 3 none ∈ tw_ := tw_in 108 rfl rfl
theorem tw_k109 : Cond.methodLink "PatternSieveLaw" 22 ⟨"PatternSieve", "letter", "(I)Z"⟩ ∈ tw_ := tw_in 109 rfl rfl
theorem tw_k110 : Cond.instanceMethod ⟨"PatternSieve", "letter", "(I)Z"⟩ ∈ tw_ := tw_in 110 rfl rfl
theorem tw_k111 : Cond.selects "PatternSieve" ⟨"PatternSieve", "letter", "(I)Z"⟩ ⟨"PatternSieve", "letter", "(I)Z"⟩ ∈ tw_ := tw_in 111 rfl rfl
theorem tw_k112 : Cond.code ⟨"PatternSieve", "letter", "(I)Z"⟩ prog_1_method_5_code 2 (some FieldType.boolean) ∈ tw_ := tw_in 112 rfl rfl
theorem tw_k113 : Cond.methodLink "PatternSieve" 42 ⟨"PatternSieve$Pattern", "isClass", "(I)Z"⟩ ∈ tw_ := tw_in 113 rfl rfl
theorem tw_k114 : Cond.static ⟨"PatternSieve$Pattern", "isClass", "(I)Z"⟩ ∈ tw_ := tw_in 114 rfl rfl
theorem tw_k115 : Cond.code ⟨"PatternSieve$Pattern", "isClass", "(I)Z"⟩ prog_3_method_5_code 1 (some FieldType.boolean) ∈ tw_ := tw_in 115 rfl rfl
theorem tw_k116 : Cond.methodLink "PatternSieve" 45 ⟨"PatternSieve$Pattern", "letter", "(I)V"⟩ ∈ tw_ := tw_in 116 rfl rfl
theorem tw_k117 : Cond.instanceMethod ⟨"PatternSieve$Pattern", "letter", "(I)V"⟩ ∈ tw_ := tw_in 117 rfl rfl
theorem tw_k118 : Cond.selects "PatternSieve$Pattern" ⟨"PatternSieve$Pattern", "letter", "(I)V"⟩ ⟨"PatternSieve$Pattern", "letter", "(I)V"⟩ ∈ tw_ := tw_in 118 rfl rfl
theorem tw_k119 : Cond.code ⟨"PatternSieve$Pattern", "letter", "(I)V"⟩ prog_3_method_4_code 3 none ∈ tw_ := tw_in 119 rfl rfl
theorem tw_k120 : Cond.methodLink "PatternSieveLaw" 27 ⟨"PatternSieve", "literal", "(I)Z"⟩ ∈ tw_ := tw_in 120 rfl rfl
theorem tw_k121 : Cond.instanceMethod ⟨"PatternSieve", "literal", "(I)Z"⟩ ∈ tw_ := tw_in 121 rfl rfl
theorem tw_k122 : Cond.selects "PatternSieve" ⟨"PatternSieve", "literal", "(I)Z"⟩ ⟨"PatternSieve", "literal", "(I)Z"⟩ ∈ tw_ := tw_in 122 rfl rfl
theorem tw_k123 : Cond.code ⟨"PatternSieve", "literal", "(I)Z"⟩ prog_1_method_6_code 2 (some FieldType.boolean) ∈ tw_ := tw_in 123 rfl rfl
theorem tw_k124 : Cond.methodLink "PatternSieve" 55 ⟨"PatternSieve$Pattern", "literal", "(I)V"⟩ ∈ tw_ := tw_in 124 rfl rfl
theorem tw_k125 : Cond.instanceMethod ⟨"PatternSieve$Pattern", "literal", "(I)V"⟩ ∈ tw_ := tw_in 125 rfl rfl
theorem tw_k126 : Cond.selects "PatternSieve$Pattern" ⟨"PatternSieve$Pattern", "literal", "(I)V"⟩ ⟨"PatternSieve$Pattern", "literal", "(I)V"⟩ ∈ tw_ := tw_in 126 rfl rfl
theorem tw_k127 : Cond.code ⟨"PatternSieve$Pattern", "literal", "(I)V"⟩ prog_3_method_6_code 2 none ∈ tw_ := tw_in 127 rfl rfl
theorem tw_k128 : Cond.methodLink "PatternSieveLaw" 31 ⟨"PatternSieve", "begin", "()V"⟩ ∈ tw_ := tw_in 128 rfl rfl
theorem tw_k129 : Cond.instanceMethod ⟨"PatternSieve", "begin", "()V"⟩ ∈ tw_ := tw_in 129 rfl rfl
theorem tw_k130 : Cond.selects "PatternSieve" ⟨"PatternSieve", "begin", "()V"⟩ ⟨"PatternSieve", "begin", "()V"⟩ ∈ tw_ := tw_in 130 rfl rfl
theorem tw_k131 : Cond.code ⟨"PatternSieve", "begin", "()V"⟩ prog_1_method_7_code 1 none ∈ tw_ := tw_in 131 rfl rfl
theorem tw_k132 : Cond.methodLink "PatternSieveLaw" 35 ⟨"PatternSieve", "add", "(I)Z"⟩ ∈ tw_ := tw_in 132 rfl rfl
theorem tw_k133 : Cond.instanceMethod ⟨"PatternSieve", "add", "(I)Z"⟩ ∈ tw_ := tw_in 133 rfl rfl
theorem tw_k134 : Cond.selects "PatternSieve" ⟨"PatternSieve", "add", "(I)Z"⟩ ⟨"PatternSieve", "add", "(I)Z"⟩ ∈ tw_ := tw_in 134 rfl rfl
theorem tw_k135 : Cond.code ⟨"PatternSieve", "add", "(I)Z"⟩ prog_1_method_8_code 2 (some FieldType.boolean) ∈ tw_ := tw_in 135 rfl rfl
theorem tw_k136 : Cond.methodLink "PatternSieveLaw" 39 ⟨"PatternSieve", "fits", "()Z"⟩ ∈ tw_ := tw_in 136 rfl rfl
theorem tw_k137 : Cond.instanceMethod ⟨"PatternSieve", "fits", "()Z"⟩ ∈ tw_ := tw_in 137 rfl rfl
theorem tw_k138 : Cond.selects "PatternSieve" ⟨"PatternSieve", "fits", "()Z"⟩ ⟨"PatternSieve", "fits", "()Z"⟩ ∈ tw_ := tw_in 138 rfl rfl
theorem tw_k139 : Cond.code ⟨"PatternSieve", "fits", "()Z"⟩ prog_1_method_9_code 1 (some FieldType.boolean) ∈ tw_ := tw_in 139 rfl rfl
theorem tw_k140 : Cond.methodLink "PatternSieve" 65 ⟨"PatternSieve$Pattern", "fits", "(LPatternSieve$Pile;I)Z"⟩ ∈ tw_ := tw_in 140 rfl rfl
theorem tw_k141 : Cond.instanceMethod ⟨"PatternSieve$Pattern", "fits", "(LPatternSieve$Pile;I)Z"⟩ ∈ tw_ := tw_in 141 rfl rfl
theorem tw_k142 : Cond.selects "PatternSieve$Pattern" ⟨"PatternSieve$Pattern", "fits", "(LPatternSieve$Pile;I)Z"⟩ ⟨"PatternSieve$Pattern", "fits", "(LPatternSieve$Pile;I)Z"⟩ ∈ tw_ := tw_in 142 rfl rfl
theorem tw_k143 : Cond.code ⟨"PatternSieve$Pattern", "fits", "(LPatternSieve$Pile;I)Z"⟩ prog_3_method_9_code 6 (some FieldType.boolean) ∈ tw_ := tw_in 143 rfl rfl
theorem tw_k144 : Cond.methodLink "PatternSieve$Pattern" 54 ⟨"PatternSieve$Pile", "size", "(I)I"⟩ ∈ tw_ := tw_in 144 rfl rfl
theorem tw_k145 : Cond.instanceMethod ⟨"PatternSieve$Pile", "size", "(I)I"⟩ ∈ tw_ := tw_in 145 rfl rfl
theorem tw_k146 : Cond.selects "PatternSieve$Pile" ⟨"PatternSieve$Pile", "size", "(I)I"⟩ ⟨"PatternSieve$Pile", "size", "(I)I"⟩ ∈ tw_ := tw_in 146 rfl rfl
theorem tw_k147 : Cond.code ⟨"PatternSieve$Pile", "size", "(I)I"⟩ prog_4_method_2_code 2 (some FieldType.int) ∈ tw_ := tw_in 147 rfl rfl
theorem tw_k148 : Cond.methodLink "PatternSieve$Pattern" 67 ⟨"PatternSieve$Pattern", "times", "(ILPatternSieve$Pile;II)V"⟩ ∈ tw_ := tw_in 148 rfl rfl
theorem tw_k150 : Cond.instanceMethod ⟨"PatternSieve$Pattern", "times", "(ILPatternSieve$Pile;II)V"⟩ ∈ tw_ := tw_in 150 rfl rfl
theorem tw_k151 : Cond.code ⟨"PatternSieve$Pattern", "times", "(ILPatternSieve$Pile;II)V"⟩ prog_3_method_10_code 9 none ∈ tw_ := tw_in 151 rfl rfl
theorem tw_k152 : Cond.methodLink "PatternSieve$Pattern" 71 ⟨"PatternSieve$Pattern", "once", "(ILPatternSieve$Pile;II)I"⟩ ∈ tw_ := tw_in 152 rfl rfl
theorem tw_k154 : Cond.instanceMethod ⟨"PatternSieve$Pattern", "once", "(ILPatternSieve$Pile;II)I"⟩ ∈ tw_ := tw_in 154 rfl rfl
theorem tw_k155 : Cond.code ⟨"PatternSieve$Pattern", "once", "(ILPatternSieve$Pile;II)I"⟩ prog_3_method_8_code 7 (some FieldType.int) ∈ tw_ := tw_in 155 rfl rfl
theorem tw_k156 : Cond.methodLink "PatternSieve$Pattern" 60 ⟨"PatternSieve$Pile", "get", "(II)I"⟩ ∈ tw_ := tw_in 156 rfl rfl
theorem tw_k157 : Cond.instanceMethod ⟨"PatternSieve$Pile", "get", "(II)I"⟩ ∈ tw_ := tw_in 157 rfl rfl
theorem tw_k158 : Cond.selects "PatternSieve$Pile" ⟨"PatternSieve$Pile", "get", "(II)I"⟩ ⟨"PatternSieve$Pile", "get", "(II)I"⟩ ∈ tw_ := tw_in 158 rfl rfl
theorem tw_k159 : Cond.code ⟨"PatternSieve$Pile", "get", "(II)I"⟩ prog_4_method_3_code 3 (some FieldType.int) ∈ tw_ := tw_in 159 rfl rfl
theorem tw_k160 : Cond.methodLink "PatternSieve$Pattern" 64 ⟨"PatternSieve$Pattern", "classOf", "(I)I"⟩ ∈ tw_ := tw_in 160 rfl rfl
theorem tw_k161 : Cond.static ⟨"PatternSieve$Pattern", "classOf", "(I)I"⟩ ∈ tw_ := tw_in 161 rfl rfl
theorem tw_k162 : Cond.code ⟨"PatternSieve$Pattern", "classOf", "(I)I"⟩ prog_3_method_7_code 1 (some FieldType.int) ∈ tw_ := tw_in 162 rfl rfl
theorem tw_k163 : Cond.methodLink "PatternSieve$Pattern" 48 ⟨"PatternSieve$Numbers", "isDigit", "(I)Z"⟩ ∈ tw_ := tw_in 163 rfl rfl
theorem tw_k164 : Cond.static ⟨"PatternSieve$Numbers", "isDigit", "(I)Z"⟩ ∈ tw_ := tw_in 164 rfl rfl
theorem tw_k165 : Cond.code ⟨"PatternSieve$Numbers", "isDigit", "(I)Z"⟩ prog_2_method_2_code 1 (some FieldType.boolean) ∈ tw_ := tw_in 165 rfl rfl
theorem tw_k166 : Cond.methodLink "PatternSieveLaw" 44 ⟨"PatternSieve", "prefix", "(I)Z"⟩ ∈ tw_ := tw_in 166 rfl rfl
theorem tw_k167 : Cond.instanceMethod ⟨"PatternSieve", "prefix", "(I)Z"⟩ ∈ tw_ := tw_in 167 rfl rfl
theorem tw_k168 : Cond.selects "PatternSieve" ⟨"PatternSieve", "prefix", "(I)Z"⟩ ⟨"PatternSieve", "prefix", "(I)Z"⟩ ∈ tw_ := tw_in 168 rfl rfl
theorem tw_k169 : Cond.code ⟨"PatternSieve", "prefix", "(I)Z"⟩ prog_1_method_10_code 3 (some FieldType.boolean) ∈ tw_ := tw_in 169 rfl rfl
theorem tw_k170 : Cond.methodLink "PatternSieveLaw" 48 ⟨"PatternSieve", "count", "(I)I"⟩ ∈ tw_ := tw_in 170 rfl rfl
theorem tw_k171 : Cond.instanceMethod ⟨"PatternSieve", "count", "(I)I"⟩ ∈ tw_ := tw_in 171 rfl rfl
theorem tw_k172 : Cond.selects "PatternSieve" ⟨"PatternSieve", "count", "(I)I"⟩ ⟨"PatternSieve", "count", "(I)I"⟩ ∈ tw_ := tw_in 172 rfl rfl
theorem tw_k173 : Cond.code ⟨"PatternSieve", "count", "(I)I"⟩ prog_1_method_11_code 2 (some FieldType.int) ∈ tw_ := tw_in 173 rfl rfl
theorem tw_k174 : Cond.classLink "PatternSieveLaw" 10 "PatternSieveModel" ∈ tw_ := tw_in 174 rfl rfl
theorem tw_k175 : Cond.instantiable "PatternSieveModel" 13 ∈ tw_ := tw_in 175 rfl rfl
theorem tw_k176 : Cond.methodLink "PatternSieveLaw" 12 ⟨"PatternSieveModel", "<init>", "()V"⟩ ∈ tw_ := tw_in 176 rfl rfl
theorem tw_k177 : Cond.instanceMethod ⟨"PatternSieveModel", "<init>", "()V"⟩ ∈ tw_ := tw_in 177 rfl rfl
theorem tw_k178 : Cond.code ⟨"PatternSieveModel", "<init>", "()V"⟩ prog_6_method_1_code 1 none ∈ tw_ := tw_in 178 rfl rfl
theorem tw_k179 : Cond.methodLink "PatternSieveModel" 1 ⟨"java/lang/Object", "<init>", "()V"⟩ ∈ tw_ := tw_in 179 rfl rfl
theorem tw_k180 : Cond.fieldLink "PatternSieveModel" 42 "PatternSieveModel" "parts" "I" ∈ tw_ := tw_in 180 rfl rfl
theorem tw_k181 : Cond.fieldLink "PatternSieveModel" 7 "PatternSieveModel" "least" "[I" ∈ tw_ := tw_in 181 rfl rfl
theorem tw_k182 : Cond.fieldLink "PatternSieveModel" 13 "PatternSieveModel" "most" "[I" ∈ tw_ := tw_in 182 rfl rfl
theorem tw_k183 : Cond.fieldLink "PatternSieveModel" 16 "PatternSieveModel" "classes" "[I" ∈ tw_ := tw_in 183 rfl rfl
theorem tw_k184 : Cond.fieldLink "PatternSieveModel" 19 "PatternSieveModel" "own" "[I" ∈ tw_ := tw_in 184 rfl rfl
theorem tw_k185 : Cond.fieldLink "PatternSieveModel" 22 "PatternSieveModel" "ownAt" "[I" ∈ tw_ := tw_in 185 rfl rfl
theorem tw_k186 : Cond.fieldLink "PatternSieveModel" 25 "PatternSieveModel" "texts" "[B" ∈ tw_ := tw_in 186 rfl rfl
theorem tw_k187 : Cond.fieldLink "PatternSieveModel" 46 "PatternSieveModel" "textsSize" "I" ∈ tw_ := tw_in 187 rfl rfl
theorem tw_k188 : Cond.fieldLink "PatternSieveModel" 29 "PatternSieveModel" "text" "[B" ∈ tw_ := tw_in 188 rfl rfl
theorem tw_k189 : Cond.fieldLink "PatternSieveModel" 57 "PatternSieveModel" "size" "I" ∈ tw_ := tw_in 189 rfl rfl
theorem tw_k190 : Cond.fieldLink "PatternSieveModel" 32 "PatternSieveModel" "good" "[Z" ∈ tw_ := tw_in 190 rfl rfl
theorem tw_k191 : Cond.fieldLink "PatternSieveModel" 36 "PatternSieveModel" "next" "[Z" ∈ tw_ := tw_in 191 rfl rfl
theorem tw_k192 : Cond.fieldLink "PatternSieveModel" 39 "PatternSieveModel" "times" "[I" ∈ tw_ := tw_in 192 rfl rfl
theorem tw_k193 : Cond.lays "PatternSieveModel" "PatternSieveModel" "parts" "I" ∈ tw_ := tw_in 193 rfl rfl
theorem tw_k195 : Cond.laysFinal "PatternSieveModel" "PatternSieveModel" "least" "[I" ∈ tw_ := tw_in 195 rfl rfl
theorem tw_k197 : Cond.laysFinal "PatternSieveModel" "PatternSieveModel" "most" "[I" ∈ tw_ := tw_in 197 rfl rfl
theorem tw_k199 : Cond.laysFinal "PatternSieveModel" "PatternSieveModel" "classes" "[I" ∈ tw_ := tw_in 199 rfl rfl
theorem tw_k201 : Cond.laysFinal "PatternSieveModel" "PatternSieveModel" "own" "[I" ∈ tw_ := tw_in 201 rfl rfl
theorem tw_k203 : Cond.laysFinal "PatternSieveModel" "PatternSieveModel" "ownAt" "[I" ∈ tw_ := tw_in 203 rfl rfl
theorem tw_k205 : Cond.laysFinal "PatternSieveModel" "PatternSieveModel" "texts" "[B" ∈ tw_ := tw_in 205 rfl rfl
theorem tw_k207 : Cond.lays "PatternSieveModel" "PatternSieveModel" "textsSize" "I" ∈ tw_ := tw_in 207 rfl rfl
theorem tw_k209 : Cond.laysFinal "PatternSieveModel" "PatternSieveModel" "text" "[B" ∈ tw_ := tw_in 209 rfl rfl
theorem tw_k211 : Cond.lays "PatternSieveModel" "PatternSieveModel" "size" "I" ∈ tw_ := tw_in 211 rfl rfl
theorem tw_k213 : Cond.laysFinal "PatternSieveModel" "PatternSieveModel" "good" "[Z" ∈ tw_ := tw_in 213 rfl rfl
theorem tw_k215 : Cond.laysFinal "PatternSieveModel" "PatternSieveModel" "next" "[Z" ∈ tw_ := tw_in 215 rfl rfl
theorem tw_k217 : Cond.laysFinal "PatternSieveModel" "PatternSieveModel" "times" "[I" ∈ tw_ := tw_in 217 rfl rfl
theorem tw_k220 : Cond.methodLink "PatternSieveLaw" 16 ⟨"PatternSieveModel", "clear", "()V"⟩ ∈ tw_ := tw_in 220 rfl rfl
theorem tw_k221 : Cond.instanceMethod ⟨"PatternSieveModel", "clear", "()V"⟩ ∈ tw_ := tw_in 221 rfl rfl
theorem tw_k222 : Cond.selects "PatternSieveModel" ⟨"PatternSieveModel", "clear", "()V"⟩ ⟨"PatternSieveModel", "clear", "()V"⟩ ∈ tw_ := tw_in 222 rfl rfl
theorem tw_k223 : Cond.code ⟨"PatternSieveModel", "clear", "()V"⟩ prog_6_method_2_code 1 none ∈ tw_ := tw_in 223 rfl rfl
theorem tw_k224 : Cond.methodLink "PatternSieveLaw" 21 ⟨"PatternSieveModel", "part", "(II)Z"⟩ ∈ tw_ := tw_in 224 rfl rfl
theorem tw_k225 : Cond.instanceMethod ⟨"PatternSieveModel", "part", "(II)Z"⟩ ∈ tw_ := tw_in 225 rfl rfl
theorem tw_k226 : Cond.selects "PatternSieveModel" ⟨"PatternSieveModel", "part", "(II)Z"⟩ ⟨"PatternSieveModel", "part", "(II)Z"⟩ ∈ tw_ := tw_in 226 rfl rfl
theorem tw_k227 : Cond.code ⟨"PatternSieveModel", "part", "(II)Z"⟩ prog_6_method_4_code 3 (some FieldType.boolean) ∈ tw_ := tw_in 227 rfl rfl
theorem tw_k228 : Cond.methodLink "PatternSieveModel" 49 ⟨"PatternSieveModel", "isNumber", "(I)Z"⟩ ∈ tw_ := tw_in 228 rfl rfl
theorem tw_k229 : Cond.static ⟨"PatternSieveModel", "isNumber", "(I)Z"⟩ ∈ tw_ := tw_in 229 rfl rfl
theorem tw_k230 : Cond.code ⟨"PatternSieveModel", "isNumber", "(I)Z"⟩ prog_6_method_3_code 1 (some FieldType.boolean) ∈ tw_ := tw_in 230 rfl rfl
theorem tw_k231 : Cond.methodLink "PatternSieveLaw" 26 ⟨"PatternSieveModel", "letter", "(I)Z"⟩ ∈ tw_ := tw_in 231 rfl rfl
theorem tw_k232 : Cond.instanceMethod ⟨"PatternSieveModel", "letter", "(I)Z"⟩ ∈ tw_ := tw_in 232 rfl rfl
theorem tw_k233 : Cond.selects "PatternSieveModel" ⟨"PatternSieveModel", "letter", "(I)Z"⟩ ⟨"PatternSieveModel", "letter", "(I)Z"⟩ ∈ tw_ := tw_in 233 rfl rfl
theorem tw_k234 : Cond.code ⟨"PatternSieveModel", "letter", "(I)Z"⟩ prog_6_method_6_code 2 (some FieldType.boolean) ∈ tw_ := tw_in 234 rfl rfl
theorem tw_k235 : Cond.methodLink "PatternSieveModel" 53 ⟨"PatternSieveModel", "bitOf", "(I)I"⟩ ∈ tw_ := tw_in 235 rfl rfl
theorem tw_k236 : Cond.static ⟨"PatternSieveModel", "bitOf", "(I)I"⟩ ∈ tw_ := tw_in 236 rfl rfl
theorem tw_k237 : Cond.code ⟨"PatternSieveModel", "bitOf", "(I)I"⟩ prog_6_method_5_code 1 (some FieldType.int) ∈ tw_ := tw_in 237 rfl rfl
theorem tw_k238 : Cond.methodLink "PatternSieveLaw" 30 ⟨"PatternSieveModel", "literal", "(I)Z"⟩ ∈ tw_ := tw_in 238 rfl rfl
theorem tw_k239 : Cond.instanceMethod ⟨"PatternSieveModel", "literal", "(I)Z"⟩ ∈ tw_ := tw_in 239 rfl rfl
theorem tw_k240 : Cond.selects "PatternSieveModel" ⟨"PatternSieveModel", "literal", "(I)Z"⟩ ⟨"PatternSieveModel", "literal", "(I)Z"⟩ ∈ tw_ := tw_in 240 rfl rfl
theorem tw_k241 : Cond.code ⟨"PatternSieveModel", "literal", "(I)Z"⟩ prog_6_method_7_code 2 (some FieldType.boolean) ∈ tw_ := tw_in 241 rfl rfl
theorem tw_k242 : Cond.methodLink "PatternSieveLaw" 34 ⟨"PatternSieveModel", "begin", "()V"⟩ ∈ tw_ := tw_in 242 rfl rfl
theorem tw_k243 : Cond.instanceMethod ⟨"PatternSieveModel", "begin", "()V"⟩ ∈ tw_ := tw_in 243 rfl rfl
theorem tw_k244 : Cond.selects "PatternSieveModel" ⟨"PatternSieveModel", "begin", "()V"⟩ ⟨"PatternSieveModel", "begin", "()V"⟩ ∈ tw_ := tw_in 244 rfl rfl
theorem tw_k245 : Cond.code ⟨"PatternSieveModel", "begin", "()V"⟩ prog_6_method_8_code 1 none ∈ tw_ := tw_in 245 rfl rfl
theorem tw_k246 : Cond.methodLink "PatternSieveLaw" 38 ⟨"PatternSieveModel", "add", "(I)Z"⟩ ∈ tw_ := tw_in 246 rfl rfl
theorem tw_k247 : Cond.instanceMethod ⟨"PatternSieveModel", "add", "(I)Z"⟩ ∈ tw_ := tw_in 247 rfl rfl
theorem tw_k248 : Cond.selects "PatternSieveModel" ⟨"PatternSieveModel", "add", "(I)Z"⟩ ⟨"PatternSieveModel", "add", "(I)Z"⟩ ∈ tw_ := tw_in 248 rfl rfl
theorem tw_k249 : Cond.code ⟨"PatternSieveModel", "add", "(I)Z"⟩ prog_6_method_9_code 2 (some FieldType.boolean) ∈ tw_ := tw_in 249 rfl rfl
theorem tw_k250 : Cond.methodLink "PatternSieveLaw" 43 ⟨"PatternSieveModel", "fits", "()Z"⟩ ∈ tw_ := tw_in 250 rfl rfl
theorem tw_k251 : Cond.instanceMethod ⟨"PatternSieveModel", "fits", "()Z"⟩ ∈ tw_ := tw_in 251 rfl rfl
theorem tw_k252 : Cond.selects "PatternSieveModel" ⟨"PatternSieveModel", "fits", "()Z"⟩ ⟨"PatternSieveModel", "fits", "()Z"⟩ ∈ tw_ := tw_in 252 rfl rfl
theorem tw_k253 : Cond.code ⟨"PatternSieveModel", "fits", "()Z"⟩ prog_6_method_15_code 1 (some FieldType.boolean) ∈ tw_ := tw_in 253 rfl rfl
theorem tw_k254 : Cond.methodLink "PatternSieveModel" 75 ⟨"PatternSieveModel", "fitsFirst", "(I)Z"⟩ ∈ tw_ := tw_in 254 rfl rfl
theorem tw_k256 : Cond.instanceMethod ⟨"PatternSieveModel", "fitsFirst", "(I)Z"⟩ ∈ tw_ := tw_in 256 rfl rfl
theorem tw_k257 : Cond.code ⟨"PatternSieveModel", "fitsFirst", "(I)Z"⟩ prog_6_method_14_code 3 (some FieldType.boolean) ∈ tw_ := tw_in 257 rfl rfl
theorem tw_k258 : Cond.methodLink "PatternSieveModel" 71 ⟨"PatternSieveModel", "back", "(II)V"⟩ ∈ tw_ := tw_in 258 rfl rfl
theorem tw_k260 : Cond.instanceMethod ⟨"PatternSieveModel", "back", "(II)V"⟩ ∈ tw_ := tw_in 260 rfl rfl
theorem tw_k261 : Cond.code ⟨"PatternSieveModel", "back", "(II)V"⟩ prog_6_method_13_code 8 none ∈ tw_ := tw_in 261 rfl rfl
theorem tw_k262 : Cond.methodLink "PatternSieveModel" 67 ⟨"PatternSieveModel", "tally", "(III)V"⟩ ∈ tw_ := tw_in 262 rfl rfl
theorem tw_k264 : Cond.instanceMethod ⟨"PatternSieveModel", "tally", "(III)V"⟩ ∈ tw_ := tw_in 264 rfl rfl
theorem tw_k265 : Cond.code ⟨"PatternSieveModel", "tally", "(III)V"⟩ prog_6_method_12_code 5 none ∈ tw_ := tw_in 265 rfl rfl
theorem tw_k266 : Cond.methodLink "PatternSieveModel" 63 ⟨"PatternSieveModel", "stands", "(III)Z"⟩ ∈ tw_ := tw_in 266 rfl rfl
theorem tw_k268 : Cond.instanceMethod ⟨"PatternSieveModel", "stands", "(III)Z"⟩ ∈ tw_ := tw_in 268 rfl rfl
theorem tw_k269 : Cond.code ⟨"PatternSieveModel", "stands", "(III)Z"⟩ prog_6_method_11_code 6 (some FieldType.boolean) ∈ tw_ := tw_in 269 rfl rfl
theorem tw_k270 : Cond.methodLink "PatternSieveModel" 60 ⟨"PatternSieveModel", "classesOf", "(I)I"⟩ ∈ tw_ := tw_in 270 rfl rfl
theorem tw_k271 : Cond.static ⟨"PatternSieveModel", "classesOf", "(I)I"⟩ ∈ tw_ := tw_in 271 rfl rfl
theorem tw_k272 : Cond.code ⟨"PatternSieveModel", "classesOf", "(I)I"⟩ prog_6_method_10_code 1 (some FieldType.int) ∈ tw_ := tw_in 272 rfl rfl
theorem tw_k273 : Cond.methodLink "PatternSieveLaw" 47 ⟨"PatternSieveModel", "prefix", "(I)Z"⟩ ∈ tw_ := tw_in 273 rfl rfl
theorem tw_k274 : Cond.instanceMethod ⟨"PatternSieveModel", "prefix", "(I)Z"⟩ ∈ tw_ := tw_in 274 rfl rfl
theorem tw_k275 : Cond.selects "PatternSieveModel" ⟨"PatternSieveModel", "prefix", "(I)Z"⟩ ⟨"PatternSieveModel", "prefix", "(I)Z"⟩ ∈ tw_ := tw_in 275 rfl rfl
theorem tw_k276 : Cond.code ⟨"PatternSieveModel", "prefix", "(I)Z"⟩ prog_6_method_16_code 2 (some FieldType.boolean) ∈ tw_ := tw_in 276 rfl rfl
theorem tw_k277 : Cond.methodLink "PatternSieveLaw" 52 ⟨"PatternSieveModel", "count", "(I)I"⟩ ∈ tw_ := tw_in 277 rfl rfl
theorem tw_k278 : Cond.instanceMethod ⟨"PatternSieveModel", "count", "(I)I"⟩ ∈ tw_ := tw_in 278 rfl rfl
theorem tw_k279 : Cond.selects "PatternSieveModel" ⟨"PatternSieveModel", "count", "(I)I"⟩ ⟨"PatternSieveModel", "count", "(I)I"⟩ ∈ tw_ := tw_in 279 rfl rfl
theorem tw_k280 : Cond.code ⟨"PatternSieveModel", "count", "(I)I"⟩ prog_6_method_17_code 2 (some FieldType.int) ∈ tw_ := tw_in 280 rfl rfl
theorem i_Sv : ∀ w ∈ u_ws R_Sv F_Sv 2, w ∈ tw_ := List.forall_mem_cons.mpr ⟨tw_k85, List.forall_mem_cons.mpr ⟨tw_k87, fun _ h => absurd h List.not_mem_nil⟩⟩
theorem i_Pt : ∀ w ∈ u_ws R_Pt F_Pt 11, w ∈ tw_ := List.forall_mem_cons.mpr ⟨tw_k58, List.forall_mem_cons.mpr ⟨tw_k60, List.forall_mem_cons.mpr ⟨tw_k62, List.forall_mem_cons.mpr ⟨tw_k64, List.forall_mem_cons.mpr ⟨tw_k66, List.forall_mem_cons.mpr ⟨tw_k68, List.forall_mem_cons.mpr ⟨tw_k70, List.forall_mem_cons.mpr ⟨tw_k72, List.forall_mem_cons.mpr ⟨tw_k74, List.forall_mem_cons.mpr ⟨tw_k76, List.forall_mem_cons.mpr ⟨tw_k78, fun _ h => absurd h List.not_mem_nil⟩⟩⟩⟩⟩⟩⟩⟩⟩⟩⟩
theorem i_Pi : ∀ w ∈ u_ws R_Pi F_Pi 2, w ∈ tw_ := List.forall_mem_cons.mpr ⟨tw_k30, List.forall_mem_cons.mpr ⟨tw_k32, fun _ h => absurd h List.not_mem_nil⟩⟩
theorem i_Mo : ∀ w ∈ u_ws R_Mo F_Mo 13, w ∈ tw_ := List.forall_mem_cons.mpr ⟨tw_k193, List.forall_mem_cons.mpr ⟨tw_k195, List.forall_mem_cons.mpr ⟨tw_k197, List.forall_mem_cons.mpr ⟨tw_k199, List.forall_mem_cons.mpr ⟨tw_k201, List.forall_mem_cons.mpr ⟨tw_k203, List.forall_mem_cons.mpr ⟨tw_k205, List.forall_mem_cons.mpr ⟨tw_k207, List.forall_mem_cons.mpr ⟨tw_k209, List.forall_mem_cons.mpr ⟨tw_k211, List.forall_mem_cons.mpr ⟨tw_k213, List.forall_mem_cons.mpr ⟨tw_k215, List.forall_mem_cons.mpr ⟨tw_k217, fun _ h => absurd h List.not_mem_nil⟩⟩⟩⟩⟩⟩⟩⟩⟩⟩⟩⟩⟩
/-- the private members of nest mates, as words of a state -/
def Nst (U : State) : Prop := va_Nw (Cond.methodLinkNest "PatternSieve" 9 ⟨"PatternSieve$Pile", "<init>", "()V"⟩ "PatternSieve") U ∧ va_Nw (Cond.fieldLinkNest "PatternSieve" 61 "PatternSieve$Pile" "bytes" "[B" "PatternSieve") U ∧ va_Nw (Cond.fieldLinkNest "PatternSieve" 58 "PatternSieve$Pile" "size" "I" "PatternSieve") U ∧ va_Nw (Cond.methodLinkNest "PatternSieve" 18 ⟨"PatternSieve$Pattern", "<init>", "()V"⟩ "PatternSieve") U ∧ va_Nw (Cond.fieldLinkNest "PatternSieve" 49 "PatternSieve$Pattern" "classes" "[I" "PatternSieve") U ∧ va_Nw (Cond.fieldLinkNest "PatternSieve" 38 "PatternSieve$Pattern" "sizes" "[I" "PatternSieve") U ∧ va_Nw (Cond.fieldLinkNest "PatternSieve" 69 "PatternSieve$Pattern" "now" "[Z" "PatternSieve") U ∧ va_Nw (Cond.fieldLinkNest "PatternSieve" 26 "PatternSieve$Pattern" "count" "I" "PatternSieve") U ∧ va_Nw (Cond.fieldLinkNest "PatternSieve" 52 "PatternSieve$Pattern" "used" "I" "PatternSieve") U
theorem Nst.of {args : Array Value} {s : State} (h : ∀ w ∈ lw_tbl, w.before args s = true) : Nst s := ⟨va_Nw.of rfl (h _ (List.mem_of_getElem? (i := 22) rfl)), va_Nw.of rfl (h _ (List.mem_of_getElem? (i := 27) rfl)), va_Nw.of rfl (h _ (List.mem_of_getElem? (i := 29) rfl)), va_Nw.of rfl (h _ (List.mem_of_getElem? (i := 38) rfl)), va_Nw.of rfl (h _ (List.mem_of_getElem? (i := 45) rfl)), va_Nw.of rfl (h _ (List.mem_of_getElem? (i := 48) rfl)), va_Nw.of rfl (h _ (List.mem_of_getElem? (i := 51) rfl)), va_Nw.of rfl (h _ (List.mem_of_getElem? (i := 55) rfl)), va_Nw.of rfl (h _ (List.mem_of_getElem? (i := 57) rfl))⟩
theorem Nst.warm {s U : State} (hW : s.WarmedH U.vm) (h : Nst s) : Nst U := by
  obtain ⟨h0, h1, h2, h3, h4, h5, h6, h7, h8⟩ := h
  exact ⟨h0.warmM hW, h1.warmF hW, h2.warmF hW, h3.warmM hW, h4.warmF hW, h5.warmF hW, h6.warmF hW, h7.warmF hW, h8.warmF hW⟩
theorem Nst.same {s U : State} (e : s.vm = U.vm) (h : Nst s) : Nst U := by
  obtain ⟨h0, h1, h2, h3, h4, h5, h6, h7, h8⟩ := h
  exact ⟨h0.same rfl e, h1.same rfl e, h2.same rfl e, h3.same rfl e, h4.same rfl e, h5.same rfl e, h6.same rfl e, h7.same rfl e, h8.same rfl e⟩
theorem Nst.k22 {s : State} {args : Array Value} (h : Nst s) : (Cond.methodLinkNest "PatternSieve" 9 ⟨"PatternSieve$Pile", "<init>", "()V"⟩ "PatternSieve").before args s = true := va_Nw.use rfl h.1
theorem Nst.n22 {s : State} (h : Nst s) : va_Nw (Cond.methodLinkNest "PatternSieve" 9 ⟨"PatternSieve$Pile", "<init>", "()V"⟩ "PatternSieve") s := h.1
theorem Nst.k27 {s : State} {args : Array Value} (h : Nst s) : (Cond.fieldLinkNest "PatternSieve" 61 "PatternSieve$Pile" "bytes" "[B" "PatternSieve").before args s = true := va_Nw.use rfl h.2.1
theorem Nst.n27 {s : State} (h : Nst s) : va_Nw (Cond.fieldLinkNest "PatternSieve" 61 "PatternSieve$Pile" "bytes" "[B" "PatternSieve") s := h.2.1
theorem Nst.k29 {s : State} {args : Array Value} (h : Nst s) : (Cond.fieldLinkNest "PatternSieve" 58 "PatternSieve$Pile" "size" "I" "PatternSieve").before args s = true := va_Nw.use rfl h.2.2.1
theorem Nst.n29 {s : State} (h : Nst s) : va_Nw (Cond.fieldLinkNest "PatternSieve" 58 "PatternSieve$Pile" "size" "I" "PatternSieve") s := h.2.2.1
theorem Nst.k38 {s : State} {args : Array Value} (h : Nst s) : (Cond.methodLinkNest "PatternSieve" 18 ⟨"PatternSieve$Pattern", "<init>", "()V"⟩ "PatternSieve").before args s = true := va_Nw.use rfl h.2.2.2.1
theorem Nst.n38 {s : State} (h : Nst s) : va_Nw (Cond.methodLinkNest "PatternSieve" 18 ⟨"PatternSieve$Pattern", "<init>", "()V"⟩ "PatternSieve") s := h.2.2.2.1
theorem Nst.k45 {s : State} {args : Array Value} (h : Nst s) : (Cond.fieldLinkNest "PatternSieve" 49 "PatternSieve$Pattern" "classes" "[I" "PatternSieve").before args s = true := va_Nw.use rfl h.2.2.2.2.1
theorem Nst.n45 {s : State} (h : Nst s) : va_Nw (Cond.fieldLinkNest "PatternSieve" 49 "PatternSieve$Pattern" "classes" "[I" "PatternSieve") s := h.2.2.2.2.1
theorem Nst.k48 {s : State} {args : Array Value} (h : Nst s) : (Cond.fieldLinkNest "PatternSieve" 38 "PatternSieve$Pattern" "sizes" "[I" "PatternSieve").before args s = true := va_Nw.use rfl h.2.2.2.2.2.1
theorem Nst.n48 {s : State} (h : Nst s) : va_Nw (Cond.fieldLinkNest "PatternSieve" 38 "PatternSieve$Pattern" "sizes" "[I" "PatternSieve") s := h.2.2.2.2.2.1
theorem Nst.k51 {s : State} {args : Array Value} (h : Nst s) : (Cond.fieldLinkNest "PatternSieve" 69 "PatternSieve$Pattern" "now" "[Z" "PatternSieve").before args s = true := va_Nw.use rfl h.2.2.2.2.2.2.1
theorem Nst.n51 {s : State} (h : Nst s) : va_Nw (Cond.fieldLinkNest "PatternSieve" 69 "PatternSieve$Pattern" "now" "[Z" "PatternSieve") s := h.2.2.2.2.2.2.1
theorem Nst.k55 {s : State} {args : Array Value} (h : Nst s) : (Cond.fieldLinkNest "PatternSieve" 26 "PatternSieve$Pattern" "count" "I" "PatternSieve").before args s = true := va_Nw.use rfl h.2.2.2.2.2.2.2.1
theorem Nst.n55 {s : State} (h : Nst s) : va_Nw (Cond.fieldLinkNest "PatternSieve" 26 "PatternSieve$Pattern" "count" "I" "PatternSieve") s := h.2.2.2.2.2.2.2.1
theorem Nst.k57 {s : State} {args : Array Value} (h : Nst s) : (Cond.fieldLinkNest "PatternSieve" 52 "PatternSieve$Pattern" "used" "I" "PatternSieve").before args s = true := va_Nw.use rfl h.2.2.2.2.2.2.2.2
theorem Nst.n57 {s : State} (h : Nst s) : va_Nw (Cond.fieldLinkNest "PatternSieve" 52 "PatternSieve$Pattern" "used" "I" "PatternSieve") s := h.2.2.2.2.2.2.2.2
abbrev b_Sv_init : ByteArray := prog_1_method_1_code
abbrev y_Sv_init : MethodName := ⟨"PatternSieve", "<init>", "()V"⟩
abbrev cw_Sv_init : List Cond := .code y_Sv_init b_Sv_init 1 none :: tw_
abbrev b_Pi_init : ByteArray := prog_4_method_1_code
abbrev y_Pi_init : MethodName := ⟨"PatternSieve$Pile", "<init>", "()V"⟩
abbrev cw_Pi_init : List Cond := .code y_Pi_init b_Pi_init 1 none :: tw_
abbrev b_Pt_init : ByteArray := prog_3_method_1_code
abbrev y_Pt_init : MethodName := ⟨"PatternSieve$Pattern", "<init>", "()V"⟩
abbrev cw_Pt_init : List Cond := .code y_Pt_init b_Pt_init 1 none :: tw_
abbrev b_Sv_clear : ByteArray := prog_1_method_2_code
abbrev y_Sv_clear : MethodName := ⟨"PatternSieve", "clear", "()V"⟩
abbrev cw_Sv_clear : List Cond := .code y_Sv_clear b_Sv_clear 1 none :: tw_
abbrev b_Pt_clear : ByteArray := prog_3_method_2_code
abbrev y_Pt_clear : MethodName := ⟨"PatternSieve$Pattern", "clear", "()V"⟩
abbrev cw_Pt_clear : List Cond := .code y_Pt_clear b_Pt_clear 1 none :: tw_
abbrev b_Sv_part : ByteArray := prog_1_method_4_code
abbrev y_Sv_part : MethodName := ⟨"PatternSieve", "part", "(II)Z"⟩
abbrev cw_Sv_part : List Cond := .code y_Sv_part b_Sv_part 3 (some FieldType.boolean) :: tw_
abbrev b_Sv_isTimes : ByteArray := prog_1_method_3_code
abbrev y_Sv_isTimes : MethodName := ⟨"PatternSieve", "isTimes", "(I)Z"⟩
abbrev cw_Sv_isTimes : List Cond := .code y_Sv_isTimes b_Sv_isTimes 1 (some FieldType.boolean) :: tw_
abbrev b_Pt_part : ByteArray := prog_3_method_3_code
abbrev y_Pt_part : MethodName := ⟨"PatternSieve$Pattern", "part", "(II)V"⟩
abbrev cw_Pt_part : List Cond := .code y_Pt_part b_Pt_part 3 none :: tw_
abbrev b_Sv_letter : ByteArray := prog_1_method_5_code
abbrev y_Sv_letter : MethodName := ⟨"PatternSieve", "letter", "(I)Z"⟩
abbrev cw_Sv_letter : List Cond := .code y_Sv_letter b_Sv_letter 2 (some FieldType.boolean) :: tw_
abbrev b_Pt_isClass : ByteArray := prog_3_method_5_code
abbrev y_Pt_isClass : MethodName := ⟨"PatternSieve$Pattern", "isClass", "(I)Z"⟩
abbrev cw_Pt_isClass : List Cond := .code y_Pt_isClass b_Pt_isClass 1 (some FieldType.boolean) :: tw_
abbrev b_Pt_letter : ByteArray := prog_3_method_4_code
abbrev y_Pt_letter : MethodName := ⟨"PatternSieve$Pattern", "letter", "(I)V"⟩
abbrev cw_Pt_letter : List Cond := .code y_Pt_letter b_Pt_letter 3 none :: tw_
abbrev b_Sv_literal : ByteArray := prog_1_method_6_code
abbrev y_Sv_literal : MethodName := ⟨"PatternSieve", "literal", "(I)Z"⟩
abbrev cw_Sv_literal : List Cond := .code y_Sv_literal b_Sv_literal 2 (some FieldType.boolean) :: tw_
abbrev b_Pt_literal : ByteArray := prog_3_method_6_code
abbrev y_Pt_literal : MethodName := ⟨"PatternSieve$Pattern", "literal", "(I)V"⟩
abbrev cw_Pt_literal : List Cond := .code y_Pt_literal b_Pt_literal 2 none :: tw_
abbrev b_Sv_begin : ByteArray := prog_1_method_7_code
abbrev y_Sv_begin : MethodName := ⟨"PatternSieve", "begin", "()V"⟩
abbrev cw_Sv_begin : List Cond := .code y_Sv_begin b_Sv_begin 1 none :: tw_
abbrev b_Sv_add : ByteArray := prog_1_method_8_code
abbrev y_Sv_add : MethodName := ⟨"PatternSieve", "add", "(I)Z"⟩
abbrev cw_Sv_add : List Cond := .code y_Sv_add b_Sv_add 2 (some FieldType.boolean) :: tw_
abbrev b_Sv_fits : ByteArray := prog_1_method_9_code
abbrev y_Sv_fits : MethodName := ⟨"PatternSieve", "fits", "()Z"⟩
abbrev cw_Sv_fits : List Cond := .code y_Sv_fits b_Sv_fits 1 (some FieldType.boolean) :: tw_
abbrev b_Pt_fits : ByteArray := prog_3_method_9_code
abbrev y_Pt_fits : MethodName := ⟨"PatternSieve$Pattern", "fits", "(LPatternSieve$Pile;I)Z"⟩
abbrev cw_Pt_fits : List Cond := .code y_Pt_fits b_Pt_fits 6 (some FieldType.boolean) :: tw_
abbrev b_Pi_size : ByteArray := prog_4_method_2_code
abbrev y_Pi_size : MethodName := ⟨"PatternSieve$Pile", "size", "(I)I"⟩
abbrev cw_Pi_size : List Cond := .code y_Pi_size b_Pi_size 2 (some FieldType.int) :: tw_
abbrev b_Pt_times : ByteArray := prog_3_method_10_code
abbrev y_Pt_times : MethodName := ⟨"PatternSieve$Pattern", "times", "(ILPatternSieve$Pile;II)V"⟩
abbrev cw_Pt_times : List Cond := .code y_Pt_times b_Pt_times 9 none :: tw_
abbrev b_Pt_once : ByteArray := prog_3_method_8_code
abbrev y_Pt_once : MethodName := ⟨"PatternSieve$Pattern", "once", "(ILPatternSieve$Pile;II)I"⟩
abbrev cw_Pt_once : List Cond := .code y_Pt_once b_Pt_once 7 (some FieldType.int) :: tw_
abbrev b_Pi_get : ByteArray := prog_4_method_3_code
abbrev y_Pi_get : MethodName := ⟨"PatternSieve$Pile", "get", "(II)I"⟩
abbrev cw_Pi_get : List Cond := .code y_Pi_get b_Pi_get 3 (some FieldType.int) :: tw_
abbrev b_Pt_classOf : ByteArray := prog_3_method_7_code
abbrev y_Pt_classOf : MethodName := ⟨"PatternSieve$Pattern", "classOf", "(I)I"⟩
abbrev cw_Pt_classOf : List Cond := .code y_Pt_classOf b_Pt_classOf 1 (some FieldType.int) :: tw_
abbrev b_Nu_isDigit : ByteArray := prog_2_method_2_code
abbrev y_Nu_isDigit : MethodName := ⟨"PatternSieve$Numbers", "isDigit", "(I)Z"⟩
abbrev cw_Nu_isDigit : List Cond := .code y_Nu_isDigit b_Nu_isDigit 1 (some FieldType.boolean) :: tw_
abbrev b_Sv_prefix : ByteArray := prog_1_method_10_code
abbrev y_Sv_prefix : MethodName := ⟨"PatternSieve", "prefix", "(I)Z"⟩
abbrev cw_Sv_prefix : List Cond := .code y_Sv_prefix b_Sv_prefix 3 (some FieldType.boolean) :: tw_
abbrev b_Sv_count : ByteArray := prog_1_method_11_code
abbrev y_Sv_count : MethodName := ⟨"PatternSieve", "count", "(I)I"⟩
abbrev cw_Sv_count : List Cond := .code y_Sv_count b_Sv_count 2 (some FieldType.int) :: tw_
abbrev b_Mo_init : ByteArray := prog_6_method_1_code
abbrev y_Mo_init : MethodName := ⟨"PatternSieveModel", "<init>", "()V"⟩
abbrev cw_Mo_init : List Cond := .code y_Mo_init b_Mo_init 1 none :: tw_
abbrev b_Mo_clear : ByteArray := prog_6_method_2_code
abbrev y_Mo_clear : MethodName := ⟨"PatternSieveModel", "clear", "()V"⟩
abbrev cw_Mo_clear : List Cond := .code y_Mo_clear b_Mo_clear 1 none :: tw_
abbrev b_Mo_part : ByteArray := prog_6_method_4_code
abbrev y_Mo_part : MethodName := ⟨"PatternSieveModel", "part", "(II)Z"⟩
abbrev cw_Mo_part : List Cond := .code y_Mo_part b_Mo_part 3 (some FieldType.boolean) :: tw_
abbrev b_Mo_isNumber : ByteArray := prog_6_method_3_code
abbrev y_Mo_isNumber : MethodName := ⟨"PatternSieveModel", "isNumber", "(I)Z"⟩
abbrev cw_Mo_isNumber : List Cond := .code y_Mo_isNumber b_Mo_isNumber 1 (some FieldType.boolean) :: tw_
abbrev b_Mo_letter : ByteArray := prog_6_method_6_code
abbrev y_Mo_letter : MethodName := ⟨"PatternSieveModel", "letter", "(I)Z"⟩
abbrev cw_Mo_letter : List Cond := .code y_Mo_letter b_Mo_letter 2 (some FieldType.boolean) :: tw_
abbrev b_Mo_bitOf : ByteArray := prog_6_method_5_code
abbrev y_Mo_bitOf : MethodName := ⟨"PatternSieveModel", "bitOf", "(I)I"⟩
abbrev cw_Mo_bitOf : List Cond := .code y_Mo_bitOf b_Mo_bitOf 1 (some FieldType.int) :: tw_
abbrev b_Mo_literal : ByteArray := prog_6_method_7_code
abbrev y_Mo_literal : MethodName := ⟨"PatternSieveModel", "literal", "(I)Z"⟩
abbrev cw_Mo_literal : List Cond := .code y_Mo_literal b_Mo_literal 2 (some FieldType.boolean) :: tw_
abbrev b_Mo_begin : ByteArray := prog_6_method_8_code
abbrev y_Mo_begin : MethodName := ⟨"PatternSieveModel", "begin", "()V"⟩
abbrev cw_Mo_begin : List Cond := .code y_Mo_begin b_Mo_begin 1 none :: tw_
abbrev b_Mo_add : ByteArray := prog_6_method_9_code
abbrev y_Mo_add : MethodName := ⟨"PatternSieveModel", "add", "(I)Z"⟩
abbrev cw_Mo_add : List Cond := .code y_Mo_add b_Mo_add 2 (some FieldType.boolean) :: tw_
abbrev b_Mo_fits : ByteArray := prog_6_method_15_code
abbrev y_Mo_fits : MethodName := ⟨"PatternSieveModel", "fits", "()Z"⟩
abbrev cw_Mo_fits : List Cond := .code y_Mo_fits b_Mo_fits 1 (some FieldType.boolean) :: tw_
abbrev b_Mo_fitsFirst : ByteArray := prog_6_method_14_code
abbrev y_Mo_fitsFirst : MethodName := ⟨"PatternSieveModel", "fitsFirst", "(I)Z"⟩
abbrev cw_Mo_fitsFirst : List Cond := .code y_Mo_fitsFirst b_Mo_fitsFirst 3 (some FieldType.boolean) :: tw_
abbrev b_Mo_back : ByteArray := prog_6_method_13_code
abbrev y_Mo_back : MethodName := ⟨"PatternSieveModel", "back", "(II)V"⟩
abbrev cw_Mo_back : List Cond := .code y_Mo_back b_Mo_back 8 none :: tw_
abbrev b_Mo_tally : ByteArray := prog_6_method_12_code
abbrev y_Mo_tally : MethodName := ⟨"PatternSieveModel", "tally", "(III)V"⟩
abbrev cw_Mo_tally : List Cond := .code y_Mo_tally b_Mo_tally 5 none :: tw_
abbrev b_Mo_stands : ByteArray := prog_6_method_11_code
abbrev y_Mo_stands : MethodName := ⟨"PatternSieveModel", "stands", "(III)Z"⟩
abbrev cw_Mo_stands : List Cond := .code y_Mo_stands b_Mo_stands 6 (some FieldType.boolean) :: tw_
abbrev b_Mo_classesOf : ByteArray := prog_6_method_10_code
abbrev y_Mo_classesOf : MethodName := ⟨"PatternSieveModel", "classesOf", "(I)I"⟩
abbrev cw_Mo_classesOf : List Cond := .code y_Mo_classesOf b_Mo_classesOf 1 (some FieldType.int) :: tw_
abbrev b_Mo_prefix : ByteArray := prog_6_method_16_code
abbrev y_Mo_prefix : MethodName := ⟨"PatternSieveModel", "prefix", "(I)Z"⟩
abbrev cw_Mo_prefix : List Cond := .code y_Mo_prefix b_Mo_prefix 2 (some FieldType.boolean) :: tw_
abbrev b_Mo_count : ByteArray := prog_6_method_17_code
abbrev y_Mo_count : MethodName := ⟨"PatternSieveModel", "count", "(I)I"⟩
abbrev cw_Mo_count : List Cond := .code y_Mo_count b_Mo_count 2 (some FieldType.int) :: tw_
abbrev classes : List vw_C := [(R_Sv, F_Sv, 2), (R_Pt, F_Pt, 11), (R_Pi, F_Pi, 2), (R_Mo, F_Mo, 13)]
end
section
theorem d_Sv_init_0 : decode b_Sv_init 0 = .ok (.aload_n 0, 1) := by decide +kernel
theorem d_Sv_init_1 : decode b_Sv_init 1 = .ok (.invokespecial 1, 3) := by decide +kernel
theorem d_Sv_init_4 : decode b_Sv_init 4 = .ok (.aload_n 0, 1) := by decide +kernel
theorem d_Sv_init_5 : decode b_Sv_init 5 = .ok (.new 7, 3) := by decide +kernel
theorem d_Sv_init_8 : decode b_Sv_init 8 = .ok (.dup, 1) := by decide +kernel
theorem d_Sv_init_9 : decode b_Sv_init 9 = .ok (.invokespecial 9, 3) := by decide +kernel
theorem d_Sv_init_12 : decode b_Sv_init 12 = .ok (.putfield 10, 3) := by decide +kernel
theorem d_Sv_init_15 : decode b_Sv_init 15 = .ok (.aload_n 0, 1) := by decide +kernel
theorem d_Sv_init_16 : decode b_Sv_init 16 = .ok (.new 16, 3) := by decide +kernel
theorem d_Sv_init_19 : decode b_Sv_init 19 = .ok (.dup, 1) := by decide +kernel
theorem d_Sv_init_20 : decode b_Sv_init 20 = .ok (.invokespecial 18, 3) := by decide +kernel
theorem d_Sv_init_23 : decode b_Sv_init 23 = .ok (.putfield 19, 3) := by decide +kernel
theorem d_Sv_init_26 : decode b_Sv_init 26 = .ok (.return_, 1) := by decide +kernel
theorem d_Sv_clear_0 : decode b_Sv_clear 0 = .ok (.aload_n 0, 1) := by decide +kernel
theorem d_Sv_clear_1 : decode b_Sv_clear 1 = .ok (.getfield 19, 3) := by decide +kernel
theorem d_Sv_clear_4 : decode b_Sv_clear 4 = .ok (.invokevirtual 23, 3) := by decide +kernel
theorem d_Sv_clear_7 : decode b_Sv_clear 7 = .ok (.return_, 1) := by decide +kernel
theorem d_Sv_isTimes_0 : decode b_Sv_isTimes 0 = .ok (.iload_n 0, 1) := by decide +kernel
theorem d_Sv_isTimes_1 : decode b_Sv_isTimes 1 = .ok (.ifCond .lt 14, 3) := by decide +kernel
theorem d_Sv_isTimes_4 : decode b_Sv_isTimes 4 = .ok (.iload_n 0, 1) := by decide +kernel
theorem d_Sv_isTimes_5 : decode b_Sv_isTimes 5 = .ok (.sipush 255, 3) := by decide +kernel
theorem d_Sv_isTimes_8 : decode b_Sv_isTimes 8 = .ok (.if_icmp .gt 7, 3) := by decide +kernel
theorem d_Sv_isTimes_11 : decode b_Sv_isTimes 11 = .ok (.iconst 1, 1) := by decide +kernel
theorem d_Sv_isTimes_12 : decode b_Sv_isTimes 12 = .ok (.goto 4, 3) := by decide +kernel
theorem d_Sv_isTimes_15 : decode b_Sv_isTimes 15 = .ok (.iconst 0, 1) := by decide +kernel
theorem d_Sv_isTimes_16 : decode b_Sv_isTimes 16 = .ok (.ireturn, 1) := by decide +kernel
theorem d_Sv_part_0 : decode b_Sv_part 0 = .ok (.aload_n 0, 1) := by decide +kernel
theorem d_Sv_part_1 : decode b_Sv_part 1 = .ok (.getfield 19, 3) := by decide +kernel
theorem d_Sv_part_4 : decode b_Sv_part 4 = .ok (.getfield 26, 3) := by decide +kernel
theorem d_Sv_part_7 : decode b_Sv_part 7 = .ok (.bipush 60, 2) := by decide +kernel
theorem d_Sv_part_9 : decode b_Sv_part 9 = .ok (.if_icmp .eq 17, 3) := by decide +kernel
theorem d_Sv_part_12 : decode b_Sv_part 12 = .ok (.iload_n 1, 1) := by decide +kernel
theorem d_Sv_part_13 : decode b_Sv_part 13 = .ok (.invokestatic 30, 3) := by decide +kernel
theorem d_Sv_part_16 : decode b_Sv_part 16 = .ok (.ifCond .eq 10, 3) := by decide +kernel
theorem d_Sv_part_19 : decode b_Sv_part 19 = .ok (.iload_n 2, 1) := by decide +kernel
theorem d_Sv_part_20 : decode b_Sv_part 20 = .ok (.invokestatic 30, 3) := by decide +kernel
theorem d_Sv_part_23 : decode b_Sv_part 23 = .ok (.ifCond .ne 5, 3) := by decide +kernel
theorem d_Sv_part_26 : decode b_Sv_part 26 = .ok (.iconst 0, 1) := by decide +kernel
theorem d_Sv_part_27 : decode b_Sv_part 27 = .ok (.ireturn, 1) := by decide +kernel
theorem d_Sv_part_28 : decode b_Sv_part 28 = .ok (.aload_n 0, 1) := by decide +kernel
theorem d_Sv_part_29 : decode b_Sv_part 29 = .ok (.getfield 19, 3) := by decide +kernel
theorem d_Sv_part_32 : decode b_Sv_part 32 = .ok (.iload_n 1, 1) := by decide +kernel
theorem d_Sv_part_33 : decode b_Sv_part 33 = .ok (.iload_n 2, 1) := by decide +kernel
theorem d_Sv_part_34 : decode b_Sv_part 34 = .ok (.invokevirtual 34, 3) := by decide +kernel
theorem d_Sv_part_37 : decode b_Sv_part 37 = .ok (.iconst 1, 1) := by decide +kernel
theorem d_Sv_part_38 : decode b_Sv_part 38 = .ok (.ireturn, 1) := by decide +kernel
theorem d_Sv_letter_0 : decode b_Sv_letter 0 = .ok (.aload_n 0, 1) := by decide +kernel
theorem d_Sv_letter_1 : decode b_Sv_letter 1 = .ok (.getfield 19, 3) := by decide +kernel
theorem d_Sv_letter_4 : decode b_Sv_letter 4 = .ok (.getfield 26, 3) := by decide +kernel
theorem d_Sv_letter_7 : decode b_Sv_letter 7 = .ok (.ifCond .eq 30, 3) := by decide +kernel
theorem d_Sv_letter_10 : decode b_Sv_letter 10 = .ok (.aload_n 0, 1) := by decide +kernel
theorem d_Sv_letter_11 : decode b_Sv_letter 11 = .ok (.getfield 19, 3) := by decide +kernel
theorem d_Sv_letter_14 : decode b_Sv_letter 14 = .ok (.getfield 38, 3) := by decide +kernel
theorem d_Sv_letter_17 : decode b_Sv_letter 17 = .ok (.aload_n 0, 1) := by decide +kernel
theorem d_Sv_letter_18 : decode b_Sv_letter 18 = .ok (.getfield 19, 3) := by decide +kernel
theorem d_Sv_letter_21 : decode b_Sv_letter 21 = .ok (.getfield 26, 3) := by decide +kernel
theorem d_Sv_letter_24 : decode b_Sv_letter 24 = .ok (.iconst 1, 1) := by decide +kernel
theorem d_Sv_letter_25 : decode b_Sv_letter 25 = .ok (.isub, 1) := by decide +kernel
theorem d_Sv_letter_26 : decode b_Sv_letter 26 = .ok (.iaload, 1) := by decide +kernel
theorem d_Sv_letter_27 : decode b_Sv_letter 27 = .ok (.ifCond .gt 10, 3) := by decide +kernel
theorem d_Sv_letter_30 : decode b_Sv_letter 30 = .ok (.iload_n 1, 1) := by decide +kernel
theorem d_Sv_letter_31 : decode b_Sv_letter 31 = .ok (.invokestatic 42, 3) := by decide +kernel
theorem d_Sv_letter_34 : decode b_Sv_letter 34 = .ok (.ifCond .ne 5, 3) := by decide +kernel
theorem d_Sv_letter_37 : decode b_Sv_letter 37 = .ok (.iconst 0, 1) := by decide +kernel
theorem d_Sv_letter_38 : decode b_Sv_letter 38 = .ok (.ireturn, 1) := by decide +kernel
theorem d_Sv_letter_39 : decode b_Sv_letter 39 = .ok (.aload_n 0, 1) := by decide +kernel
theorem d_Sv_letter_40 : decode b_Sv_letter 40 = .ok (.getfield 19, 3) := by decide +kernel
theorem d_Sv_letter_43 : decode b_Sv_letter 43 = .ok (.iload_n 1, 1) := by decide +kernel
theorem d_Sv_letter_44 : decode b_Sv_letter 44 = .ok (.invokevirtual 45, 3) := by decide +kernel
theorem d_Sv_letter_47 : decode b_Sv_letter 47 = .ok (.iconst 1, 1) := by decide +kernel
theorem d_Sv_letter_48 : decode b_Sv_letter 48 = .ok (.ireturn, 1) := by decide +kernel
theorem d_Sv_literal_0 : decode b_Sv_literal 0 = .ok (.aload_n 0, 1) := by decide +kernel
theorem d_Sv_literal_1 : decode b_Sv_literal 1 = .ok (.getfield 19, 3) := by decide +kernel
theorem d_Sv_literal_4 : decode b_Sv_literal 4 = .ok (.getfield 26, 3) := by decide +kernel
theorem d_Sv_literal_7 : decode b_Sv_literal 7 = .ok (.ifCond .eq 36, 3) := by decide +kernel
theorem d_Sv_literal_10 : decode b_Sv_literal 10 = .ok (.aload_n 0, 1) := by decide +kernel
theorem d_Sv_literal_11 : decode b_Sv_literal 11 = .ok (.getfield 19, 3) := by decide +kernel
theorem d_Sv_literal_14 : decode b_Sv_literal 14 = .ok (.getfield 49, 3) := by decide +kernel
theorem d_Sv_literal_17 : decode b_Sv_literal 17 = .ok (.aload_n 0, 1) := by decide +kernel
theorem d_Sv_literal_18 : decode b_Sv_literal 18 = .ok (.getfield 19, 3) := by decide +kernel
theorem d_Sv_literal_21 : decode b_Sv_literal 21 = .ok (.getfield 26, 3) := by decide +kernel
theorem d_Sv_literal_24 : decode b_Sv_literal 24 = .ok (.iconst 1, 1) := by decide +kernel
theorem d_Sv_literal_25 : decode b_Sv_literal 25 = .ok (.isub, 1) := by decide +kernel
theorem d_Sv_literal_26 : decode b_Sv_literal 26 = .ok (.iaload, 1) := by decide +kernel
theorem d_Sv_literal_27 : decode b_Sv_literal 27 = .ok (.ifCond .ne 16, 3) := by decide +kernel
theorem d_Sv_literal_30 : decode b_Sv_literal 30 = .ok (.aload_n 0, 1) := by decide +kernel
theorem d_Sv_literal_31 : decode b_Sv_literal 31 = .ok (.getfield 19, 3) := by decide +kernel
theorem d_Sv_literal_34 : decode b_Sv_literal 34 = .ok (.getfield 52, 3) := by decide +kernel
theorem d_Sv_literal_37 : decode b_Sv_literal 37 = .ok (.sipush 255, 3) := by decide +kernel
theorem d_Sv_literal_40 : decode b_Sv_literal 40 = .ok (.if_icmp .ne 5, 3) := by decide +kernel
theorem d_Sv_literal_43 : decode b_Sv_literal 43 = .ok (.iconst 0, 1) := by decide +kernel
theorem d_Sv_literal_44 : decode b_Sv_literal 44 = .ok (.ireturn, 1) := by decide +kernel
theorem d_Sv_literal_45 : decode b_Sv_literal 45 = .ok (.aload_n 0, 1) := by decide +kernel
theorem d_Sv_literal_46 : decode b_Sv_literal 46 = .ok (.getfield 19, 3) := by decide +kernel
theorem d_Sv_literal_49 : decode b_Sv_literal 49 = .ok (.iload_n 1, 1) := by decide +kernel
theorem d_Sv_literal_50 : decode b_Sv_literal 50 = .ok (.invokevirtual 55, 3) := by decide +kernel
theorem d_Sv_literal_53 : decode b_Sv_literal 53 = .ok (.iconst 1, 1) := by decide +kernel
theorem d_Sv_literal_54 : decode b_Sv_literal 54 = .ok (.ireturn, 1) := by decide +kernel
theorem d_Sv_begin_0 : decode b_Sv_begin 0 = .ok (.aload_n 0, 1) := by decide +kernel
theorem d_Sv_begin_1 : decode b_Sv_begin 1 = .ok (.getfield 10, 3) := by decide +kernel
theorem d_Sv_begin_4 : decode b_Sv_begin 4 = .ok (.iconst 0, 1) := by decide +kernel
theorem d_Sv_begin_5 : decode b_Sv_begin 5 = .ok (.putfield 58, 3) := by decide +kernel
theorem d_Sv_begin_8 : decode b_Sv_begin 8 = .ok (.return_, 1) := by decide +kernel
theorem d_Sv_add_0 : decode b_Sv_add 0 = .ok (.aload_n 0, 1) := by decide +kernel
theorem d_Sv_add_1 : decode b_Sv_add 1 = .ok (.getfield 10, 3) := by decide +kernel
theorem d_Sv_add_4 : decode b_Sv_add 4 = .ok (.getfield 58, 3) := by decide +kernel
theorem d_Sv_add_7 : decode b_Sv_add 7 = .ok (.sipush 255, 3) := by decide +kernel
theorem d_Sv_add_10 : decode b_Sv_add 10 = .ok (.if_icmp .ne 5, 3) := by decide +kernel
theorem d_Sv_add_13 : decode b_Sv_add 13 = .ok (.iconst 0, 1) := by decide +kernel
theorem d_Sv_add_14 : decode b_Sv_add 14 = .ok (.ireturn, 1) := by decide +kernel
theorem d_Sv_add_15 : decode b_Sv_add 15 = .ok (.aload_n 0, 1) := by decide +kernel
theorem d_Sv_add_16 : decode b_Sv_add 16 = .ok (.getfield 10, 3) := by decide +kernel
theorem d_Sv_add_19 : decode b_Sv_add 19 = .ok (.getfield 61, 3) := by decide +kernel
theorem d_Sv_add_22 : decode b_Sv_add 22 = .ok (.aload_n 0, 1) := by decide +kernel
theorem d_Sv_add_23 : decode b_Sv_add 23 = .ok (.getfield 10, 3) := by decide +kernel
theorem d_Sv_add_26 : decode b_Sv_add 26 = .ok (.getfield 58, 3) := by decide +kernel
theorem d_Sv_add_29 : decode b_Sv_add 29 = .ok (.iload_n 1, 1) := by decide +kernel
theorem d_Sv_add_30 : decode b_Sv_add 30 = .ok (.i2b, 1) := by decide +kernel
theorem d_Sv_add_31 : decode b_Sv_add 31 = .ok (.bastore, 1) := by decide +kernel
theorem d_Sv_add_32 : decode b_Sv_add 32 = .ok (.aload_n 0, 1) := by decide +kernel
theorem d_Sv_add_33 : decode b_Sv_add 33 = .ok (.getfield 10, 3) := by decide +kernel
theorem d_Sv_add_36 : decode b_Sv_add 36 = .ok (.dup, 1) := by decide +kernel
theorem d_Sv_add_37 : decode b_Sv_add 37 = .ok (.getfield 58, 3) := by decide +kernel
theorem d_Sv_add_40 : decode b_Sv_add 40 = .ok (.iconst 1, 1) := by decide +kernel
theorem d_Sv_add_41 : decode b_Sv_add 41 = .ok (.iadd, 1) := by decide +kernel
theorem d_Sv_add_42 : decode b_Sv_add 42 = .ok (.putfield 58, 3) := by decide +kernel
theorem d_Sv_add_45 : decode b_Sv_add 45 = .ok (.iconst 1, 1) := by decide +kernel
theorem d_Sv_add_46 : decode b_Sv_add 46 = .ok (.ireturn, 1) := by decide +kernel
theorem d_Sv_fits_0 : decode b_Sv_fits 0 = .ok (.aload_n 0, 1) := by decide +kernel
theorem d_Sv_fits_1 : decode b_Sv_fits 1 = .ok (.getfield 19, 3) := by decide +kernel
theorem d_Sv_fits_4 : decode b_Sv_fits 4 = .ok (.aload_n 0, 1) := by decide +kernel
theorem d_Sv_fits_5 : decode b_Sv_fits 5 = .ok (.getfield 10, 3) := by decide +kernel
theorem d_Sv_fits_8 : decode b_Sv_fits 8 = .ok (.iconst 0, 1) := by decide +kernel
theorem d_Sv_fits_9 : decode b_Sv_fits 9 = .ok (.invokevirtual 65, 3) := by decide +kernel
theorem d_Sv_fits_12 : decode b_Sv_fits 12 = .ok (.ireturn, 1) := by decide +kernel
theorem d_Sv_prefix_0 : decode b_Sv_prefix 0 = .ok (.iload_n 1, 1) := by decide +kernel
theorem d_Sv_prefix_1 : decode b_Sv_prefix 1 = .ok (.ifCond .lt 14, 3) := by decide +kernel
theorem d_Sv_prefix_4 : decode b_Sv_prefix 4 = .ok (.iload_n 1, 1) := by decide +kernel
theorem d_Sv_prefix_5 : decode b_Sv_prefix 5 = .ok (.aload_n 0, 1) := by decide +kernel
theorem d_Sv_prefix_6 : decode b_Sv_prefix 6 = .ok (.getfield 10, 3) := by decide +kernel
theorem d_Sv_prefix_9 : decode b_Sv_prefix 9 = .ok (.getfield 58, 3) := by decide +kernel
theorem d_Sv_prefix_12 : decode b_Sv_prefix 12 = .ok (.if_icmp .le 5, 3) := by decide +kernel
theorem d_Sv_prefix_15 : decode b_Sv_prefix 15 = .ok (.iconst 0, 1) := by decide +kernel
theorem d_Sv_prefix_16 : decode b_Sv_prefix 16 = .ok (.ireturn, 1) := by decide +kernel
theorem d_Sv_prefix_17 : decode b_Sv_prefix 17 = .ok (.aload_n 0, 1) := by decide +kernel
theorem d_Sv_prefix_18 : decode b_Sv_prefix 18 = .ok (.getfield 19, 3) := by decide +kernel
theorem d_Sv_prefix_21 : decode b_Sv_prefix 21 = .ok (.aload_n 0, 1) := by decide +kernel
theorem d_Sv_prefix_22 : decode b_Sv_prefix 22 = .ok (.getfield 10, 3) := by decide +kernel
theorem d_Sv_prefix_25 : decode b_Sv_prefix 25 = .ok (.iconst 0, 1) := by decide +kernel
theorem d_Sv_prefix_26 : decode b_Sv_prefix 26 = .ok (.invokevirtual 65, 3) := by decide +kernel
theorem d_Sv_prefix_29 : decode b_Sv_prefix 29 = .ok (.istore_n 2, 1) := by decide +kernel
theorem d_Sv_prefix_30 : decode b_Sv_prefix 30 = .ok (.aload_n 0, 1) := by decide +kernel
theorem d_Sv_prefix_31 : decode b_Sv_prefix 31 = .ok (.getfield 19, 3) := by decide +kernel
theorem d_Sv_prefix_34 : decode b_Sv_prefix 34 = .ok (.getfield 69, 3) := by decide +kernel
theorem d_Sv_prefix_37 : decode b_Sv_prefix 37 = .ok (.iload_n 1, 1) := by decide +kernel
theorem d_Sv_prefix_38 : decode b_Sv_prefix 38 = .ok (.baload, 1) := by decide +kernel
theorem d_Sv_prefix_39 : decode b_Sv_prefix 39 = .ok (.ireturn, 1) := by decide +kernel
theorem d_Sv_count_0 : decode b_Sv_count 0 = .ok (.iload_n 1, 1) := by decide +kernel
theorem d_Sv_count_1 : decode b_Sv_count 1 = .ok (.ifCond .ne 13, 3) := by decide +kernel
theorem d_Sv_count_4 : decode b_Sv_count 4 = .ok (.aload_n 0, 1) := by decide +kernel
theorem d_Sv_count_5 : decode b_Sv_count 5 = .ok (.getfield 19, 3) := by decide +kernel
theorem d_Sv_count_8 : decode b_Sv_count 8 = .ok (.getfield 26, 3) := by decide +kernel
theorem d_Sv_count_11 : decode b_Sv_count 11 = .ok (.goto 19, 3) := by decide +kernel
theorem d_Sv_count_14 : decode b_Sv_count 14 = .ok (.iload_n 1, 1) := by decide +kernel
theorem d_Sv_count_15 : decode b_Sv_count 15 = .ok (.iconst 1, 1) := by decide +kernel
theorem d_Sv_count_16 : decode b_Sv_count 16 = .ok (.if_icmp .ne 13, 3) := by decide +kernel
theorem d_Sv_count_19 : decode b_Sv_count 19 = .ok (.aload_n 0, 1) := by decide +kernel
theorem d_Sv_count_20 : decode b_Sv_count 20 = .ok (.getfield 10, 3) := by decide +kernel
theorem d_Sv_count_23 : decode b_Sv_count 23 = .ok (.getfield 58, 3) := by decide +kernel
theorem d_Sv_count_26 : decode b_Sv_count 26 = .ok (.goto 4, 3) := by decide +kernel
theorem d_Sv_count_29 : decode b_Sv_count 29 = .ok (.iconst (-1), 1) := by decide +kernel
theorem d_Sv_count_30 : decode b_Sv_count 30 = .ok (.ireturn, 1) := by decide +kernel
theorem d_Nu_isDigit_0 : decode b_Nu_isDigit 0 = .ok (.iload_n 0, 1) := by decide +kernel
theorem d_Nu_isDigit_1 : decode b_Nu_isDigit 1 = .ok (.bipush 48, 2) := by decide +kernel
theorem d_Nu_isDigit_3 : decode b_Nu_isDigit 3 = .ok (.if_icmp .lt 13, 3) := by decide +kernel
theorem d_Nu_isDigit_6 : decode b_Nu_isDigit 6 = .ok (.iload_n 0, 1) := by decide +kernel
theorem d_Nu_isDigit_7 : decode b_Nu_isDigit 7 = .ok (.bipush 57, 2) := by decide +kernel
theorem d_Nu_isDigit_9 : decode b_Nu_isDigit 9 = .ok (.if_icmp .gt 7, 3) := by decide +kernel
theorem d_Nu_isDigit_12 : decode b_Nu_isDigit 12 = .ok (.iconst 1, 1) := by decide +kernel
theorem d_Nu_isDigit_13 : decode b_Nu_isDigit 13 = .ok (.goto 4, 3) := by decide +kernel
theorem d_Nu_isDigit_16 : decode b_Nu_isDigit 16 = .ok (.iconst 0, 1) := by decide +kernel
theorem d_Nu_isDigit_17 : decode b_Nu_isDigit 17 = .ok (.ireturn, 1) := by decide +kernel
theorem d_Pi_init_0 : decode b_Pi_init 0 = .ok (.aload_n 0, 1) := by decide +kernel
theorem d_Pi_init_1 : decode b_Pi_init 1 = .ok (.invokespecial 3, 3) := by decide +kernel
theorem d_Pi_init_4 : decode b_Pi_init 4 = .ok (.aload_n 0, 1) := by decide +kernel
theorem d_Pi_init_5 : decode b_Pi_init 5 = .ok (.sipush 256, 3) := by decide +kernel
theorem d_Pi_init_8 : decode b_Pi_init 8 = .ok (.newarray .byte, 2) := by decide +kernel
theorem d_Pi_init_10 : decode b_Pi_init 10 = .ok (.putfield 9, 3) := by decide +kernel
theorem d_Pi_init_13 : decode b_Pi_init 13 = .ok (.return_, 1) := by decide +kernel
theorem d_Pi_size_0 : decode b_Pi_size 0 = .ok (.aload_n 0, 1) := by decide +kernel
theorem d_Pi_size_1 : decode b_Pi_size 1 = .ok (.getfield 15, 3) := by decide +kernel
theorem d_Pi_size_4 : decode b_Pi_size 4 = .ok (.ireturn, 1) := by decide +kernel
theorem d_Pi_get_0 : decode b_Pi_get 0 = .ok (.aload_n 0, 1) := by decide +kernel
theorem d_Pi_get_1 : decode b_Pi_get 1 = .ok (.getfield 9, 3) := by decide +kernel
theorem d_Pi_get_4 : decode b_Pi_get 4 = .ok (.iload_n 2, 1) := by decide +kernel
theorem d_Pi_get_5 : decode b_Pi_get 5 = .ok (.baload, 1) := by decide +kernel
theorem d_Pi_get_6 : decode b_Pi_get 6 = .ok (.sipush 255, 3) := by decide +kernel
theorem d_Pi_get_9 : decode b_Pi_get 9 = .ok (.iand, 1) := by decide +kernel
theorem d_Pi_get_10 : decode b_Pi_get 10 = .ok (.ireturn, 1) := by decide +kernel
end
section
theorem d_Pt_init_0 : decode b_Pt_init 0 = .ok (.aload_n 0, 1) := by decide +kernel
theorem d_Pt_init_1 : decode b_Pt_init 1 = .ok (.invokespecial 3, 3) := by decide +kernel
theorem d_Pt_init_4 : decode b_Pt_init 4 = .ok (.aload_n 0, 1) := by decide +kernel
theorem d_Pt_init_5 : decode b_Pt_init 5 = .ok (.sipush 128, 3) := by decide +kernel
theorem d_Pt_init_8 : decode b_Pt_init 8 = .ok (.newarray .int, 2) := by decide +kernel
theorem d_Pt_init_10 : decode b_Pt_init 10 = .ok (.putfield 11, 3) := by decide +kernel
theorem d_Pt_init_13 : decode b_Pt_init 13 = .ok (.aload_n 0, 1) := by decide +kernel
theorem d_Pt_init_14 : decode b_Pt_init 14 = .ok (.sipush 128, 3) := by decide +kernel
theorem d_Pt_init_17 : decode b_Pt_init 17 = .ok (.newarray .int, 2) := by decide +kernel
theorem d_Pt_init_19 : decode b_Pt_init 19 = .ok (.putfield 15, 3) := by decide +kernel
theorem d_Pt_init_22 : decode b_Pt_init 22 = .ok (.aload_n 0, 1) := by decide +kernel
theorem d_Pt_init_23 : decode b_Pt_init 23 = .ok (.sipush 128, 3) := by decide +kernel
theorem d_Pt_init_26 : decode b_Pt_init 26 = .ok (.newarray .int, 2) := by decide +kernel
theorem d_Pt_init_28 : decode b_Pt_init 28 = .ok (.putfield 18, 3) := by decide +kernel
theorem d_Pt_init_31 : decode b_Pt_init 31 = .ok (.aload_n 0, 1) := by decide +kernel
theorem d_Pt_init_32 : decode b_Pt_init 32 = .ok (.sipush 128, 3) := by decide +kernel
theorem d_Pt_init_35 : decode b_Pt_init 35 = .ok (.newarray .int, 2) := by decide +kernel
theorem d_Pt_init_37 : decode b_Pt_init 37 = .ok (.putfield 21, 3) := by decide +kernel
theorem d_Pt_init_40 : decode b_Pt_init 40 = .ok (.aload_n 0, 1) := by decide +kernel
theorem d_Pt_init_41 : decode b_Pt_init 41 = .ok (.sipush 128, 3) := by decide +kernel
theorem d_Pt_init_44 : decode b_Pt_init 44 = .ok (.newarray .int, 2) := by decide +kernel
theorem d_Pt_init_46 : decode b_Pt_init 46 = .ok (.putfield 24, 3) := by decide +kernel
theorem d_Pt_init_49 : decode b_Pt_init 49 = .ok (.aload_n 0, 1) := by decide +kernel
theorem d_Pt_init_50 : decode b_Pt_init 50 = .ok (.sipush 256, 3) := by decide +kernel
theorem d_Pt_init_53 : decode b_Pt_init 53 = .ok (.newarray .byte, 2) := by decide +kernel
theorem d_Pt_init_55 : decode b_Pt_init 55 = .ok (.putfield 27, 3) := by decide +kernel
theorem d_Pt_init_58 : decode b_Pt_init 58 = .ok (.aload_n 0, 1) := by decide +kernel
theorem d_Pt_init_59 : decode b_Pt_init 59 = .ok (.sipush 256, 3) := by decide +kernel
theorem d_Pt_init_62 : decode b_Pt_init 62 = .ok (.newarray .boolean, 2) := by decide +kernel
theorem d_Pt_init_64 : decode b_Pt_init 64 = .ok (.putfield 31, 3) := by decide +kernel
theorem d_Pt_init_67 : decode b_Pt_init 67 = .ok (.aload_n 0, 1) := by decide +kernel
theorem d_Pt_init_68 : decode b_Pt_init 68 = .ok (.sipush 256, 3) := by decide +kernel
theorem d_Pt_init_71 : decode b_Pt_init 71 = .ok (.newarray .boolean, 2) := by decide +kernel
theorem d_Pt_init_73 : decode b_Pt_init 73 = .ok (.putfield 35, 3) := by decide +kernel
theorem d_Pt_init_76 : decode b_Pt_init 76 = .ok (.aload_n 0, 1) := by decide +kernel
theorem d_Pt_init_77 : decode b_Pt_init 77 = .ok (.sipush 256, 3) := by decide +kernel
theorem d_Pt_init_80 : decode b_Pt_init 80 = .ok (.newarray .boolean, 2) := by decide +kernel
theorem d_Pt_init_82 : decode b_Pt_init 82 = .ok (.putfield 38, 3) := by decide +kernel
theorem d_Pt_init_85 : decode b_Pt_init 85 = .ok (.return_, 1) := by decide +kernel
theorem d_Pt_clear_0 : decode b_Pt_clear 0 = .ok (.aload_n 0, 1) := by decide +kernel
theorem d_Pt_clear_1 : decode b_Pt_clear 1 = .ok (.iconst 0, 1) := by decide +kernel
theorem d_Pt_clear_2 : decode b_Pt_clear 2 = .ok (.putfield 41, 3) := by decide +kernel
theorem d_Pt_clear_5 : decode b_Pt_clear 5 = .ok (.aload_n 0, 1) := by decide +kernel
theorem d_Pt_clear_6 : decode b_Pt_clear 6 = .ok (.iconst 0, 1) := by decide +kernel
theorem d_Pt_clear_7 : decode b_Pt_clear 7 = .ok (.putfield 45, 3) := by decide +kernel
theorem d_Pt_clear_10 : decode b_Pt_clear 10 = .ok (.return_, 1) := by decide +kernel
theorem d_Pt_part_0 : decode b_Pt_part 0 = .ok (.aload_n 0, 1) := by decide +kernel
theorem d_Pt_part_1 : decode b_Pt_part 1 = .ok (.getfield 11, 3) := by decide +kernel
theorem d_Pt_part_4 : decode b_Pt_part 4 = .ok (.aload_n 0, 1) := by decide +kernel
theorem d_Pt_part_5 : decode b_Pt_part 5 = .ok (.getfield 41, 3) := by decide +kernel
theorem d_Pt_part_8 : decode b_Pt_part 8 = .ok (.iload_n 1, 1) := by decide +kernel
theorem d_Pt_part_9 : decode b_Pt_part 9 = .ok (.iastore, 1) := by decide +kernel
theorem d_Pt_part_10 : decode b_Pt_part 10 = .ok (.aload_n 0, 1) := by decide +kernel
theorem d_Pt_part_11 : decode b_Pt_part 11 = .ok (.getfield 15, 3) := by decide +kernel
theorem d_Pt_part_14 : decode b_Pt_part 14 = .ok (.aload_n 0, 1) := by decide +kernel
theorem d_Pt_part_15 : decode b_Pt_part 15 = .ok (.getfield 41, 3) := by decide +kernel
theorem d_Pt_part_18 : decode b_Pt_part 18 = .ok (.iload_n 2, 1) := by decide +kernel
theorem d_Pt_part_19 : decode b_Pt_part 19 = .ok (.iastore, 1) := by decide +kernel
theorem d_Pt_part_20 : decode b_Pt_part 20 = .ok (.aload_n 0, 1) := by decide +kernel
theorem d_Pt_part_21 : decode b_Pt_part 21 = .ok (.getfield 18, 3) := by decide +kernel
theorem d_Pt_part_24 : decode b_Pt_part 24 = .ok (.aload_n 0, 1) := by decide +kernel
theorem d_Pt_part_25 : decode b_Pt_part 25 = .ok (.getfield 41, 3) := by decide +kernel
theorem d_Pt_part_28 : decode b_Pt_part 28 = .ok (.iconst 0, 1) := by decide +kernel
theorem d_Pt_part_29 : decode b_Pt_part 29 = .ok (.iastore, 1) := by decide +kernel
theorem d_Pt_part_30 : decode b_Pt_part 30 = .ok (.aload_n 0, 1) := by decide +kernel
theorem d_Pt_part_31 : decode b_Pt_part 31 = .ok (.getfield 21, 3) := by decide +kernel
theorem d_Pt_part_34 : decode b_Pt_part 34 = .ok (.aload_n 0, 1) := by decide +kernel
theorem d_Pt_part_35 : decode b_Pt_part 35 = .ok (.getfield 41, 3) := by decide +kernel
theorem d_Pt_part_38 : decode b_Pt_part 38 = .ok (.aload_n 0, 1) := by decide +kernel
theorem d_Pt_part_39 : decode b_Pt_part 39 = .ok (.getfield 45, 3) := by decide +kernel
theorem d_Pt_part_42 : decode b_Pt_part 42 = .ok (.iastore, 1) := by decide +kernel
theorem d_Pt_part_43 : decode b_Pt_part 43 = .ok (.aload_n 0, 1) := by decide +kernel
theorem d_Pt_part_44 : decode b_Pt_part 44 = .ok (.getfield 24, 3) := by decide +kernel
theorem d_Pt_part_47 : decode b_Pt_part 47 = .ok (.aload_n 0, 1) := by decide +kernel
theorem d_Pt_part_48 : decode b_Pt_part 48 = .ok (.getfield 41, 3) := by decide +kernel
theorem d_Pt_part_51 : decode b_Pt_part 51 = .ok (.iconst 0, 1) := by decide +kernel
theorem d_Pt_part_52 : decode b_Pt_part 52 = .ok (.iastore, 1) := by decide +kernel
theorem d_Pt_part_53 : decode b_Pt_part 53 = .ok (.aload_n 0, 1) := by decide +kernel
theorem d_Pt_part_54 : decode b_Pt_part 54 = .ok (.dup, 1) := by decide +kernel
theorem d_Pt_part_55 : decode b_Pt_part 55 = .ok (.getfield 41, 3) := by decide +kernel
theorem d_Pt_part_58 : decode b_Pt_part 58 = .ok (.iconst 1, 1) := by decide +kernel
theorem d_Pt_part_59 : decode b_Pt_part 59 = .ok (.iadd, 1) := by decide +kernel
theorem d_Pt_part_60 : decode b_Pt_part 60 = .ok (.putfield 41, 3) := by decide +kernel
theorem d_Pt_part_63 : decode b_Pt_part 63 = .ok (.return_, 1) := by decide +kernel
theorem d_Pt_letter_0 : decode b_Pt_letter 0 = .ok (.iload_n 1, 1) := by decide +kernel
theorem d_Pt_letter_1 : decode b_Pt_letter 1 = .ok (.bipush 65, 2) := by decide +kernel
theorem d_Pt_letter_3 : decode b_Pt_letter 3 = .ok (.if_icmp .ne 7, 3) := by decide +kernel
theorem d_Pt_letter_6 : decode b_Pt_letter 6 = .ok (.iconst 1, 1) := by decide +kernel
theorem d_Pt_letter_7 : decode b_Pt_letter 7 = .ok (.goto 58, 3) := by decide +kernel
theorem d_Pt_letter_10 : decode b_Pt_letter 10 = .ok (.iload_n 1, 1) := by decide +kernel
theorem d_Pt_letter_11 : decode b_Pt_letter 11 = .ok (.bipush 85, 2) := by decide +kernel
theorem d_Pt_letter_13 : decode b_Pt_letter 13 = .ok (.if_icmp .ne 7, 3) := by decide +kernel
theorem d_Pt_letter_16 : decode b_Pt_letter 16 = .ok (.iconst 2, 1) := by decide +kernel
theorem d_Pt_letter_17 : decode b_Pt_letter 17 = .ok (.goto 48, 3) := by decide +kernel
theorem d_Pt_letter_20 : decode b_Pt_letter 20 = .ok (.iload_n 1, 1) := by decide +kernel
theorem d_Pt_letter_21 : decode b_Pt_letter 21 = .ok (.bipush 76, 2) := by decide +kernel
theorem d_Pt_letter_23 : decode b_Pt_letter 23 = .ok (.if_icmp .ne 7, 3) := by decide +kernel
theorem d_Pt_letter_26 : decode b_Pt_letter 26 = .ok (.iconst 4, 1) := by decide +kernel
theorem d_Pt_letter_27 : decode b_Pt_letter 27 = .ok (.goto 38, 3) := by decide +kernel
theorem d_Pt_letter_30 : decode b_Pt_letter 30 = .ok (.iload_n 1, 1) := by decide +kernel
theorem d_Pt_letter_31 : decode b_Pt_letter 31 = .ok (.bipush 78, 2) := by decide +kernel
theorem d_Pt_letter_33 : decode b_Pt_letter 33 = .ok (.if_icmp .ne 8, 3) := by decide +kernel
theorem d_Pt_letter_36 : decode b_Pt_letter 36 = .ok (.bipush 8, 2) := by decide +kernel
theorem d_Pt_letter_38 : decode b_Pt_letter 38 = .ok (.goto 27, 3) := by decide +kernel
theorem d_Pt_letter_41 : decode b_Pt_letter 41 = .ok (.iload_n 1, 1) := by decide +kernel
theorem d_Pt_letter_42 : decode b_Pt_letter 42 = .ok (.bipush 80, 2) := by decide +kernel
theorem d_Pt_letter_44 : decode b_Pt_letter 44 = .ok (.if_icmp .ne 8, 3) := by decide +kernel
theorem d_Pt_letter_47 : decode b_Pt_letter 47 = .ok (.bipush 16, 2) := by decide +kernel
theorem d_Pt_letter_49 : decode b_Pt_letter 49 = .ok (.goto 16, 3) := by decide +kernel
theorem d_Pt_letter_52 : decode b_Pt_letter 52 = .ok (.iload_n 1, 1) := by decide +kernel
theorem d_Pt_letter_53 : decode b_Pt_letter 53 = .ok (.bipush 67, 2) := by decide +kernel
theorem d_Pt_letter_55 : decode b_Pt_letter 55 = .ok (.if_icmp .ne 8, 3) := by decide +kernel
theorem d_Pt_letter_58 : decode b_Pt_letter 58 = .ok (.bipush 32, 2) := by decide +kernel
theorem d_Pt_letter_60 : decode b_Pt_letter 60 = .ok (.goto 5, 3) := by decide +kernel
theorem d_Pt_letter_63 : decode b_Pt_letter 63 = .ok (.bipush 64, 2) := by decide +kernel
theorem d_Pt_letter_65 : decode b_Pt_letter 65 = .ok (.istore_n 2, 1) := by decide +kernel
theorem d_Pt_letter_66 : decode b_Pt_letter 66 = .ok (.aload_n 0, 1) := by decide +kernel
theorem d_Pt_letter_67 : decode b_Pt_letter 67 = .ok (.getfield 18, 3) := by decide +kernel
theorem d_Pt_letter_70 : decode b_Pt_letter 70 = .ok (.aload_n 0, 1) := by decide +kernel
theorem d_Pt_letter_71 : decode b_Pt_letter 71 = .ok (.getfield 41, 3) := by decide +kernel
theorem d_Pt_letter_74 : decode b_Pt_letter 74 = .ok (.iconst 1, 1) := by decide +kernel
theorem d_Pt_letter_75 : decode b_Pt_letter 75 = .ok (.isub, 1) := by decide +kernel
theorem d_Pt_letter_76 : decode b_Pt_letter 76 = .ok (.dup2, 1) := by decide +kernel
theorem d_Pt_letter_77 : decode b_Pt_letter 77 = .ok (.iaload, 1) := by decide +kernel
theorem d_Pt_letter_78 : decode b_Pt_letter 78 = .ok (.iload_n 2, 1) := by decide +kernel
theorem d_Pt_letter_79 : decode b_Pt_letter 79 = .ok (.ior, 1) := by decide +kernel
theorem d_Pt_letter_80 : decode b_Pt_letter 80 = .ok (.iastore, 1) := by decide +kernel
theorem d_Pt_letter_81 : decode b_Pt_letter 81 = .ok (.return_, 1) := by decide +kernel
theorem d_Pt_isClass_0 : decode b_Pt_isClass 0 = .ok (.iload_n 0, 1) := by decide +kernel
theorem d_Pt_isClass_1 : decode b_Pt_isClass 1 = .ok (.bipush 65, 2) := by decide +kernel
theorem d_Pt_isClass_3 : decode b_Pt_isClass 3 = .ok (.if_icmp .eq 39, 3) := by decide +kernel
theorem d_Pt_isClass_6 : decode b_Pt_isClass 6 = .ok (.iload_n 0, 1) := by decide +kernel
theorem d_Pt_isClass_7 : decode b_Pt_isClass 7 = .ok (.bipush 85, 2) := by decide +kernel
theorem d_Pt_isClass_9 : decode b_Pt_isClass 9 = .ok (.if_icmp .eq 33, 3) := by decide +kernel
theorem d_Pt_isClass_12 : decode b_Pt_isClass 12 = .ok (.iload_n 0, 1) := by decide +kernel
theorem d_Pt_isClass_13 : decode b_Pt_isClass 13 = .ok (.bipush 76, 2) := by decide +kernel
theorem d_Pt_isClass_15 : decode b_Pt_isClass 15 = .ok (.if_icmp .eq 27, 3) := by decide +kernel
theorem d_Pt_isClass_18 : decode b_Pt_isClass 18 = .ok (.iload_n 0, 1) := by decide +kernel
theorem d_Pt_isClass_19 : decode b_Pt_isClass 19 = .ok (.bipush 78, 2) := by decide +kernel
theorem d_Pt_isClass_21 : decode b_Pt_isClass 21 = .ok (.if_icmp .eq 21, 3) := by decide +kernel
theorem d_Pt_isClass_24 : decode b_Pt_isClass 24 = .ok (.iload_n 0, 1) := by decide +kernel
theorem d_Pt_isClass_25 : decode b_Pt_isClass 25 = .ok (.bipush 80, 2) := by decide +kernel
theorem d_Pt_isClass_27 : decode b_Pt_isClass 27 = .ok (.if_icmp .eq 15, 3) := by decide +kernel
theorem d_Pt_isClass_30 : decode b_Pt_isClass 30 = .ok (.iload_n 0, 1) := by decide +kernel
theorem d_Pt_isClass_31 : decode b_Pt_isClass 31 = .ok (.bipush 67, 2) := by decide +kernel
theorem d_Pt_isClass_33 : decode b_Pt_isClass 33 = .ok (.if_icmp .eq 9, 3) := by decide +kernel
theorem d_Pt_isClass_36 : decode b_Pt_isClass 36 = .ok (.iload_n 0, 1) := by decide +kernel
theorem d_Pt_isClass_37 : decode b_Pt_isClass 37 = .ok (.bipush 69, 2) := by decide +kernel
theorem d_Pt_isClass_39 : decode b_Pt_isClass 39 = .ok (.if_icmp .ne 7, 3) := by decide +kernel
theorem d_Pt_isClass_42 : decode b_Pt_isClass 42 = .ok (.iconst 1, 1) := by decide +kernel
theorem d_Pt_isClass_43 : decode b_Pt_isClass 43 = .ok (.goto 4, 3) := by decide +kernel
theorem d_Pt_isClass_46 : decode b_Pt_isClass 46 = .ok (.iconst 0, 1) := by decide +kernel
theorem d_Pt_isClass_47 : decode b_Pt_isClass 47 = .ok (.ireturn, 1) := by decide +kernel
theorem d_Pt_literal_0 : decode b_Pt_literal 0 = .ok (.aload_n 0, 1) := by decide +kernel
theorem d_Pt_literal_1 : decode b_Pt_literal 1 = .ok (.getfield 27, 3) := by decide +kernel
theorem d_Pt_literal_4 : decode b_Pt_literal 4 = .ok (.aload_n 0, 1) := by decide +kernel
theorem d_Pt_literal_5 : decode b_Pt_literal 5 = .ok (.getfield 45, 3) := by decide +kernel
theorem d_Pt_literal_8 : decode b_Pt_literal 8 = .ok (.iload_n 1, 1) := by decide +kernel
theorem d_Pt_literal_9 : decode b_Pt_literal 9 = .ok (.i2b, 1) := by decide +kernel
theorem d_Pt_literal_10 : decode b_Pt_literal 10 = .ok (.bastore, 1) := by decide +kernel
theorem d_Pt_literal_11 : decode b_Pt_literal 11 = .ok (.aload_n 0, 1) := by decide +kernel
theorem d_Pt_literal_12 : decode b_Pt_literal 12 = .ok (.dup, 1) := by decide +kernel
theorem d_Pt_literal_13 : decode b_Pt_literal 13 = .ok (.getfield 45, 3) := by decide +kernel
theorem d_Pt_literal_16 : decode b_Pt_literal 16 = .ok (.iconst 1, 1) := by decide +kernel
theorem d_Pt_literal_17 : decode b_Pt_literal 17 = .ok (.iadd, 1) := by decide +kernel
theorem d_Pt_literal_18 : decode b_Pt_literal 18 = .ok (.putfield 45, 3) := by decide +kernel
theorem d_Pt_literal_21 : decode b_Pt_literal 21 = .ok (.aload_n 0, 1) := by decide +kernel
theorem d_Pt_literal_22 : decode b_Pt_literal 22 = .ok (.getfield 24, 3) := by decide +kernel
theorem d_Pt_literal_25 : decode b_Pt_literal 25 = .ok (.aload_n 0, 1) := by decide +kernel
theorem d_Pt_literal_26 : decode b_Pt_literal 26 = .ok (.getfield 41, 3) := by decide +kernel
theorem d_Pt_literal_29 : decode b_Pt_literal 29 = .ok (.iconst 1, 1) := by decide +kernel
theorem d_Pt_literal_30 : decode b_Pt_literal 30 = .ok (.isub, 1) := by decide +kernel
theorem d_Pt_literal_31 : decode b_Pt_literal 31 = .ok (.dup2, 1) := by decide +kernel
theorem d_Pt_literal_32 : decode b_Pt_literal 32 = .ok (.iaload, 1) := by decide +kernel
theorem d_Pt_literal_33 : decode b_Pt_literal 33 = .ok (.iconst 1, 1) := by decide +kernel
theorem d_Pt_literal_34 : decode b_Pt_literal 34 = .ok (.iadd, 1) := by decide +kernel
theorem d_Pt_literal_35 : decode b_Pt_literal 35 = .ok (.iastore, 1) := by decide +kernel
theorem d_Pt_literal_36 : decode b_Pt_literal 36 = .ok (.return_, 1) := by decide +kernel
theorem d_Pt_classOf_0 : decode b_Pt_classOf 0 = .ok (.iload_n 0, 1) := by decide +kernel
theorem d_Pt_classOf_1 : decode b_Pt_classOf 1 = .ok (.bipush 65, 2) := by decide +kernel
theorem d_Pt_classOf_3 : decode b_Pt_classOf 3 = .ok (.if_icmp .lt 12, 3) := by decide +kernel
theorem d_Pt_classOf_6 : decode b_Pt_classOf 6 = .ok (.iload_n 0, 1) := by decide +kernel
theorem d_Pt_classOf_7 : decode b_Pt_classOf 7 = .ok (.bipush 90, 2) := by decide +kernel
theorem d_Pt_classOf_9 : decode b_Pt_classOf 9 = .ok (.if_icmp .gt 6, 3) := by decide +kernel
theorem d_Pt_classOf_12 : decode b_Pt_classOf 12 = .ok (.bipush 67, 2) := by decide +kernel
theorem d_Pt_classOf_14 : decode b_Pt_classOf 14 = .ok (.ireturn, 1) := by decide +kernel
theorem d_Pt_classOf_15 : decode b_Pt_classOf 15 = .ok (.iload_n 0, 1) := by decide +kernel
theorem d_Pt_classOf_16 : decode b_Pt_classOf 16 = .ok (.bipush 97, 2) := by decide +kernel
theorem d_Pt_classOf_18 : decode b_Pt_classOf 18 = .ok (.if_icmp .lt 12, 3) := by decide +kernel
theorem d_Pt_classOf_21 : decode b_Pt_classOf 21 = .ok (.iload_n 0, 1) := by decide +kernel
theorem d_Pt_classOf_22 : decode b_Pt_classOf 22 = .ok (.bipush 122, 2) := by decide +kernel
theorem d_Pt_classOf_24 : decode b_Pt_classOf 24 = .ok (.if_icmp .gt 6, 3) := by decide +kernel
theorem d_Pt_classOf_27 : decode b_Pt_classOf 27 = .ok (.bipush 69, 2) := by decide +kernel
theorem d_Pt_classOf_29 : decode b_Pt_classOf 29 = .ok (.ireturn, 1) := by decide +kernel
theorem d_Pt_classOf_30 : decode b_Pt_classOf 30 = .ok (.iload_n 0, 1) := by decide +kernel
theorem d_Pt_classOf_31 : decode b_Pt_classOf 31 = .ok (.invokestatic 48, 3) := by decide +kernel
theorem d_Pt_classOf_34 : decode b_Pt_classOf 34 = .ok (.ifCond .eq 6, 3) := by decide +kernel
theorem d_Pt_classOf_37 : decode b_Pt_classOf 37 = .ok (.bipush 72, 2) := by decide +kernel
theorem d_Pt_classOf_39 : decode b_Pt_classOf 39 = .ok (.ireturn, 1) := by decide +kernel
theorem d_Pt_classOf_40 : decode b_Pt_classOf 40 = .ok (.iload_n 0, 1) := by decide +kernel
theorem d_Pt_classOf_41 : decode b_Pt_classOf 41 = .ok (.bipush 32, 2) := by decide +kernel
theorem d_Pt_classOf_43 : decode b_Pt_classOf 43 = .ok (.if_icmp .lt 9, 3) := by decide +kernel
theorem d_Pt_classOf_46 : decode b_Pt_classOf 46 = .ok (.iload_n 0, 1) := by decide +kernel
theorem d_Pt_classOf_47 : decode b_Pt_classOf 47 = .ok (.bipush 127, 2) := by decide +kernel
theorem d_Pt_classOf_49 : decode b_Pt_classOf 49 = .ok (.if_icmp .ne 8, 3) := by decide +kernel
theorem d_Pt_classOf_52 : decode b_Pt_classOf 52 = .ok (.bipush 96, 2) := by decide +kernel
theorem d_Pt_classOf_54 : decode b_Pt_classOf 54 = .ok (.goto 16, 3) := by decide +kernel
theorem d_Pt_classOf_57 : decode b_Pt_classOf 57 = .ok (.iload_n 0, 1) := by decide +kernel
theorem d_Pt_classOf_58 : decode b_Pt_classOf 58 = .ok (.bipush 127, 2) := by decide +kernel
theorem d_Pt_classOf_60 : decode b_Pt_classOf 60 = .ok (.if_icmp .ge 8, 3) := by decide +kernel
theorem d_Pt_classOf_63 : decode b_Pt_classOf 63 = .ok (.bipush 80, 2) := by decide +kernel
theorem d_Pt_classOf_65 : decode b_Pt_classOf 65 = .ok (.goto 5, 3) := by decide +kernel
theorem d_Pt_classOf_68 : decode b_Pt_classOf 68 = .ok (.bipush 64, 2) := by decide +kernel
theorem d_Pt_classOf_70 : decode b_Pt_classOf 70 = .ok (.ireturn, 1) := by decide +kernel
theorem d_Pt_once_0 : decode b_Pt_once 0 = .ok (.aload_n 2, 1) := by decide +kernel
theorem d_Pt_once_1 : decode b_Pt_once 1 = .ok (.iload_n 3, 1) := by decide +kernel
theorem d_Pt_once_2 : decode b_Pt_once 2 = .ok (.invokevirtual 54, 3) := by decide +kernel
theorem d_Pt_once_5 : decode b_Pt_once 5 = .ok (.istore 5, 2) := by decide +kernel
theorem d_Pt_once_7 : decode b_Pt_once 7 = .ok (.aload_n 0, 1) := by decide +kernel
theorem d_Pt_once_8 : decode b_Pt_once 8 = .ok (.getfield 18, 3) := by decide +kernel
theorem d_Pt_once_11 : decode b_Pt_once 11 = .ok (.iload_n 1, 1) := by decide +kernel
theorem d_Pt_once_12 : decode b_Pt_once 12 = .ok (.iaload, 1) := by decide +kernel
theorem d_Pt_once_13 : decode b_Pt_once 13 = .ok (.ifCond .eq 39, 3) := by decide +kernel
theorem d_Pt_once_16 : decode b_Pt_once 16 = .ok (.iload 4, 2) := by decide +kernel
theorem d_Pt_once_18 : decode b_Pt_once 18 = .ok (.iload 5, 2) := by decide +kernel
theorem d_Pt_once_20 : decode b_Pt_once 20 = .ok (.if_icmp .ge 30, 3) := by decide +kernel
theorem d_Pt_once_23 : decode b_Pt_once 23 = .ok (.aload_n 2, 1) := by decide +kernel
theorem d_Pt_once_24 : decode b_Pt_once 24 = .ok (.iload_n 3, 1) := by decide +kernel
theorem d_Pt_once_25 : decode b_Pt_once 25 = .ok (.iload 4, 2) := by decide +kernel
theorem d_Pt_once_27 : decode b_Pt_once 27 = .ok (.invokevirtual 60, 3) := by decide +kernel
theorem d_Pt_once_30 : decode b_Pt_once 30 = .ok (.invokestatic 64, 3) := by decide +kernel
theorem d_Pt_once_33 : decode b_Pt_once 33 = .ok (.aload_n 0, 1) := by decide +kernel
theorem d_Pt_once_34 : decode b_Pt_once 34 = .ok (.getfield 18, 3) := by decide +kernel
theorem d_Pt_once_37 : decode b_Pt_once 37 = .ok (.iload_n 1, 1) := by decide +kernel
theorem d_Pt_once_38 : decode b_Pt_once 38 = .ok (.iaload, 1) := by decide +kernel
theorem d_Pt_once_39 : decode b_Pt_once 39 = .ok (.iand, 1) := by decide +kernel
theorem d_Pt_once_40 : decode b_Pt_once 40 = .ok (.ifCond .eq 10, 3) := by decide +kernel
theorem d_Pt_once_43 : decode b_Pt_once 43 = .ok (.iload 4, 2) := by decide +kernel
theorem d_Pt_once_45 : decode b_Pt_once 45 = .ok (.iconst 1, 1) := by decide +kernel
theorem d_Pt_once_46 : decode b_Pt_once 46 = .ok (.iadd, 1) := by decide +kernel
theorem d_Pt_once_47 : decode b_Pt_once 47 = .ok (.goto 4, 3) := by decide +kernel
theorem d_Pt_once_50 : decode b_Pt_once 50 = .ok (.iconst (-1), 1) := by decide +kernel
theorem d_Pt_once_51 : decode b_Pt_once 51 = .ok (.ireturn, 1) := by decide +kernel
theorem d_Pt_once_52 : decode b_Pt_once 52 = .ok (.iload 4, 2) := by decide +kernel
theorem d_Pt_once_54 : decode b_Pt_once 54 = .ok (.aload_n 0, 1) := by decide +kernel
theorem d_Pt_once_55 : decode b_Pt_once 55 = .ok (.getfield 24, 3) := by decide +kernel
theorem d_Pt_once_58 : decode b_Pt_once 58 = .ok (.iload_n 1, 1) := by decide +kernel
theorem d_Pt_once_59 : decode b_Pt_once 59 = .ok (.iaload, 1) := by decide +kernel
theorem d_Pt_once_60 : decode b_Pt_once 60 = .ok (.iadd, 1) := by decide +kernel
theorem d_Pt_once_61 : decode b_Pt_once 61 = .ok (.iload 5, 2) := by decide +kernel
theorem d_Pt_once_63 : decode b_Pt_once 63 = .ok (.if_icmp .le 5, 3) := by decide +kernel
theorem d_Pt_once_66 : decode b_Pt_once 66 = .ok (.iconst (-1), 1) := by decide +kernel
theorem d_Pt_once_67 : decode b_Pt_once 67 = .ok (.ireturn, 1) := by decide +kernel
theorem d_Pt_once_68 : decode b_Pt_once 68 = .ok (.iconst 0, 1) := by decide +kernel
theorem d_Pt_once_69 : decode b_Pt_once 69 = .ok (.istore 6, 2) := by decide +kernel
theorem d_Pt_once_71 : decode b_Pt_once 71 = .ok (.iload 6, 2) := by decide +kernel
theorem d_Pt_once_73 : decode b_Pt_once 73 = .ok (.aload_n 0, 1) := by decide +kernel
theorem d_Pt_once_74 : decode b_Pt_once 74 = .ok (.getfield 24, 3) := by decide +kernel
theorem d_Pt_once_77 : decode b_Pt_once 77 = .ok (.iload_n 1, 1) := by decide +kernel
theorem d_Pt_once_78 : decode b_Pt_once 78 = .ok (.iaload, 1) := by decide +kernel
theorem d_Pt_once_79 : decode b_Pt_once 79 = .ok (.if_icmp .ge 42, 3) := by decide +kernel
theorem d_Pt_once_82 : decode b_Pt_once 82 = .ok (.aload_n 2, 1) := by decide +kernel
theorem d_Pt_once_83 : decode b_Pt_once 83 = .ok (.iload_n 3, 1) := by decide +kernel
theorem d_Pt_once_84 : decode b_Pt_once 84 = .ok (.iload 4, 2) := by decide +kernel
theorem d_Pt_once_86 : decode b_Pt_once 86 = .ok (.iload 6, 2) := by decide +kernel
theorem d_Pt_once_88 : decode b_Pt_once 88 = .ok (.iadd, 1) := by decide +kernel
theorem d_Pt_once_89 : decode b_Pt_once 89 = .ok (.invokevirtual 60, 3) := by decide +kernel
theorem d_Pt_once_92 : decode b_Pt_once 92 = .ok (.aload_n 0, 1) := by decide +kernel
theorem d_Pt_once_93 : decode b_Pt_once 93 = .ok (.getfield 27, 3) := by decide +kernel
theorem d_Pt_once_96 : decode b_Pt_once 96 = .ok (.aload_n 0, 1) := by decide +kernel
theorem d_Pt_once_97 : decode b_Pt_once 97 = .ok (.getfield 21, 3) := by decide +kernel
theorem d_Pt_once_100 : decode b_Pt_once 100 = .ok (.iload_n 1, 1) := by decide +kernel
theorem d_Pt_once_101 : decode b_Pt_once 101 = .ok (.iaload, 1) := by decide +kernel
theorem d_Pt_once_102 : decode b_Pt_once 102 = .ok (.iload 6, 2) := by decide +kernel
theorem d_Pt_once_104 : decode b_Pt_once 104 = .ok (.iadd, 1) := by decide +kernel
theorem d_Pt_once_105 : decode b_Pt_once 105 = .ok (.baload, 1) := by decide +kernel
theorem d_Pt_once_106 : decode b_Pt_once 106 = .ok (.sipush 255, 3) := by decide +kernel
theorem d_Pt_once_109 : decode b_Pt_once 109 = .ok (.iand, 1) := by decide +kernel
theorem d_Pt_once_110 : decode b_Pt_once 110 = .ok (.if_icmp .eq 5, 3) := by decide +kernel
theorem d_Pt_once_113 : decode b_Pt_once 113 = .ok (.iconst (-1), 1) := by decide +kernel
theorem d_Pt_once_114 : decode b_Pt_once 114 = .ok (.ireturn, 1) := by decide +kernel
theorem d_Pt_once_115 : decode b_Pt_once 115 = .ok (.iinc 6 1, 3) := by decide +kernel
theorem d_Pt_once_118 : decode b_Pt_once 118 = .ok (.goto (-47), 3) := by decide +kernel
theorem d_Pt_once_121 : decode b_Pt_once 121 = .ok (.iload 4, 2) := by decide +kernel
theorem d_Pt_once_123 : decode b_Pt_once 123 = .ok (.aload_n 0, 1) := by decide +kernel
theorem d_Pt_once_124 : decode b_Pt_once 124 = .ok (.getfield 24, 3) := by decide +kernel
theorem d_Pt_once_127 : decode b_Pt_once 127 = .ok (.iload_n 1, 1) := by decide +kernel
theorem d_Pt_once_128 : decode b_Pt_once 128 = .ok (.iaload, 1) := by decide +kernel
theorem d_Pt_once_129 : decode b_Pt_once 129 = .ok (.iadd, 1) := by decide +kernel
theorem d_Pt_once_130 : decode b_Pt_once 130 = .ok (.ireturn, 1) := by decide +kernel
theorem d_Pt_fits_0 : decode b_Pt_fits 0 = .ok (.aload_n 1, 1) := by decide +kernel
theorem d_Pt_fits_1 : decode b_Pt_fits 1 = .ok (.iload_n 2, 1) := by decide +kernel
theorem d_Pt_fits_2 : decode b_Pt_fits 2 = .ok (.invokevirtual 54, 3) := by decide +kernel
theorem d_Pt_fits_5 : decode b_Pt_fits 5 = .ok (.istore_n 3, 1) := by decide +kernel
theorem d_Pt_fits_6 : decode b_Pt_fits 6 = .ok (.iconst 0, 1) := by decide +kernel
theorem d_Pt_fits_7 : decode b_Pt_fits 7 = .ok (.istore 4, 2) := by decide +kernel
theorem d_Pt_fits_9 : decode b_Pt_fits 9 = .ok (.iload 4, 2) := by decide +kernel
theorem d_Pt_fits_11 : decode b_Pt_fits 11 = .ok (.iload_n 3, 1) := by decide +kernel
theorem d_Pt_fits_12 : decode b_Pt_fits 12 = .ok (.if_icmp .gt 26, 3) := by decide +kernel
theorem d_Pt_fits_15 : decode b_Pt_fits 15 = .ok (.aload_n 0, 1) := by decide +kernel
theorem d_Pt_fits_16 : decode b_Pt_fits 16 = .ok (.getfield 31, 3) := by decide +kernel
theorem d_Pt_fits_19 : decode b_Pt_fits 19 = .ok (.iload 4, 2) := by decide +kernel
theorem d_Pt_fits_21 : decode b_Pt_fits 21 = .ok (.iload 4, 2) := by decide +kernel
theorem d_Pt_fits_23 : decode b_Pt_fits 23 = .ok (.ifCond .ne 7, 3) := by decide +kernel
theorem d_Pt_fits_26 : decode b_Pt_fits 26 = .ok (.iconst 1, 1) := by decide +kernel
theorem d_Pt_fits_27 : decode b_Pt_fits 27 = .ok (.goto 4, 3) := by decide +kernel
theorem d_Pt_fits_30 : decode b_Pt_fits 30 = .ok (.iconst 0, 1) := by decide +kernel
theorem d_Pt_fits_31 : decode b_Pt_fits 31 = .ok (.bastore, 1) := by decide +kernel
theorem d_Pt_fits_32 : decode b_Pt_fits 32 = .ok (.iinc 4 1, 3) := by decide +kernel
theorem d_Pt_fits_35 : decode b_Pt_fits 35 = .ok (.goto (-26), 3) := by decide +kernel
theorem d_Pt_fits_38 : decode b_Pt_fits 38 = .ok (.iconst 0, 1) := by decide +kernel
theorem d_Pt_fits_39 : decode b_Pt_fits 39 = .ok (.istore 4, 2) := by decide +kernel
theorem d_Pt_fits_41 : decode b_Pt_fits 41 = .ok (.iload 4, 2) := by decide +kernel
theorem d_Pt_fits_43 : decode b_Pt_fits 43 = .ok (.aload_n 0, 1) := by decide +kernel
theorem d_Pt_fits_44 : decode b_Pt_fits 44 = .ok (.getfield 41, 3) := by decide +kernel
theorem d_Pt_fits_47 : decode b_Pt_fits 47 = .ok (.if_icmp .ge 108, 3) := by decide +kernel
theorem d_Pt_fits_50 : decode b_Pt_fits 50 = .ok (.iconst 0, 1) := by decide +kernel
theorem d_Pt_fits_51 : decode b_Pt_fits 51 = .ok (.istore 5, 2) := by decide +kernel
theorem d_Pt_fits_53 : decode b_Pt_fits 53 = .ok (.iload 5, 2) := by decide +kernel
theorem d_Pt_fits_55 : decode b_Pt_fits 55 = .ok (.iload_n 3, 1) := by decide +kernel
theorem d_Pt_fits_56 : decode b_Pt_fits 56 = .ok (.if_icmp .gt 55, 3) := by decide +kernel
theorem d_Pt_fits_59 : decode b_Pt_fits 59 = .ok (.aload_n 0, 1) := by decide +kernel
theorem d_Pt_fits_60 : decode b_Pt_fits 60 = .ok (.getfield 35, 3) := by decide +kernel
theorem d_Pt_fits_63 : decode b_Pt_fits 63 = .ok (.iload 5, 2) := by decide +kernel
theorem d_Pt_fits_65 : decode b_Pt_fits 65 = .ok (.aload_n 0, 1) := by decide +kernel
theorem d_Pt_fits_66 : decode b_Pt_fits 66 = .ok (.getfield 11, 3) := by decide +kernel
theorem d_Pt_fits_69 : decode b_Pt_fits 69 = .ok (.iload 4, 2) := by decide +kernel
theorem d_Pt_fits_71 : decode b_Pt_fits 71 = .ok (.iaload, 1) := by decide +kernel
theorem d_Pt_fits_72 : decode b_Pt_fits 72 = .ok (.ifCond .ne 17, 3) := by decide +kernel
theorem d_Pt_fits_75 : decode b_Pt_fits 75 = .ok (.aload_n 0, 1) := by decide +kernel
theorem d_Pt_fits_76 : decode b_Pt_fits 76 = .ok (.getfield 31, 3) := by decide +kernel
theorem d_Pt_fits_79 : decode b_Pt_fits 79 = .ok (.iload 5, 2) := by decide +kernel
theorem d_Pt_fits_81 : decode b_Pt_fits 81 = .ok (.baload, 1) := by decide +kernel
theorem d_Pt_fits_82 : decode b_Pt_fits 82 = .ok (.ifCond .eq 7, 3) := by decide +kernel
theorem d_Pt_fits_85 : decode b_Pt_fits 85 = .ok (.iconst 1, 1) := by decide +kernel
theorem d_Pt_fits_86 : decode b_Pt_fits 86 = .ok (.goto 4, 3) := by decide +kernel
theorem d_Pt_fits_89 : decode b_Pt_fits 89 = .ok (.iconst 0, 1) := by decide +kernel
theorem d_Pt_fits_90 : decode b_Pt_fits 90 = .ok (.bastore, 1) := by decide +kernel
theorem d_Pt_fits_91 : decode b_Pt_fits 91 = .ok (.aload_n 0, 1) := by decide +kernel
theorem d_Pt_fits_92 : decode b_Pt_fits 92 = .ok (.getfield 38, 3) := by decide +kernel
theorem d_Pt_fits_95 : decode b_Pt_fits 95 = .ok (.iload 5, 2) := by decide +kernel
theorem d_Pt_fits_97 : decode b_Pt_fits 97 = .ok (.aload_n 0, 1) := by decide +kernel
theorem d_Pt_fits_98 : decode b_Pt_fits 98 = .ok (.getfield 31, 3) := by decide +kernel
theorem d_Pt_fits_101 : decode b_Pt_fits 101 = .ok (.iload 5, 2) := by decide +kernel
theorem d_Pt_fits_103 : decode b_Pt_fits 103 = .ok (.baload, 1) := by decide +kernel
theorem d_Pt_fits_104 : decode b_Pt_fits 104 = .ok (.bastore, 1) := by decide +kernel
theorem d_Pt_fits_105 : decode b_Pt_fits 105 = .ok (.iinc 5 1, 3) := by decide +kernel
theorem d_Pt_fits_108 : decode b_Pt_fits 108 = .ok (.goto (-55), 3) := by decide +kernel
theorem d_Pt_fits_111 : decode b_Pt_fits 111 = .ok (.aload_n 0, 1) := by decide +kernel
theorem d_Pt_fits_112 : decode b_Pt_fits 112 = .ok (.iload 4, 2) := by decide +kernel
theorem d_Pt_fits_114 : decode b_Pt_fits 114 = .ok (.aload_n 1, 1) := by decide +kernel
theorem d_Pt_fits_115 : decode b_Pt_fits 115 = .ok (.iload_n 2, 1) := by decide +kernel
theorem d_Pt_fits_116 : decode b_Pt_fits 116 = .ok (.iload_n 3, 1) := by decide +kernel
theorem d_Pt_fits_117 : decode b_Pt_fits 117 = .ok (.invokevirtual 67, 3) := by decide +kernel
theorem d_Pt_fits_120 : decode b_Pt_fits 120 = .ok (.iconst 0, 1) := by decide +kernel
theorem d_Pt_fits_121 : decode b_Pt_fits 121 = .ok (.istore 5, 2) := by decide +kernel
theorem d_Pt_fits_123 : decode b_Pt_fits 123 = .ok (.iload 5, 2) := by decide +kernel
theorem d_Pt_fits_125 : decode b_Pt_fits 125 = .ok (.iload_n 3, 1) := by decide +kernel
theorem d_Pt_fits_126 : decode b_Pt_fits 126 = .ok (.if_icmp .gt 23, 3) := by decide +kernel
theorem d_Pt_fits_129 : decode b_Pt_fits 129 = .ok (.aload_n 0, 1) := by decide +kernel
theorem d_Pt_fits_130 : decode b_Pt_fits 130 = .ok (.getfield 31, 3) := by decide +kernel
theorem d_Pt_fits_133 : decode b_Pt_fits 133 = .ok (.iload 5, 2) := by decide +kernel
theorem d_Pt_fits_135 : decode b_Pt_fits 135 = .ok (.aload_n 0, 1) := by decide +kernel
theorem d_Pt_fits_136 : decode b_Pt_fits 136 = .ok (.getfield 35, 3) := by decide +kernel
theorem d_Pt_fits_139 : decode b_Pt_fits 139 = .ok (.iload 5, 2) := by decide +kernel
theorem d_Pt_fits_141 : decode b_Pt_fits 141 = .ok (.baload, 1) := by decide +kernel
theorem d_Pt_fits_142 : decode b_Pt_fits 142 = .ok (.bastore, 1) := by decide +kernel
theorem d_Pt_fits_143 : decode b_Pt_fits 143 = .ok (.iinc 5 1, 3) := by decide +kernel
theorem d_Pt_fits_146 : decode b_Pt_fits 146 = .ok (.goto (-23), 3) := by decide +kernel
theorem d_Pt_fits_149 : decode b_Pt_fits 149 = .ok (.iinc 4 1, 3) := by decide +kernel
theorem d_Pt_fits_152 : decode b_Pt_fits 152 = .ok (.goto (-111), 3) := by decide +kernel
theorem d_Pt_fits_155 : decode b_Pt_fits 155 = .ok (.aload_n 0, 1) := by decide +kernel
theorem d_Pt_fits_156 : decode b_Pt_fits 156 = .ok (.getfield 31, 3) := by decide +kernel
theorem d_Pt_fits_159 : decode b_Pt_fits 159 = .ok (.iload_n 3, 1) := by decide +kernel
theorem d_Pt_fits_160 : decode b_Pt_fits 160 = .ok (.baload, 1) := by decide +kernel
theorem d_Pt_fits_161 : decode b_Pt_fits 161 = .ok (.ireturn, 1) := by decide +kernel
theorem d_Pt_times_0 : decode b_Pt_times 0 = .ok (.iconst 1, 1) := by decide +kernel
theorem d_Pt_times_1 : decode b_Pt_times 1 = .ok (.istore 5, 2) := by decide +kernel
theorem d_Pt_times_3 : decode b_Pt_times 3 = .ok (.iload 5, 2) := by decide +kernel
theorem d_Pt_times_5 : decode b_Pt_times 5 = .ok (.aload_n 0, 1) := by decide +kernel
theorem d_Pt_times_6 : decode b_Pt_times 6 = .ok (.getfield 15, 3) := by decide +kernel
theorem d_Pt_times_9 : decode b_Pt_times 9 = .ok (.iload_n 1, 1) := by decide +kernel
theorem d_Pt_times_10 : decode b_Pt_times 10 = .ok (.iaload, 1) := by decide +kernel
theorem d_Pt_times_11 : decode b_Pt_times 11 = .ok (.if_icmp .gt 111, 3) := by decide +kernel
theorem d_Pt_times_14 : decode b_Pt_times 14 = .ok (.iconst 0, 1) := by decide +kernel
theorem d_Pt_times_15 : decode b_Pt_times 15 = .ok (.istore 6, 2) := by decide +kernel
theorem d_Pt_times_17 : decode b_Pt_times 17 = .ok (.iload 4, 2) := by decide +kernel
theorem d_Pt_times_19 : decode b_Pt_times 19 = .ok (.istore 7, 2) := by decide +kernel
theorem d_Pt_times_21 : decode b_Pt_times 21 = .ok (.iload 7, 2) := by decide +kernel
theorem d_Pt_times_23 : decode b_Pt_times 23 = .ok (.ifCond .lt 87, 3) := by decide +kernel
theorem d_Pt_times_26 : decode b_Pt_times 26 = .ok (.aload_n 0, 1) := by decide +kernel
theorem d_Pt_times_27 : decode b_Pt_times 27 = .ok (.getfield 38, 3) := by decide +kernel
theorem d_Pt_times_30 : decode b_Pt_times 30 = .ok (.iload 7, 2) := by decide +kernel
theorem d_Pt_times_32 : decode b_Pt_times 32 = .ok (.baload, 1) := by decide +kernel
theorem d_Pt_times_33 : decode b_Pt_times 33 = .ok (.ifCond .ne 6, 3) := by decide +kernel
theorem d_Pt_times_36 : decode b_Pt_times 36 = .ok (.goto 68, 3) := by decide +kernel
theorem d_Pt_times_39 : decode b_Pt_times 39 = .ok (.aload_n 0, 1) := by decide +kernel
theorem d_Pt_times_40 : decode b_Pt_times 40 = .ok (.iload_n 1, 1) := by decide +kernel
theorem d_Pt_times_41 : decode b_Pt_times 41 = .ok (.aload_n 2, 1) := by decide +kernel
theorem d_Pt_times_42 : decode b_Pt_times 42 = .ok (.iload_n 3, 1) := by decide +kernel
theorem d_Pt_times_43 : decode b_Pt_times 43 = .ok (.iload 7, 2) := by decide +kernel
theorem d_Pt_times_45 : decode b_Pt_times 45 = .ok (.invokevirtual 71, 3) := by decide +kernel
theorem d_Pt_times_48 : decode b_Pt_times 48 = .ok (.istore 8, 2) := by decide +kernel
theorem d_Pt_times_50 : decode b_Pt_times 50 = .ok (.aload_n 0, 1) := by decide +kernel
theorem d_Pt_times_51 : decode b_Pt_times 51 = .ok (.getfield 38, 3) := by decide +kernel
theorem d_Pt_times_54 : decode b_Pt_times 54 = .ok (.iload 7, 2) := by decide +kernel
theorem d_Pt_times_56 : decode b_Pt_times 56 = .ok (.iconst 0, 1) := by decide +kernel
theorem d_Pt_times_57 : decode b_Pt_times 57 = .ok (.bastore, 1) := by decide +kernel
theorem d_Pt_times_58 : decode b_Pt_times 58 = .ok (.iload 8, 2) := by decide +kernel
theorem d_Pt_times_60 : decode b_Pt_times 60 = .ok (.iconst (-1), 1) := by decide +kernel
theorem d_Pt_times_61 : decode b_Pt_times 61 = .ok (.if_icmp .ne 6, 3) := by decide +kernel
theorem d_Pt_times_64 : decode b_Pt_times 64 = .ok (.goto 40, 3) := by decide +kernel
theorem d_Pt_times_67 : decode b_Pt_times 67 = .ok (.aload_n 0, 1) := by decide +kernel
theorem d_Pt_times_68 : decode b_Pt_times 68 = .ok (.getfield 38, 3) := by decide +kernel
theorem d_Pt_times_71 : decode b_Pt_times 71 = .ok (.iload 8, 2) := by decide +kernel
theorem d_Pt_times_73 : decode b_Pt_times 73 = .ok (.iconst 1, 1) := by decide +kernel
theorem d_Pt_times_74 : decode b_Pt_times 74 = .ok (.bastore, 1) := by decide +kernel
theorem d_Pt_times_75 : decode b_Pt_times 75 = .ok (.iconst 1, 1) := by decide +kernel
theorem d_Pt_times_76 : decode b_Pt_times 76 = .ok (.istore 6, 2) := by decide +kernel
theorem d_Pt_times_78 : decode b_Pt_times 78 = .ok (.aload_n 0, 1) := by decide +kernel
theorem d_Pt_times_79 : decode b_Pt_times 79 = .ok (.getfield 35, 3) := by decide +kernel
theorem d_Pt_times_82 : decode b_Pt_times 82 = .ok (.iload 8, 2) := by decide +kernel
theorem d_Pt_times_84 : decode b_Pt_times 84 = .ok (.dup2, 1) := by decide +kernel
theorem d_Pt_times_85 : decode b_Pt_times 85 = .ok (.baload, 1) := by decide +kernel
theorem d_Pt_times_86 : decode b_Pt_times 86 = .ok (.iload 5, 2) := by decide +kernel
theorem d_Pt_times_88 : decode b_Pt_times 88 = .ok (.aload_n 0, 1) := by decide +kernel
theorem d_Pt_times_89 : decode b_Pt_times 89 = .ok (.getfield 11, 3) := by decide +kernel
theorem d_Pt_times_92 : decode b_Pt_times 92 = .ok (.iload_n 1, 1) := by decide +kernel
theorem d_Pt_times_93 : decode b_Pt_times 93 = .ok (.iaload, 1) := by decide +kernel
theorem d_Pt_times_94 : decode b_Pt_times 94 = .ok (.if_icmp .lt 7, 3) := by decide +kernel
theorem d_Pt_times_97 : decode b_Pt_times 97 = .ok (.iconst 1, 1) := by decide +kernel
theorem d_Pt_times_98 : decode b_Pt_times 98 = .ok (.goto 4, 3) := by decide +kernel
theorem d_Pt_times_101 : decode b_Pt_times 101 = .ok (.iconst 0, 1) := by decide +kernel
theorem d_Pt_times_102 : decode b_Pt_times 102 = .ok (.ior, 1) := by decide +kernel
theorem d_Pt_times_103 : decode b_Pt_times 103 = .ok (.bastore, 1) := by decide +kernel
theorem d_Pt_times_104 : decode b_Pt_times 104 = .ok (.iinc 7 (-1), 3) := by decide +kernel
theorem d_Pt_times_107 : decode b_Pt_times 107 = .ok (.goto (-86), 3) := by decide +kernel
theorem d_Pt_times_110 : decode b_Pt_times 110 = .ok (.iload 6, 2) := by decide +kernel
theorem d_Pt_times_112 : decode b_Pt_times 112 = .ok (.ifCond .ne 4, 3) := by decide +kernel
theorem d_Pt_times_115 : decode b_Pt_times 115 = .ok (.return_, 1) := by decide +kernel
theorem d_Pt_times_116 : decode b_Pt_times 116 = .ok (.iinc 5 1, 3) := by decide +kernel
theorem d_Pt_times_119 : decode b_Pt_times 119 = .ok (.goto (-116), 3) := by decide +kernel
theorem d_Pt_times_122 : decode b_Pt_times 122 = .ok (.return_, 1) := by decide +kernel
end
section
theorem d_Mo_init_0 : decode b_Mo_init 0 = .ok (.aload_n 0, 1) := by decide +kernel
theorem d_Mo_init_1 : decode b_Mo_init 1 = .ok (.invokespecial 1, 3) := by decide +kernel
theorem d_Mo_init_4 : decode b_Mo_init 4 = .ok (.aload_n 0, 1) := by decide +kernel
theorem d_Mo_init_5 : decode b_Mo_init 5 = .ok (.bipush 60, 2) := by decide +kernel
theorem d_Mo_init_7 : decode b_Mo_init 7 = .ok (.newarray .int, 2) := by decide +kernel
theorem d_Mo_init_9 : decode b_Mo_init 9 = .ok (.putfield 7, 3) := by decide +kernel
theorem d_Mo_init_12 : decode b_Mo_init 12 = .ok (.aload_n 0, 1) := by decide +kernel
theorem d_Mo_init_13 : decode b_Mo_init 13 = .ok (.bipush 60, 2) := by decide +kernel
theorem d_Mo_init_15 : decode b_Mo_init 15 = .ok (.newarray .int, 2) := by decide +kernel
theorem d_Mo_init_17 : decode b_Mo_init 17 = .ok (.putfield 13, 3) := by decide +kernel
theorem d_Mo_init_20 : decode b_Mo_init 20 = .ok (.aload_n 0, 1) := by decide +kernel
theorem d_Mo_init_21 : decode b_Mo_init 21 = .ok (.bipush 60, 2) := by decide +kernel
theorem d_Mo_init_23 : decode b_Mo_init 23 = .ok (.newarray .int, 2) := by decide +kernel
theorem d_Mo_init_25 : decode b_Mo_init 25 = .ok (.putfield 16, 3) := by decide +kernel
theorem d_Mo_init_28 : decode b_Mo_init 28 = .ok (.aload_n 0, 1) := by decide +kernel
theorem d_Mo_init_29 : decode b_Mo_init 29 = .ok (.bipush 60, 2) := by decide +kernel
theorem d_Mo_init_31 : decode b_Mo_init 31 = .ok (.newarray .int, 2) := by decide +kernel
theorem d_Mo_init_33 : decode b_Mo_init 33 = .ok (.putfield 19, 3) := by decide +kernel
theorem d_Mo_init_36 : decode b_Mo_init 36 = .ok (.aload_n 0, 1) := by decide +kernel
theorem d_Mo_init_37 : decode b_Mo_init 37 = .ok (.bipush 60, 2) := by decide +kernel
theorem d_Mo_init_39 : decode b_Mo_init 39 = .ok (.newarray .int, 2) := by decide +kernel
theorem d_Mo_init_41 : decode b_Mo_init 41 = .ok (.putfield 22, 3) := by decide +kernel
theorem d_Mo_init_44 : decode b_Mo_init 44 = .ok (.aload_n 0, 1) := by decide +kernel
theorem d_Mo_init_45 : decode b_Mo_init 45 = .ok (.sipush 255, 3) := by decide +kernel
theorem d_Mo_init_48 : decode b_Mo_init 48 = .ok (.newarray .byte, 2) := by decide +kernel
theorem d_Mo_init_50 : decode b_Mo_init 50 = .ok (.putfield 25, 3) := by decide +kernel
theorem d_Mo_init_53 : decode b_Mo_init 53 = .ok (.aload_n 0, 1) := by decide +kernel
theorem d_Mo_init_54 : decode b_Mo_init 54 = .ok (.sipush 255, 3) := by decide +kernel
theorem d_Mo_init_57 : decode b_Mo_init 57 = .ok (.newarray .byte, 2) := by decide +kernel
theorem d_Mo_init_59 : decode b_Mo_init 59 = .ok (.putfield 29, 3) := by decide +kernel
theorem d_Mo_init_62 : decode b_Mo_init 62 = .ok (.aload_n 0, 1) := by decide +kernel
theorem d_Mo_init_63 : decode b_Mo_init 63 = .ok (.sipush 256, 3) := by decide +kernel
theorem d_Mo_init_66 : decode b_Mo_init 66 = .ok (.newarray .boolean, 2) := by decide +kernel
theorem d_Mo_init_68 : decode b_Mo_init 68 = .ok (.putfield 32, 3) := by decide +kernel
theorem d_Mo_init_71 : decode b_Mo_init 71 = .ok (.aload_n 0, 1) := by decide +kernel
theorem d_Mo_init_72 : decode b_Mo_init 72 = .ok (.sipush 256, 3) := by decide +kernel
theorem d_Mo_init_75 : decode b_Mo_init 75 = .ok (.newarray .boolean, 2) := by decide +kernel
theorem d_Mo_init_77 : decode b_Mo_init 77 = .ok (.putfield 36, 3) := by decide +kernel
theorem d_Mo_init_80 : decode b_Mo_init 80 = .ok (.aload_n 0, 1) := by decide +kernel
theorem d_Mo_init_81 : decode b_Mo_init 81 = .ok (.sipush 256, 3) := by decide +kernel
theorem d_Mo_init_84 : decode b_Mo_init 84 = .ok (.newarray .int, 2) := by decide +kernel
theorem d_Mo_init_86 : decode b_Mo_init 86 = .ok (.putfield 39, 3) := by decide +kernel
theorem d_Mo_init_89 : decode b_Mo_init 89 = .ok (.return_, 1) := by decide +kernel
theorem d_Mo_clear_0 : decode b_Mo_clear 0 = .ok (.aload_n 0, 1) := by decide +kernel
theorem d_Mo_clear_1 : decode b_Mo_clear 1 = .ok (.iconst 0, 1) := by decide +kernel
theorem d_Mo_clear_2 : decode b_Mo_clear 2 = .ok (.putfield 42, 3) := by decide +kernel
theorem d_Mo_clear_5 : decode b_Mo_clear 5 = .ok (.aload_n 0, 1) := by decide +kernel
theorem d_Mo_clear_6 : decode b_Mo_clear 6 = .ok (.iconst 0, 1) := by decide +kernel
theorem d_Mo_clear_7 : decode b_Mo_clear 7 = .ok (.putfield 46, 3) := by decide +kernel
theorem d_Mo_clear_10 : decode b_Mo_clear 10 = .ok (.return_, 1) := by decide +kernel
theorem d_Mo_isNumber_0 : decode b_Mo_isNumber 0 = .ok (.iload_n 0, 1) := by decide +kernel
theorem d_Mo_isNumber_1 : decode b_Mo_isNumber 1 = .ok (.ifCond .lt 14, 3) := by decide +kernel
theorem d_Mo_isNumber_4 : decode b_Mo_isNumber 4 = .ok (.iload_n 0, 1) := by decide +kernel
theorem d_Mo_isNumber_5 : decode b_Mo_isNumber 5 = .ok (.sipush 255, 3) := by decide +kernel
theorem d_Mo_isNumber_8 : decode b_Mo_isNumber 8 = .ok (.if_icmp .gt 7, 3) := by decide +kernel
theorem d_Mo_isNumber_11 : decode b_Mo_isNumber 11 = .ok (.iconst 1, 1) := by decide +kernel
theorem d_Mo_isNumber_12 : decode b_Mo_isNumber 12 = .ok (.goto 4, 3) := by decide +kernel
theorem d_Mo_isNumber_15 : decode b_Mo_isNumber 15 = .ok (.iconst 0, 1) := by decide +kernel
theorem d_Mo_isNumber_16 : decode b_Mo_isNumber 16 = .ok (.ireturn, 1) := by decide +kernel
theorem d_Mo_part_0 : decode b_Mo_part 0 = .ok (.aload_n 0, 1) := by decide +kernel
theorem d_Mo_part_1 : decode b_Mo_part 1 = .ok (.getfield 42, 3) := by decide +kernel
theorem d_Mo_part_4 : decode b_Mo_part 4 = .ok (.bipush 60, 2) := by decide +kernel
theorem d_Mo_part_6 : decode b_Mo_part 6 = .ok (.if_icmp .eq 17, 3) := by decide +kernel
theorem d_Mo_part_9 : decode b_Mo_part 9 = .ok (.iload_n 1, 1) := by decide +kernel
theorem d_Mo_part_10 : decode b_Mo_part 10 = .ok (.invokestatic 49, 3) := by decide +kernel
theorem d_Mo_part_13 : decode b_Mo_part 13 = .ok (.ifCond .eq 10, 3) := by decide +kernel
theorem d_Mo_part_16 : decode b_Mo_part 16 = .ok (.iload_n 2, 1) := by decide +kernel
theorem d_Mo_part_17 : decode b_Mo_part 17 = .ok (.invokestatic 49, 3) := by decide +kernel
theorem d_Mo_part_20 : decode b_Mo_part 20 = .ok (.ifCond .ne 5, 3) := by decide +kernel
theorem d_Mo_part_23 : decode b_Mo_part 23 = .ok (.iconst 0, 1) := by decide +kernel
theorem d_Mo_part_24 : decode b_Mo_part 24 = .ok (.ireturn, 1) := by decide +kernel
theorem d_Mo_part_25 : decode b_Mo_part 25 = .ok (.aload_n 0, 1) := by decide +kernel
theorem d_Mo_part_26 : decode b_Mo_part 26 = .ok (.getfield 7, 3) := by decide +kernel
theorem d_Mo_part_29 : decode b_Mo_part 29 = .ok (.aload_n 0, 1) := by decide +kernel
theorem d_Mo_part_30 : decode b_Mo_part 30 = .ok (.getfield 42, 3) := by decide +kernel
theorem d_Mo_part_33 : decode b_Mo_part 33 = .ok (.iload_n 1, 1) := by decide +kernel
theorem d_Mo_part_34 : decode b_Mo_part 34 = .ok (.iastore, 1) := by decide +kernel
theorem d_Mo_part_35 : decode b_Mo_part 35 = .ok (.aload_n 0, 1) := by decide +kernel
theorem d_Mo_part_36 : decode b_Mo_part 36 = .ok (.getfield 13, 3) := by decide +kernel
theorem d_Mo_part_39 : decode b_Mo_part 39 = .ok (.aload_n 0, 1) := by decide +kernel
theorem d_Mo_part_40 : decode b_Mo_part 40 = .ok (.getfield 42, 3) := by decide +kernel
theorem d_Mo_part_43 : decode b_Mo_part 43 = .ok (.iload_n 2, 1) := by decide +kernel
theorem d_Mo_part_44 : decode b_Mo_part 44 = .ok (.iastore, 1) := by decide +kernel
theorem d_Mo_part_45 : decode b_Mo_part 45 = .ok (.aload_n 0, 1) := by decide +kernel
theorem d_Mo_part_46 : decode b_Mo_part 46 = .ok (.getfield 16, 3) := by decide +kernel
theorem d_Mo_part_49 : decode b_Mo_part 49 = .ok (.aload_n 0, 1) := by decide +kernel
theorem d_Mo_part_50 : decode b_Mo_part 50 = .ok (.getfield 42, 3) := by decide +kernel
theorem d_Mo_part_53 : decode b_Mo_part 53 = .ok (.iconst 0, 1) := by decide +kernel
theorem d_Mo_part_54 : decode b_Mo_part 54 = .ok (.iastore, 1) := by decide +kernel
theorem d_Mo_part_55 : decode b_Mo_part 55 = .ok (.aload_n 0, 1) := by decide +kernel
theorem d_Mo_part_56 : decode b_Mo_part 56 = .ok (.getfield 19, 3) := by decide +kernel
theorem d_Mo_part_59 : decode b_Mo_part 59 = .ok (.aload_n 0, 1) := by decide +kernel
theorem d_Mo_part_60 : decode b_Mo_part 60 = .ok (.getfield 42, 3) := by decide +kernel
theorem d_Mo_part_63 : decode b_Mo_part 63 = .ok (.iconst 0, 1) := by decide +kernel
theorem d_Mo_part_64 : decode b_Mo_part 64 = .ok (.iastore, 1) := by decide +kernel
theorem d_Mo_part_65 : decode b_Mo_part 65 = .ok (.aload_n 0, 1) := by decide +kernel
theorem d_Mo_part_66 : decode b_Mo_part 66 = .ok (.getfield 22, 3) := by decide +kernel
theorem d_Mo_part_69 : decode b_Mo_part 69 = .ok (.aload_n 0, 1) := by decide +kernel
theorem d_Mo_part_70 : decode b_Mo_part 70 = .ok (.getfield 42, 3) := by decide +kernel
theorem d_Mo_part_73 : decode b_Mo_part 73 = .ok (.aload_n 0, 1) := by decide +kernel
theorem d_Mo_part_74 : decode b_Mo_part 74 = .ok (.getfield 46, 3) := by decide +kernel
theorem d_Mo_part_77 : decode b_Mo_part 77 = .ok (.iastore, 1) := by decide +kernel
theorem d_Mo_part_78 : decode b_Mo_part 78 = .ok (.aload_n 0, 1) := by decide +kernel
theorem d_Mo_part_79 : decode b_Mo_part 79 = .ok (.dup, 1) := by decide +kernel
theorem d_Mo_part_80 : decode b_Mo_part 80 = .ok (.getfield 42, 3) := by decide +kernel
theorem d_Mo_part_83 : decode b_Mo_part 83 = .ok (.iconst 1, 1) := by decide +kernel
theorem d_Mo_part_84 : decode b_Mo_part 84 = .ok (.iadd, 1) := by decide +kernel
theorem d_Mo_part_85 : decode b_Mo_part 85 = .ok (.putfield 42, 3) := by decide +kernel
theorem d_Mo_part_88 : decode b_Mo_part 88 = .ok (.iconst 1, 1) := by decide +kernel
theorem d_Mo_part_89 : decode b_Mo_part 89 = .ok (.ireturn, 1) := by decide +kernel
theorem d_Mo_bitOf_0 : decode b_Mo_bitOf 0 = .ok (.iload_n 0, 1) := by decide +kernel
theorem d_Mo_bitOf_1 : decode b_Mo_bitOf 1 = .ok (.tableswitch 117 65 85 #[99, 117, 111, 117, 114, 117, 117, 117, 117, 117, 117, 103, 117, 105, 117, 108, 117, 117, 117, 117, 101], 99) := by decide +kernel
theorem d_Mo_bitOf_100 : decode b_Mo_bitOf 100 = .ok (.iconst 1, 1) := by decide +kernel
theorem d_Mo_bitOf_101 : decode b_Mo_bitOf 101 = .ok (.ireturn, 1) := by decide +kernel
theorem d_Mo_bitOf_102 : decode b_Mo_bitOf 102 = .ok (.iconst 2, 1) := by decide +kernel
theorem d_Mo_bitOf_103 : decode b_Mo_bitOf 103 = .ok (.ireturn, 1) := by decide +kernel
theorem d_Mo_bitOf_104 : decode b_Mo_bitOf 104 = .ok (.iconst 4, 1) := by decide +kernel
theorem d_Mo_bitOf_105 : decode b_Mo_bitOf 105 = .ok (.ireturn, 1) := by decide +kernel
theorem d_Mo_bitOf_106 : decode b_Mo_bitOf 106 = .ok (.bipush 8, 2) := by decide +kernel
theorem d_Mo_bitOf_108 : decode b_Mo_bitOf 108 = .ok (.ireturn, 1) := by decide +kernel
theorem d_Mo_bitOf_109 : decode b_Mo_bitOf 109 = .ok (.bipush 16, 2) := by decide +kernel
theorem d_Mo_bitOf_111 : decode b_Mo_bitOf 111 = .ok (.ireturn, 1) := by decide +kernel
theorem d_Mo_bitOf_112 : decode b_Mo_bitOf 112 = .ok (.bipush 32, 2) := by decide +kernel
theorem d_Mo_bitOf_114 : decode b_Mo_bitOf 114 = .ok (.ireturn, 1) := by decide +kernel
theorem d_Mo_bitOf_115 : decode b_Mo_bitOf 115 = .ok (.bipush 64, 2) := by decide +kernel
theorem d_Mo_bitOf_117 : decode b_Mo_bitOf 117 = .ok (.ireturn, 1) := by decide +kernel
theorem d_Mo_bitOf_118 : decode b_Mo_bitOf 118 = .ok (.iconst 0, 1) := by decide +kernel
theorem d_Mo_bitOf_119 : decode b_Mo_bitOf 119 = .ok (.ireturn, 1) := by decide +kernel
theorem d_Mo_letter_0 : decode b_Mo_letter 0 = .ok (.aload_n 0, 1) := by decide +kernel
theorem d_Mo_letter_1 : decode b_Mo_letter 1 = .ok (.getfield 42, 3) := by decide +kernel
theorem d_Mo_letter_4 : decode b_Mo_letter 4 = .ok (.ifCond .eq 24, 3) := by decide +kernel
theorem d_Mo_letter_7 : decode b_Mo_letter 7 = .ok (.aload_n 0, 1) := by decide +kernel
theorem d_Mo_letter_8 : decode b_Mo_letter 8 = .ok (.getfield 19, 3) := by decide +kernel
theorem d_Mo_letter_11 : decode b_Mo_letter 11 = .ok (.aload_n 0, 1) := by decide +kernel
theorem d_Mo_letter_12 : decode b_Mo_letter 12 = .ok (.getfield 42, 3) := by decide +kernel
theorem d_Mo_letter_15 : decode b_Mo_letter 15 = .ok (.iconst 1, 1) := by decide +kernel
theorem d_Mo_letter_16 : decode b_Mo_letter 16 = .ok (.isub, 1) := by decide +kernel
theorem d_Mo_letter_17 : decode b_Mo_letter 17 = .ok (.iaload, 1) := by decide +kernel
theorem d_Mo_letter_18 : decode b_Mo_letter 18 = .ok (.ifCond .gt 10, 3) := by decide +kernel
theorem d_Mo_letter_21 : decode b_Mo_letter 21 = .ok (.iload_n 1, 1) := by decide +kernel
theorem d_Mo_letter_22 : decode b_Mo_letter 22 = .ok (.invokestatic 53, 3) := by decide +kernel
theorem d_Mo_letter_25 : decode b_Mo_letter 25 = .ok (.ifCond .ne 5, 3) := by decide +kernel
theorem d_Mo_letter_28 : decode b_Mo_letter 28 = .ok (.iconst 0, 1) := by decide +kernel
theorem d_Mo_letter_29 : decode b_Mo_letter 29 = .ok (.ireturn, 1) := by decide +kernel
theorem d_Mo_letter_30 : decode b_Mo_letter 30 = .ok (.aload_n 0, 1) := by decide +kernel
theorem d_Mo_letter_31 : decode b_Mo_letter 31 = .ok (.getfield 16, 3) := by decide +kernel
theorem d_Mo_letter_34 : decode b_Mo_letter 34 = .ok (.aload_n 0, 1) := by decide +kernel
theorem d_Mo_letter_35 : decode b_Mo_letter 35 = .ok (.getfield 42, 3) := by decide +kernel
theorem d_Mo_letter_38 : decode b_Mo_letter 38 = .ok (.iconst 1, 1) := by decide +kernel
theorem d_Mo_letter_39 : decode b_Mo_letter 39 = .ok (.isub, 1) := by decide +kernel
theorem d_Mo_letter_40 : decode b_Mo_letter 40 = .ok (.dup2, 1) := by decide +kernel
theorem d_Mo_letter_41 : decode b_Mo_letter 41 = .ok (.iaload, 1) := by decide +kernel
theorem d_Mo_letter_42 : decode b_Mo_letter 42 = .ok (.iload_n 1, 1) := by decide +kernel
theorem d_Mo_letter_43 : decode b_Mo_letter 43 = .ok (.invokestatic 53, 3) := by decide +kernel
theorem d_Mo_letter_46 : decode b_Mo_letter 46 = .ok (.ior, 1) := by decide +kernel
theorem d_Mo_letter_47 : decode b_Mo_letter 47 = .ok (.iastore, 1) := by decide +kernel
theorem d_Mo_letter_48 : decode b_Mo_letter 48 = .ok (.iconst 1, 1) := by decide +kernel
theorem d_Mo_letter_49 : decode b_Mo_letter 49 = .ok (.ireturn, 1) := by decide +kernel
theorem d_Mo_literal_0 : decode b_Mo_literal 0 = .ok (.aload_n 0, 1) := by decide +kernel
theorem d_Mo_literal_1 : decode b_Mo_literal 1 = .ok (.getfield 42, 3) := by decide +kernel
theorem d_Mo_literal_4 : decode b_Mo_literal 4 = .ok (.ifCond .eq 27, 3) := by decide +kernel
theorem d_Mo_literal_7 : decode b_Mo_literal 7 = .ok (.aload_n 0, 1) := by decide +kernel
theorem d_Mo_literal_8 : decode b_Mo_literal 8 = .ok (.getfield 16, 3) := by decide +kernel
theorem d_Mo_literal_11 : decode b_Mo_literal 11 = .ok (.aload_n 0, 1) := by decide +kernel
theorem d_Mo_literal_12 : decode b_Mo_literal 12 = .ok (.getfield 42, 3) := by decide +kernel
theorem d_Mo_literal_15 : decode b_Mo_literal 15 = .ok (.iconst 1, 1) := by decide +kernel
theorem d_Mo_literal_16 : decode b_Mo_literal 16 = .ok (.isub, 1) := by decide +kernel
theorem d_Mo_literal_17 : decode b_Mo_literal 17 = .ok (.iaload, 1) := by decide +kernel
theorem d_Mo_literal_18 : decode b_Mo_literal 18 = .ok (.ifCond .gt 13, 3) := by decide +kernel
theorem d_Mo_literal_21 : decode b_Mo_literal 21 = .ok (.aload_n 0, 1) := by decide +kernel
theorem d_Mo_literal_22 : decode b_Mo_literal 22 = .ok (.getfield 46, 3) := by decide +kernel
theorem d_Mo_literal_25 : decode b_Mo_literal 25 = .ok (.sipush 255, 3) := by decide +kernel
theorem d_Mo_literal_28 : decode b_Mo_literal 28 = .ok (.if_icmp .ne 5, 3) := by decide +kernel
theorem d_Mo_literal_31 : decode b_Mo_literal 31 = .ok (.iconst 0, 1) := by decide +kernel
theorem d_Mo_literal_32 : decode b_Mo_literal 32 = .ok (.ireturn, 1) := by decide +kernel
theorem d_Mo_literal_33 : decode b_Mo_literal 33 = .ok (.aload_n 0, 1) := by decide +kernel
theorem d_Mo_literal_34 : decode b_Mo_literal 34 = .ok (.getfield 25, 3) := by decide +kernel
theorem d_Mo_literal_37 : decode b_Mo_literal 37 = .ok (.aload_n 0, 1) := by decide +kernel
theorem d_Mo_literal_38 : decode b_Mo_literal 38 = .ok (.getfield 46, 3) := by decide +kernel
theorem d_Mo_literal_41 : decode b_Mo_literal 41 = .ok (.iload_n 1, 1) := by decide +kernel
theorem d_Mo_literal_42 : decode b_Mo_literal 42 = .ok (.i2b, 1) := by decide +kernel
theorem d_Mo_literal_43 : decode b_Mo_literal 43 = .ok (.bastore, 1) := by decide +kernel
theorem d_Mo_literal_44 : decode b_Mo_literal 44 = .ok (.aload_n 0, 1) := by decide +kernel
theorem d_Mo_literal_45 : decode b_Mo_literal 45 = .ok (.dup, 1) := by decide +kernel
theorem d_Mo_literal_46 : decode b_Mo_literal 46 = .ok (.getfield 46, 3) := by decide +kernel
theorem d_Mo_literal_49 : decode b_Mo_literal 49 = .ok (.iconst 1, 1) := by decide +kernel
theorem d_Mo_literal_50 : decode b_Mo_literal 50 = .ok (.iadd, 1) := by decide +kernel
theorem d_Mo_literal_51 : decode b_Mo_literal 51 = .ok (.putfield 46, 3) := by decide +kernel
theorem d_Mo_literal_54 : decode b_Mo_literal 54 = .ok (.aload_n 0, 1) := by decide +kernel
theorem d_Mo_literal_55 : decode b_Mo_literal 55 = .ok (.getfield 19, 3) := by decide +kernel
theorem d_Mo_literal_58 : decode b_Mo_literal 58 = .ok (.aload_n 0, 1) := by decide +kernel
theorem d_Mo_literal_59 : decode b_Mo_literal 59 = .ok (.getfield 42, 3) := by decide +kernel
theorem d_Mo_literal_62 : decode b_Mo_literal 62 = .ok (.iconst 1, 1) := by decide +kernel
theorem d_Mo_literal_63 : decode b_Mo_literal 63 = .ok (.isub, 1) := by decide +kernel
theorem d_Mo_literal_64 : decode b_Mo_literal 64 = .ok (.dup2, 1) := by decide +kernel
theorem d_Mo_literal_65 : decode b_Mo_literal 65 = .ok (.iaload, 1) := by decide +kernel
theorem d_Mo_literal_66 : decode b_Mo_literal 66 = .ok (.iconst 1, 1) := by decide +kernel
theorem d_Mo_literal_67 : decode b_Mo_literal 67 = .ok (.iadd, 1) := by decide +kernel
theorem d_Mo_literal_68 : decode b_Mo_literal 68 = .ok (.iastore, 1) := by decide +kernel
theorem d_Mo_literal_69 : decode b_Mo_literal 69 = .ok (.iconst 1, 1) := by decide +kernel
theorem d_Mo_literal_70 : decode b_Mo_literal 70 = .ok (.ireturn, 1) := by decide +kernel
theorem d_Mo_begin_0 : decode b_Mo_begin 0 = .ok (.aload_n 0, 1) := by decide +kernel
theorem d_Mo_begin_1 : decode b_Mo_begin 1 = .ok (.iconst 0, 1) := by decide +kernel
theorem d_Mo_begin_2 : decode b_Mo_begin 2 = .ok (.putfield 57, 3) := by decide +kernel
theorem d_Mo_begin_5 : decode b_Mo_begin 5 = .ok (.return_, 1) := by decide +kernel
theorem d_Mo_add_0 : decode b_Mo_add 0 = .ok (.aload_n 0, 1) := by decide +kernel
theorem d_Mo_add_1 : decode b_Mo_add 1 = .ok (.getfield 57, 3) := by decide +kernel
theorem d_Mo_add_4 : decode b_Mo_add 4 = .ok (.sipush 255, 3) := by decide +kernel
theorem d_Mo_add_7 : decode b_Mo_add 7 = .ok (.if_icmp .ne 5, 3) := by decide +kernel
theorem d_Mo_add_10 : decode b_Mo_add 10 = .ok (.iconst 0, 1) := by decide +kernel
theorem d_Mo_add_11 : decode b_Mo_add 11 = .ok (.ireturn, 1) := by decide +kernel
theorem d_Mo_add_12 : decode b_Mo_add 12 = .ok (.aload_n 0, 1) := by decide +kernel
theorem d_Mo_add_13 : decode b_Mo_add 13 = .ok (.getfield 29, 3) := by decide +kernel
theorem d_Mo_add_16 : decode b_Mo_add 16 = .ok (.aload_n 0, 1) := by decide +kernel
theorem d_Mo_add_17 : decode b_Mo_add 17 = .ok (.getfield 57, 3) := by decide +kernel
theorem d_Mo_add_20 : decode b_Mo_add 20 = .ok (.iload_n 1, 1) := by decide +kernel
theorem d_Mo_add_21 : decode b_Mo_add 21 = .ok (.i2b, 1) := by decide +kernel
theorem d_Mo_add_22 : decode b_Mo_add 22 = .ok (.bastore, 1) := by decide +kernel
theorem d_Mo_add_23 : decode b_Mo_add 23 = .ok (.aload_n 0, 1) := by decide +kernel
theorem d_Mo_add_24 : decode b_Mo_add 24 = .ok (.dup, 1) := by decide +kernel
theorem d_Mo_add_25 : decode b_Mo_add 25 = .ok (.getfield 57, 3) := by decide +kernel
theorem d_Mo_add_28 : decode b_Mo_add 28 = .ok (.iconst 1, 1) := by decide +kernel
theorem d_Mo_add_29 : decode b_Mo_add 29 = .ok (.iadd, 1) := by decide +kernel
theorem d_Mo_add_30 : decode b_Mo_add 30 = .ok (.putfield 57, 3) := by decide +kernel
theorem d_Mo_add_33 : decode b_Mo_add 33 = .ok (.iconst 1, 1) := by decide +kernel
theorem d_Mo_add_34 : decode b_Mo_add 34 = .ok (.ireturn, 1) := by decide +kernel
theorem d_Mo_classesOf_0 : decode b_Mo_classesOf 0 = .ok (.iload_n 0, 1) := by decide +kernel
theorem d_Mo_classesOf_1 : decode b_Mo_classesOf 1 = .ok (.bipush 65, 2) := by decide +kernel
theorem d_Mo_classesOf_3 : decode b_Mo_classesOf 3 = .ok (.if_icmp .lt 12, 3) := by decide +kernel
theorem d_Mo_classesOf_6 : decode b_Mo_classesOf 6 = .ok (.iload_n 0, 1) := by decide +kernel
theorem d_Mo_classesOf_7 : decode b_Mo_classesOf 7 = .ok (.bipush 90, 2) := by decide +kernel
theorem d_Mo_classesOf_9 : decode b_Mo_classesOf 9 = .ok (.if_icmp .gt 6, 3) := by decide +kernel
theorem d_Mo_classesOf_12 : decode b_Mo_classesOf 12 = .ok (.bipush 67, 2) := by decide +kernel
theorem d_Mo_classesOf_14 : decode b_Mo_classesOf 14 = .ok (.ireturn, 1) := by decide +kernel
theorem d_Mo_classesOf_15 : decode b_Mo_classesOf 15 = .ok (.iload_n 0, 1) := by decide +kernel
theorem d_Mo_classesOf_16 : decode b_Mo_classesOf 16 = .ok (.bipush 97, 2) := by decide +kernel
theorem d_Mo_classesOf_18 : decode b_Mo_classesOf 18 = .ok (.if_icmp .lt 12, 3) := by decide +kernel
theorem d_Mo_classesOf_21 : decode b_Mo_classesOf 21 = .ok (.iload_n 0, 1) := by decide +kernel
theorem d_Mo_classesOf_22 : decode b_Mo_classesOf 22 = .ok (.bipush 122, 2) := by decide +kernel
theorem d_Mo_classesOf_24 : decode b_Mo_classesOf 24 = .ok (.if_icmp .gt 6, 3) := by decide +kernel
theorem d_Mo_classesOf_27 : decode b_Mo_classesOf 27 = .ok (.bipush 69, 2) := by decide +kernel
theorem d_Mo_classesOf_29 : decode b_Mo_classesOf 29 = .ok (.ireturn, 1) := by decide +kernel
theorem d_Mo_classesOf_30 : decode b_Mo_classesOf 30 = .ok (.iload_n 0, 1) := by decide +kernel
theorem d_Mo_classesOf_31 : decode b_Mo_classesOf 31 = .ok (.bipush 48, 2) := by decide +kernel
theorem d_Mo_classesOf_33 : decode b_Mo_classesOf 33 = .ok (.if_icmp .lt 12, 3) := by decide +kernel
theorem d_Mo_classesOf_36 : decode b_Mo_classesOf 36 = .ok (.iload_n 0, 1) := by decide +kernel
theorem d_Mo_classesOf_37 : decode b_Mo_classesOf 37 = .ok (.bipush 57, 2) := by decide +kernel
theorem d_Mo_classesOf_39 : decode b_Mo_classesOf 39 = .ok (.if_icmp .gt 6, 3) := by decide +kernel
theorem d_Mo_classesOf_42 : decode b_Mo_classesOf 42 = .ok (.bipush 72, 2) := by decide +kernel
theorem d_Mo_classesOf_44 : decode b_Mo_classesOf 44 = .ok (.ireturn, 1) := by decide +kernel
theorem d_Mo_classesOf_45 : decode b_Mo_classesOf 45 = .ok (.iload_n 0, 1) := by decide +kernel
theorem d_Mo_classesOf_46 : decode b_Mo_classesOf 46 = .ok (.bipush 32, 2) := by decide +kernel
theorem d_Mo_classesOf_48 : decode b_Mo_classesOf 48 = .ok (.if_icmp .lt 9, 3) := by decide +kernel
theorem d_Mo_classesOf_51 : decode b_Mo_classesOf 51 = .ok (.iload_n 0, 1) := by decide +kernel
theorem d_Mo_classesOf_52 : decode b_Mo_classesOf 52 = .ok (.bipush 127, 2) := by decide +kernel
theorem d_Mo_classesOf_54 : decode b_Mo_classesOf 54 = .ok (.if_icmp .ne 8, 3) := by decide +kernel
theorem d_Mo_classesOf_57 : decode b_Mo_classesOf 57 = .ok (.bipush 96, 2) := by decide +kernel
theorem d_Mo_classesOf_59 : decode b_Mo_classesOf 59 = .ok (.goto 16, 3) := by decide +kernel
theorem d_Mo_classesOf_62 : decode b_Mo_classesOf 62 = .ok (.iload_n 0, 1) := by decide +kernel
theorem d_Mo_classesOf_63 : decode b_Mo_classesOf 63 = .ok (.bipush 127, 2) := by decide +kernel
theorem d_Mo_classesOf_65 : decode b_Mo_classesOf 65 = .ok (.if_icmp .ge 8, 3) := by decide +kernel
theorem d_Mo_classesOf_68 : decode b_Mo_classesOf 68 = .ok (.bipush 80, 2) := by decide +kernel
theorem d_Mo_classesOf_70 : decode b_Mo_classesOf 70 = .ok (.goto 5, 3) := by decide +kernel
theorem d_Mo_classesOf_73 : decode b_Mo_classesOf 73 = .ok (.bipush 64, 2) := by decide +kernel
theorem d_Mo_classesOf_75 : decode b_Mo_classesOf 75 = .ok (.ireturn, 1) := by decide +kernel
theorem d_Mo_stands_0 : decode b_Mo_stands 0 = .ok (.aload_n 0, 1) := by decide +kernel
theorem d_Mo_stands_1 : decode b_Mo_stands 1 = .ok (.getfield 16, 3) := by decide +kernel
theorem d_Mo_stands_4 : decode b_Mo_stands 4 = .ok (.iload_n 1, 1) := by decide +kernel
theorem d_Mo_stands_5 : decode b_Mo_stands 5 = .ok (.iaload, 1) := by decide +kernel
theorem d_Mo_stands_6 : decode b_Mo_stands 6 = .ok (.ifCond .le 37, 3) := by decide +kernel
theorem d_Mo_stands_9 : decode b_Mo_stands 9 = .ok (.iload_n 2, 1) := by decide +kernel
theorem d_Mo_stands_10 : decode b_Mo_stands 10 = .ok (.iload_n 3, 1) := by decide +kernel
theorem d_Mo_stands_11 : decode b_Mo_stands 11 = .ok (.if_icmp .ge 30, 3) := by decide +kernel
theorem d_Mo_stands_14 : decode b_Mo_stands 14 = .ok (.aload_n 0, 1) := by decide +kernel
theorem d_Mo_stands_15 : decode b_Mo_stands 15 = .ok (.getfield 16, 3) := by decide +kernel
theorem d_Mo_stands_18 : decode b_Mo_stands 18 = .ok (.iload_n 1, 1) := by decide +kernel
theorem d_Mo_stands_19 : decode b_Mo_stands 19 = .ok (.iaload, 1) := by decide +kernel
theorem d_Mo_stands_20 : decode b_Mo_stands 20 = .ok (.aload_n 0, 1) := by decide +kernel
theorem d_Mo_stands_21 : decode b_Mo_stands 21 = .ok (.getfield 29, 3) := by decide +kernel
theorem d_Mo_stands_24 : decode b_Mo_stands 24 = .ok (.iload_n 2, 1) := by decide +kernel
theorem d_Mo_stands_25 : decode b_Mo_stands 25 = .ok (.baload, 1) := by decide +kernel
theorem d_Mo_stands_26 : decode b_Mo_stands 26 = .ok (.sipush 255, 3) := by decide +kernel
theorem d_Mo_stands_29 : decode b_Mo_stands 29 = .ok (.iand, 1) := by decide +kernel
theorem d_Mo_stands_30 : decode b_Mo_stands 30 = .ok (.invokestatic 60, 3) := by decide +kernel
theorem d_Mo_stands_33 : decode b_Mo_stands 33 = .ok (.iand, 1) := by decide +kernel
theorem d_Mo_stands_34 : decode b_Mo_stands 34 = .ok (.ifCond .le 7, 3) := by decide +kernel
theorem d_Mo_stands_37 : decode b_Mo_stands 37 = .ok (.iconst 1, 1) := by decide +kernel
theorem d_Mo_stands_38 : decode b_Mo_stands 38 = .ok (.goto 4, 3) := by decide +kernel
theorem d_Mo_stands_41 : decode b_Mo_stands 41 = .ok (.iconst 0, 1) := by decide +kernel
theorem d_Mo_stands_42 : decode b_Mo_stands 42 = .ok (.ireturn, 1) := by decide +kernel
theorem d_Mo_stands_43 : decode b_Mo_stands 43 = .ok (.iload_n 2, 1) := by decide +kernel
theorem d_Mo_stands_44 : decode b_Mo_stands 44 = .ok (.aload_n 0, 1) := by decide +kernel
theorem d_Mo_stands_45 : decode b_Mo_stands 45 = .ok (.getfield 19, 3) := by decide +kernel
theorem d_Mo_stands_48 : decode b_Mo_stands 48 = .ok (.iload_n 1, 1) := by decide +kernel
theorem d_Mo_stands_49 : decode b_Mo_stands 49 = .ok (.iaload, 1) := by decide +kernel
theorem d_Mo_stands_50 : decode b_Mo_stands 50 = .ok (.iadd, 1) := by decide +kernel
theorem d_Mo_stands_51 : decode b_Mo_stands 51 = .ok (.iload_n 3, 1) := by decide +kernel
theorem d_Mo_stands_52 : decode b_Mo_stands 52 = .ok (.if_icmp .gt 7, 3) := by decide +kernel
theorem d_Mo_stands_55 : decode b_Mo_stands 55 = .ok (.iconst 1, 1) := by decide +kernel
theorem d_Mo_stands_56 : decode b_Mo_stands 56 = .ok (.goto 4, 3) := by decide +kernel
theorem d_Mo_stands_59 : decode b_Mo_stands 59 = .ok (.iconst 0, 1) := by decide +kernel
theorem d_Mo_stands_60 : decode b_Mo_stands 60 = .ok (.istore 4, 2) := by decide +kernel
theorem d_Mo_stands_62 : decode b_Mo_stands 62 = .ok (.iconst 0, 1) := by decide +kernel
theorem d_Mo_stands_63 : decode b_Mo_stands 63 = .ok (.istore 5, 2) := by decide +kernel
theorem d_Mo_stands_65 : decode b_Mo_stands 65 = .ok (.iload 5, 2) := by decide +kernel
theorem d_Mo_stands_67 : decode b_Mo_stands 67 = .ok (.aload_n 0, 1) := by decide +kernel
theorem d_Mo_stands_68 : decode b_Mo_stands 68 = .ok (.getfield 19, 3) := by decide +kernel
theorem d_Mo_stands_71 : decode b_Mo_stands 71 = .ok (.iload_n 1, 1) := by decide +kernel
theorem d_Mo_stands_72 : decode b_Mo_stands 72 = .ok (.iaload, 1) := by decide +kernel
theorem d_Mo_stands_73 : decode b_Mo_stands 73 = .ok (.if_icmp .ge 47, 3) := by decide +kernel
theorem d_Mo_stands_76 : decode b_Mo_stands 76 = .ok (.iload 4, 2) := by decide +kernel
theorem d_Mo_stands_78 : decode b_Mo_stands 78 = .ok (.ifCond .eq 42, 3) := by decide +kernel
theorem d_Mo_stands_81 : decode b_Mo_stands 81 = .ok (.aload_n 0, 1) := by decide +kernel
theorem d_Mo_stands_82 : decode b_Mo_stands 82 = .ok (.getfield 29, 3) := by decide +kernel
theorem d_Mo_stands_85 : decode b_Mo_stands 85 = .ok (.iload_n 2, 1) := by decide +kernel
theorem d_Mo_stands_86 : decode b_Mo_stands 86 = .ok (.iload 5, 2) := by decide +kernel
theorem d_Mo_stands_88 : decode b_Mo_stands 88 = .ok (.iadd, 1) := by decide +kernel
theorem d_Mo_stands_89 : decode b_Mo_stands 89 = .ok (.baload, 1) := by decide +kernel
theorem d_Mo_stands_90 : decode b_Mo_stands 90 = .ok (.aload_n 0, 1) := by decide +kernel
theorem d_Mo_stands_91 : decode b_Mo_stands 91 = .ok (.getfield 25, 3) := by decide +kernel
theorem d_Mo_stands_94 : decode b_Mo_stands 94 = .ok (.aload_n 0, 1) := by decide +kernel
theorem d_Mo_stands_95 : decode b_Mo_stands 95 = .ok (.getfield 22, 3) := by decide +kernel
theorem d_Mo_stands_98 : decode b_Mo_stands 98 = .ok (.iload_n 1, 1) := by decide +kernel
theorem d_Mo_stands_99 : decode b_Mo_stands 99 = .ok (.iaload, 1) := by decide +kernel
theorem d_Mo_stands_100 : decode b_Mo_stands 100 = .ok (.iload 5, 2) := by decide +kernel
theorem d_Mo_stands_102 : decode b_Mo_stands 102 = .ok (.iadd, 1) := by decide +kernel
theorem d_Mo_stands_103 : decode b_Mo_stands 103 = .ok (.baload, 1) := by decide +kernel
theorem d_Mo_stands_104 : decode b_Mo_stands 104 = .ok (.if_icmp .ne 7, 3) := by decide +kernel
theorem d_Mo_stands_107 : decode b_Mo_stands 107 = .ok (.iconst 1, 1) := by decide +kernel
theorem d_Mo_stands_108 : decode b_Mo_stands 108 = .ok (.goto 4, 3) := by decide +kernel
theorem d_Mo_stands_111 : decode b_Mo_stands 111 = .ok (.iconst 0, 1) := by decide +kernel
theorem d_Mo_stands_112 : decode b_Mo_stands 112 = .ok (.istore 4, 2) := by decide +kernel
theorem d_Mo_stands_114 : decode b_Mo_stands 114 = .ok (.iinc 5 1, 3) := by decide +kernel
theorem d_Mo_stands_117 : decode b_Mo_stands 117 = .ok (.goto (-52), 3) := by decide +kernel
theorem d_Mo_stands_120 : decode b_Mo_stands 120 = .ok (.iload 4, 2) := by decide +kernel
theorem d_Mo_stands_122 : decode b_Mo_stands 122 = .ok (.ireturn, 1) := by decide +kernel
theorem d_Mo_tally_0 : decode b_Mo_tally 0 = .ok (.iload_n 3, 1) := by decide +kernel
theorem d_Mo_tally_1 : decode b_Mo_tally 1 = .ok (.istore 4, 2) := by decide +kernel
theorem d_Mo_tally_3 : decode b_Mo_tally 3 = .ok (.iload 4, 2) := by decide +kernel
theorem d_Mo_tally_5 : decode b_Mo_tally 5 = .ok (.ifCond .lt 42, 3) := by decide +kernel
theorem d_Mo_tally_8 : decode b_Mo_tally 8 = .ok (.aload_n 0, 1) := by decide +kernel
theorem d_Mo_tally_9 : decode b_Mo_tally 9 = .ok (.getfield 39, 3) := by decide +kernel
theorem d_Mo_tally_12 : decode b_Mo_tally 12 = .ok (.iload 4, 2) := by decide +kernel
theorem d_Mo_tally_14 : decode b_Mo_tally 14 = .ok (.aload_n 0, 1) := by decide +kernel
theorem d_Mo_tally_15 : decode b_Mo_tally 15 = .ok (.iload_n 1, 1) := by decide +kernel
theorem d_Mo_tally_16 : decode b_Mo_tally 16 = .ok (.iload 4, 2) := by decide +kernel
theorem d_Mo_tally_18 : decode b_Mo_tally 18 = .ok (.iload_n 3, 1) := by decide +kernel
theorem d_Mo_tally_19 : decode b_Mo_tally 19 = .ok (.invokevirtual 63, 3) := by decide +kernel
theorem d_Mo_tally_22 : decode b_Mo_tally 22 = .ok (.ifCond .eq 17, 3) := by decide +kernel
theorem d_Mo_tally_25 : decode b_Mo_tally 25 = .ok (.iconst 1, 1) := by decide +kernel
theorem d_Mo_tally_26 : decode b_Mo_tally 26 = .ok (.aload_n 0, 1) := by decide +kernel
theorem d_Mo_tally_27 : decode b_Mo_tally 27 = .ok (.getfield 39, 3) := by decide +kernel
theorem d_Mo_tally_30 : decode b_Mo_tally 30 = .ok (.iload 4, 2) := by decide +kernel
theorem d_Mo_tally_32 : decode b_Mo_tally 32 = .ok (.iload_n 2, 1) := by decide +kernel
theorem d_Mo_tally_33 : decode b_Mo_tally 33 = .ok (.iadd, 1) := by decide +kernel
theorem d_Mo_tally_34 : decode b_Mo_tally 34 = .ok (.iaload, 1) := by decide +kernel
theorem d_Mo_tally_35 : decode b_Mo_tally 35 = .ok (.iadd, 1) := by decide +kernel
theorem d_Mo_tally_36 : decode b_Mo_tally 36 = .ok (.goto 4, 3) := by decide +kernel
theorem d_Mo_tally_39 : decode b_Mo_tally 39 = .ok (.iconst 0, 1) := by decide +kernel
theorem d_Mo_tally_40 : decode b_Mo_tally 40 = .ok (.iastore, 1) := by decide +kernel
theorem d_Mo_tally_41 : decode b_Mo_tally 41 = .ok (.iinc 4 (-1), 3) := by decide +kernel
theorem d_Mo_tally_44 : decode b_Mo_tally 44 = .ok (.goto (-41), 3) := by decide +kernel
theorem d_Mo_tally_47 : decode b_Mo_tally 47 = .ok (.return_, 1) := by decide +kernel
theorem d_Mo_back_0 : decode b_Mo_back 0 = .ok (.aload_n 0, 1) := by decide +kernel
theorem d_Mo_back_1 : decode b_Mo_back 1 = .ok (.getfield 16, 3) := by decide +kernel
theorem d_Mo_back_4 : decode b_Mo_back 4 = .ok (.iload_n 1, 1) := by decide +kernel
theorem d_Mo_back_5 : decode b_Mo_back 5 = .ok (.iaload, 1) := by decide +kernel
theorem d_Mo_back_6 : decode b_Mo_back 6 = .ok (.ifCond .le 7, 3) := by decide +kernel
theorem d_Mo_back_9 : decode b_Mo_back 9 = .ok (.iconst 1, 1) := by decide +kernel
theorem d_Mo_back_10 : decode b_Mo_back 10 = .ok (.goto 9, 3) := by decide +kernel
theorem d_Mo_back_13 : decode b_Mo_back 13 = .ok (.aload_n 0, 1) := by decide +kernel
theorem d_Mo_back_14 : decode b_Mo_back 14 = .ok (.getfield 19, 3) := by decide +kernel
theorem d_Mo_back_17 : decode b_Mo_back 17 = .ok (.iload_n 1, 1) := by decide +kernel
theorem d_Mo_back_18 : decode b_Mo_back 18 = .ok (.iaload, 1) := by decide +kernel
theorem d_Mo_back_19 : decode b_Mo_back 19 = .ok (.istore_n 3, 1) := by decide +kernel
theorem d_Mo_back_20 : decode b_Mo_back 20 = .ok (.iload_n 3, 1) := by decide +kernel
theorem d_Mo_back_21 : decode b_Mo_back 21 = .ok (.ifCond .le 10, 3) := by decide +kernel
theorem d_Mo_back_24 : decode b_Mo_back 24 = .ok (.aload_n 0, 1) := by decide +kernel
theorem d_Mo_back_25 : decode b_Mo_back 25 = .ok (.iload_n 1, 1) := by decide +kernel
theorem d_Mo_back_26 : decode b_Mo_back 26 = .ok (.iload_n 3, 1) := by decide +kernel
theorem d_Mo_back_27 : decode b_Mo_back 27 = .ok (.iload_n 2, 1) := by decide +kernel
theorem d_Mo_back_28 : decode b_Mo_back 28 = .ok (.invokevirtual 67, 3) := by decide +kernel
theorem d_Mo_back_31 : decode b_Mo_back 31 = .ok (.iconst 0, 1) := by decide +kernel
theorem d_Mo_back_32 : decode b_Mo_back 32 = .ok (.istore 4, 2) := by decide +kernel
theorem d_Mo_back_34 : decode b_Mo_back 34 = .ok (.iload 4, 2) := by decide +kernel
theorem d_Mo_back_36 : decode b_Mo_back 36 = .ok (.iload_n 2, 1) := by decide +kernel
theorem d_Mo_back_37 : decode b_Mo_back 37 = .ok (.if_icmp .gt 134, 3) := by decide +kernel
theorem d_Mo_back_40 : decode b_Mo_back 40 = .ok (.iconst 0, 1) := by decide +kernel
theorem d_Mo_back_41 : decode b_Mo_back 41 = .ok (.istore 5, 2) := by decide +kernel
theorem d_Mo_back_43 : decode b_Mo_back 43 = .ok (.iload_n 3, 1) := by decide +kernel
theorem d_Mo_back_44 : decode b_Mo_back 44 = .ok (.ifCond .ne 38, 3) := by decide +kernel
theorem d_Mo_back_47 : decode b_Mo_back 47 = .ok (.aload_n 0, 1) := by decide +kernel
theorem d_Mo_back_48 : decode b_Mo_back 48 = .ok (.getfield 32, 3) := by decide +kernel
theorem d_Mo_back_51 : decode b_Mo_back 51 = .ok (.iload 4, 2) := by decide +kernel
theorem d_Mo_back_53 : decode b_Mo_back 53 = .ok (.baload, 1) := by decide +kernel
theorem d_Mo_back_54 : decode b_Mo_back 54 = .ok (.ifCond .eq 22, 3) := by decide +kernel
theorem d_Mo_back_57 : decode b_Mo_back 57 = .ok (.aload_n 0, 1) := by decide +kernel
theorem d_Mo_back_58 : decode b_Mo_back 58 = .ok (.getfield 7, 3) := by decide +kernel
theorem d_Mo_back_61 : decode b_Mo_back 61 = .ok (.iload_n 1, 1) := by decide +kernel
theorem d_Mo_back_62 : decode b_Mo_back 62 = .ok (.iaload, 1) := by decide +kernel
theorem d_Mo_back_63 : decode b_Mo_back 63 = .ok (.aload_n 0, 1) := by decide +kernel
theorem d_Mo_back_64 : decode b_Mo_back 64 = .ok (.getfield 13, 3) := by decide +kernel
theorem d_Mo_back_67 : decode b_Mo_back 67 = .ok (.iload_n 1, 1) := by decide +kernel
theorem d_Mo_back_68 : decode b_Mo_back 68 = .ok (.iaload, 1) := by decide +kernel
theorem d_Mo_back_69 : decode b_Mo_back 69 = .ok (.if_icmp .gt 7, 3) := by decide +kernel
theorem d_Mo_back_72 : decode b_Mo_back 72 = .ok (.iconst 1, 1) := by decide +kernel
theorem d_Mo_back_73 : decode b_Mo_back 73 = .ok (.goto 4, 3) := by decide +kernel
theorem d_Mo_back_76 : decode b_Mo_back 76 = .ok (.iconst 0, 1) := by decide +kernel
theorem d_Mo_back_77 : decode b_Mo_back 77 = .ok (.istore 5, 2) := by decide +kernel
theorem d_Mo_back_79 : decode b_Mo_back 79 = .ok (.goto 77, 3) := by decide +kernel
theorem d_Mo_back_82 : decode b_Mo_back 82 = .ok (.aload_n 0, 1) := by decide +kernel
theorem d_Mo_back_83 : decode b_Mo_back 83 = .ok (.getfield 39, 3) := by decide +kernel
theorem d_Mo_back_86 : decode b_Mo_back 86 = .ok (.iload 4, 2) := by decide +kernel
theorem d_Mo_back_88 : decode b_Mo_back 88 = .ok (.iaload, 1) := by decide +kernel
theorem d_Mo_back_89 : decode b_Mo_back 89 = .ok (.aload_n 0, 1) := by decide +kernel
theorem d_Mo_back_90 : decode b_Mo_back 90 = .ok (.getfield 13, 3) := by decide +kernel
theorem d_Mo_back_93 : decode b_Mo_back 93 = .ok (.iload_n 1, 1) := by decide +kernel
theorem d_Mo_back_94 : decode b_Mo_back 94 = .ok (.iaload, 1) := by decide +kernel
theorem d_Mo_back_95 : decode b_Mo_back 95 = .ok (.if_icmp .ge 13, 3) := by decide +kernel
theorem d_Mo_back_98 : decode b_Mo_back 98 = .ok (.aload_n 0, 1) := by decide +kernel
theorem d_Mo_back_99 : decode b_Mo_back 99 = .ok (.getfield 39, 3) := by decide +kernel
theorem d_Mo_back_102 : decode b_Mo_back 102 = .ok (.iload 4, 2) := by decide +kernel
theorem d_Mo_back_104 : decode b_Mo_back 104 = .ok (.iaload, 1) := by decide +kernel
theorem d_Mo_back_105 : decode b_Mo_back 105 = .ok (.goto 9, 3) := by decide +kernel
theorem d_Mo_back_108 : decode b_Mo_back 108 = .ok (.aload_n 0, 1) := by decide +kernel
theorem d_Mo_back_109 : decode b_Mo_back 109 = .ok (.getfield 13, 3) := by decide +kernel
theorem d_Mo_back_112 : decode b_Mo_back 112 = .ok (.iload_n 1, 1) := by decide +kernel
theorem d_Mo_back_113 : decode b_Mo_back 113 = .ok (.iaload, 1) := by decide +kernel
theorem d_Mo_back_114 : decode b_Mo_back 114 = .ok (.istore 6, 2) := by decide +kernel
theorem d_Mo_back_116 : decode b_Mo_back 116 = .ok (.aload_n 0, 1) := by decide +kernel
theorem d_Mo_back_117 : decode b_Mo_back 117 = .ok (.getfield 7, 3) := by decide +kernel
theorem d_Mo_back_120 : decode b_Mo_back 120 = .ok (.iload_n 1, 1) := by decide +kernel
theorem d_Mo_back_121 : decode b_Mo_back 121 = .ok (.iaload, 1) := by decide +kernel
theorem d_Mo_back_122 : decode b_Mo_back 122 = .ok (.istore 7, 2) := by decide +kernel
theorem d_Mo_back_124 : decode b_Mo_back 124 = .ok (.iload 7, 2) := by decide +kernel
theorem d_Mo_back_126 : decode b_Mo_back 126 = .ok (.iload 6, 2) := by decide +kernel
theorem d_Mo_back_128 : decode b_Mo_back 128 = .ok (.if_icmp .gt 28, 3) := by decide +kernel
theorem d_Mo_back_131 : decode b_Mo_back 131 = .ok (.iload 5, 2) := by decide +kernel
theorem d_Mo_back_133 : decode b_Mo_back 133 = .ok (.ifCond .ne 23, 3) := by decide +kernel
theorem d_Mo_back_136 : decode b_Mo_back 136 = .ok (.aload_n 0, 1) := by decide +kernel
theorem d_Mo_back_137 : decode b_Mo_back 137 = .ok (.getfield 32, 3) := by decide +kernel
theorem d_Mo_back_140 : decode b_Mo_back 140 = .ok (.iload 4, 2) := by decide +kernel
theorem d_Mo_back_142 : decode b_Mo_back 142 = .ok (.iload 7, 2) := by decide +kernel
theorem d_Mo_back_144 : decode b_Mo_back 144 = .ok (.iload_n 3, 1) := by decide +kernel
theorem d_Mo_back_145 : decode b_Mo_back 145 = .ok (.imul, 1) := by decide +kernel
theorem d_Mo_back_146 : decode b_Mo_back 146 = .ok (.iadd, 1) := by decide +kernel
theorem d_Mo_back_147 : decode b_Mo_back 147 = .ok (.baload, 1) := by decide +kernel
theorem d_Mo_back_148 : decode b_Mo_back 148 = .ok (.istore 5, 2) := by decide +kernel
theorem d_Mo_back_150 : decode b_Mo_back 150 = .ok (.iinc 7 1, 3) := by decide +kernel
theorem d_Mo_back_153 : decode b_Mo_back 153 = .ok (.goto (-29), 3) := by decide +kernel
theorem d_Mo_back_156 : decode b_Mo_back 156 = .ok (.aload_n 0, 1) := by decide +kernel
theorem d_Mo_back_157 : decode b_Mo_back 157 = .ok (.getfield 36, 3) := by decide +kernel
theorem d_Mo_back_160 : decode b_Mo_back 160 = .ok (.iload 4, 2) := by decide +kernel
theorem d_Mo_back_162 : decode b_Mo_back 162 = .ok (.iload 5, 2) := by decide +kernel
theorem d_Mo_back_164 : decode b_Mo_back 164 = .ok (.bastore, 1) := by decide +kernel
theorem d_Mo_back_165 : decode b_Mo_back 165 = .ok (.iinc 4 1, 3) := by decide +kernel
theorem d_Mo_back_168 : decode b_Mo_back 168 = .ok (.goto (-134), 3) := by decide +kernel
theorem d_Mo_back_171 : decode b_Mo_back 171 = .ok (.iconst 0, 1) := by decide +kernel
theorem d_Mo_back_172 : decode b_Mo_back 172 = .ok (.istore 4, 2) := by decide +kernel
theorem d_Mo_back_174 : decode b_Mo_back 174 = .ok (.iload 4, 2) := by decide +kernel
theorem d_Mo_back_176 : decode b_Mo_back 176 = .ok (.iload_n 2, 1) := by decide +kernel
theorem d_Mo_back_177 : decode b_Mo_back 177 = .ok (.if_icmp .gt 23, 3) := by decide +kernel
theorem d_Mo_back_180 : decode b_Mo_back 180 = .ok (.aload_n 0, 1) := by decide +kernel
theorem d_Mo_back_181 : decode b_Mo_back 181 = .ok (.getfield 32, 3) := by decide +kernel
theorem d_Mo_back_184 : decode b_Mo_back 184 = .ok (.iload 4, 2) := by decide +kernel
theorem d_Mo_back_186 : decode b_Mo_back 186 = .ok (.aload_n 0, 1) := by decide +kernel
theorem d_Mo_back_187 : decode b_Mo_back 187 = .ok (.getfield 36, 3) := by decide +kernel
theorem d_Mo_back_190 : decode b_Mo_back 190 = .ok (.iload 4, 2) := by decide +kernel
theorem d_Mo_back_192 : decode b_Mo_back 192 = .ok (.baload, 1) := by decide +kernel
theorem d_Mo_back_193 : decode b_Mo_back 193 = .ok (.bastore, 1) := by decide +kernel
theorem d_Mo_back_194 : decode b_Mo_back 194 = .ok (.iinc 4 1, 3) := by decide +kernel
theorem d_Mo_back_197 : decode b_Mo_back 197 = .ok (.goto (-23), 3) := by decide +kernel
theorem d_Mo_back_200 : decode b_Mo_back 200 = .ok (.return_, 1) := by decide +kernel
theorem d_Mo_fitsFirst_0 : decode b_Mo_fitsFirst 0 = .ok (.iconst 0, 1) := by decide +kernel
theorem d_Mo_fitsFirst_1 : decode b_Mo_fitsFirst 1 = .ok (.istore_n 2, 1) := by decide +kernel
theorem d_Mo_fitsFirst_2 : decode b_Mo_fitsFirst 2 = .ok (.iload_n 2, 1) := by decide +kernel
theorem d_Mo_fitsFirst_3 : decode b_Mo_fitsFirst 3 = .ok (.iload_n 1, 1) := by decide +kernel
theorem d_Mo_fitsFirst_4 : decode b_Mo_fitsFirst 4 = .ok (.if_icmp .gt 25, 3) := by decide +kernel
theorem d_Mo_fitsFirst_7 : decode b_Mo_fitsFirst 7 = .ok (.aload_n 0, 1) := by decide +kernel
theorem d_Mo_fitsFirst_8 : decode b_Mo_fitsFirst 8 = .ok (.getfield 32, 3) := by decide +kernel
theorem d_Mo_fitsFirst_11 : decode b_Mo_fitsFirst 11 = .ok (.iload_n 2, 1) := by decide +kernel
theorem d_Mo_fitsFirst_12 : decode b_Mo_fitsFirst 12 = .ok (.iload_n 2, 1) := by decide +kernel
theorem d_Mo_fitsFirst_13 : decode b_Mo_fitsFirst 13 = .ok (.iload_n 1, 1) := by decide +kernel
theorem d_Mo_fitsFirst_14 : decode b_Mo_fitsFirst 14 = .ok (.if_icmp .ne 7, 3) := by decide +kernel
theorem d_Mo_fitsFirst_17 : decode b_Mo_fitsFirst 17 = .ok (.iconst 1, 1) := by decide +kernel
theorem d_Mo_fitsFirst_18 : decode b_Mo_fitsFirst 18 = .ok (.goto 4, 3) := by decide +kernel
theorem d_Mo_fitsFirst_21 : decode b_Mo_fitsFirst 21 = .ok (.iconst 0, 1) := by decide +kernel
theorem d_Mo_fitsFirst_22 : decode b_Mo_fitsFirst 22 = .ok (.bastore, 1) := by decide +kernel
theorem d_Mo_fitsFirst_23 : decode b_Mo_fitsFirst 23 = .ok (.iinc 2 1, 3) := by decide +kernel
theorem d_Mo_fitsFirst_26 : decode b_Mo_fitsFirst 26 = .ok (.goto (-24), 3) := by decide +kernel
theorem d_Mo_fitsFirst_29 : decode b_Mo_fitsFirst 29 = .ok (.aload_n 0, 1) := by decide +kernel
theorem d_Mo_fitsFirst_30 : decode b_Mo_fitsFirst 30 = .ok (.getfield 42, 3) := by decide +kernel
theorem d_Mo_fitsFirst_33 : decode b_Mo_fitsFirst 33 = .ok (.iconst 1, 1) := by decide +kernel
theorem d_Mo_fitsFirst_34 : decode b_Mo_fitsFirst 34 = .ok (.isub, 1) := by decide +kernel
theorem d_Mo_fitsFirst_35 : decode b_Mo_fitsFirst 35 = .ok (.istore_n 2, 1) := by decide +kernel
theorem d_Mo_fitsFirst_36 : decode b_Mo_fitsFirst 36 = .ok (.iload_n 2, 1) := by decide +kernel
theorem d_Mo_fitsFirst_37 : decode b_Mo_fitsFirst 37 = .ok (.ifCond .lt 15, 3) := by decide +kernel
theorem d_Mo_fitsFirst_40 : decode b_Mo_fitsFirst 40 = .ok (.aload_n 0, 1) := by decide +kernel
theorem d_Mo_fitsFirst_41 : decode b_Mo_fitsFirst 41 = .ok (.iload_n 2, 1) := by decide +kernel
theorem d_Mo_fitsFirst_42 : decode b_Mo_fitsFirst 42 = .ok (.iload_n 1, 1) := by decide +kernel
theorem d_Mo_fitsFirst_43 : decode b_Mo_fitsFirst 43 = .ok (.invokevirtual 71, 3) := by decide +kernel
theorem d_Mo_fitsFirst_46 : decode b_Mo_fitsFirst 46 = .ok (.iinc 2 (-1), 3) := by decide +kernel
theorem d_Mo_fitsFirst_49 : decode b_Mo_fitsFirst 49 = .ok (.goto (-13), 3) := by decide +kernel
theorem d_Mo_fitsFirst_52 : decode b_Mo_fitsFirst 52 = .ok (.aload_n 0, 1) := by decide +kernel
theorem d_Mo_fitsFirst_53 : decode b_Mo_fitsFirst 53 = .ok (.getfield 32, 3) := by decide +kernel
theorem d_Mo_fitsFirst_56 : decode b_Mo_fitsFirst 56 = .ok (.iconst 0, 1) := by decide +kernel
theorem d_Mo_fitsFirst_57 : decode b_Mo_fitsFirst 57 = .ok (.baload, 1) := by decide +kernel
theorem d_Mo_fitsFirst_58 : decode b_Mo_fitsFirst 58 = .ok (.ireturn, 1) := by decide +kernel
theorem d_Mo_fits_0 : decode b_Mo_fits 0 = .ok (.aload_n 0, 1) := by decide +kernel
theorem d_Mo_fits_1 : decode b_Mo_fits 1 = .ok (.aload_n 0, 1) := by decide +kernel
theorem d_Mo_fits_2 : decode b_Mo_fits 2 = .ok (.getfield 57, 3) := by decide +kernel
theorem d_Mo_fits_5 : decode b_Mo_fits 5 = .ok (.invokevirtual 75, 3) := by decide +kernel
theorem d_Mo_fits_8 : decode b_Mo_fits 8 = .ok (.ireturn, 1) := by decide +kernel
theorem d_Mo_prefix_0 : decode b_Mo_prefix 0 = .ok (.iload_n 1, 1) := by decide +kernel
theorem d_Mo_prefix_1 : decode b_Mo_prefix 1 = .ok (.ifCond .lt 23, 3) := by decide +kernel
theorem d_Mo_prefix_4 : decode b_Mo_prefix 4 = .ok (.iload_n 1, 1) := by decide +kernel
theorem d_Mo_prefix_5 : decode b_Mo_prefix 5 = .ok (.aload_n 0, 1) := by decide +kernel
theorem d_Mo_prefix_6 : decode b_Mo_prefix 6 = .ok (.getfield 57, 3) := by decide +kernel
theorem d_Mo_prefix_9 : decode b_Mo_prefix 9 = .ok (.if_icmp .gt 15, 3) := by decide +kernel
theorem d_Mo_prefix_12 : decode b_Mo_prefix 12 = .ok (.aload_n 0, 1) := by decide +kernel
theorem d_Mo_prefix_13 : decode b_Mo_prefix 13 = .ok (.iload_n 1, 1) := by decide +kernel
theorem d_Mo_prefix_14 : decode b_Mo_prefix 14 = .ok (.invokevirtual 75, 3) := by decide +kernel
theorem d_Mo_prefix_17 : decode b_Mo_prefix 17 = .ok (.ifCond .eq 7, 3) := by decide +kernel
theorem d_Mo_prefix_20 : decode b_Mo_prefix 20 = .ok (.iconst 1, 1) := by decide +kernel
theorem d_Mo_prefix_21 : decode b_Mo_prefix 21 = .ok (.goto 4, 3) := by decide +kernel
theorem d_Mo_prefix_24 : decode b_Mo_prefix 24 = .ok (.iconst 0, 1) := by decide +kernel
theorem d_Mo_prefix_25 : decode b_Mo_prefix 25 = .ok (.ireturn, 1) := by decide +kernel
theorem d_Mo_count_0 : decode b_Mo_count 0 = .ok (.iload_n 1, 1) := by decide +kernel
theorem d_Mo_count_1 : decode b_Mo_count 1 = .ok (.ifCond .ne 10, 3) := by decide +kernel
theorem d_Mo_count_4 : decode b_Mo_count 4 = .ok (.aload_n 0, 1) := by decide +kernel
theorem d_Mo_count_5 : decode b_Mo_count 5 = .ok (.getfield 42, 3) := by decide +kernel
theorem d_Mo_count_8 : decode b_Mo_count 8 = .ok (.goto 16, 3) := by decide +kernel
theorem d_Mo_count_11 : decode b_Mo_count 11 = .ok (.iload_n 1, 1) := by decide +kernel
theorem d_Mo_count_12 : decode b_Mo_count 12 = .ok (.iconst 1, 1) := by decide +kernel
theorem d_Mo_count_13 : decode b_Mo_count 13 = .ok (.if_icmp .ne 10, 3) := by decide +kernel
theorem d_Mo_count_16 : decode b_Mo_count 16 = .ok (.aload_n 0, 1) := by decide +kernel
theorem d_Mo_count_17 : decode b_Mo_count 17 = .ok (.getfield 57, 3) := by decide +kernel
theorem d_Mo_count_20 : decode b_Mo_count 20 = .ok (.goto 4, 3) := by decide +kernel
theorem d_Mo_count_23 : decode b_Mo_count 23 = .ok (.iconst (-1), 1) := by decide +kernel
theorem d_Mo_count_24 : decode b_Mo_count 24 = .ok (.ireturn, 1) := by decide +kernel
end
section
theorem d_law_law_0 : decode code 0 = .ok (.new 7, 3) := by decide +kernel
theorem d_law_law_3 : decode code 3 = .ok (.dup, 1) := by decide +kernel
theorem d_law_law_4 : decode code 4 = .ok (.invokespecial 9, 3) := by decide +kernel
theorem d_law_law_7 : decode code 7 = .ok (.astore_n 1, 1) := by decide +kernel
theorem d_law_law_8 : decode code 8 = .ok (.new 10, 3) := by decide +kernel
theorem d_law_law_11 : decode code 11 = .ok (.dup, 1) := by decide +kernel
theorem d_law_law_12 : decode code 12 = .ok (.invokespecial 12, 3) := by decide +kernel
theorem d_law_law_15 : decode code 15 = .ok (.astore_n 2, 1) := by decide +kernel
theorem d_law_law_16 : decode code 16 = .ok (.iconst 0, 1) := by decide +kernel
theorem d_law_law_17 : decode code 17 = .ok (.istore_n 3, 1) := by decide +kernel
theorem d_law_law_18 : decode code 18 = .ok (.iload_n 3, 1) := by decide +kernel
theorem d_law_law_19 : decode code 19 = .ok (.aload_n 0, 1) := by decide +kernel
theorem d_law_law_20 : decode code 20 = .ok (.arraylength, 1) := by decide +kernel
theorem d_law_law_21 : decode code 21 = .ok (.iconst 3, 1) := by decide +kernel
theorem d_law_law_22 : decode code 22 = .ok (.isub, 1) := by decide +kernel
theorem d_law_law_23 : decode code 23 = .ok (.if_icmp .gt 250, 3) := by decide +kernel
theorem d_law_law_26 : decode code 26 = .ok (.aload_n 0, 1) := by decide +kernel
theorem d_law_law_27 : decode code 27 = .ok (.iload_n 3, 1) := by decide +kernel
theorem d_law_law_28 : decode code 28 = .ok (.iaload, 1) := by decide +kernel
theorem d_law_law_29 : decode code 29 = .ok (.bipush 15, 2) := by decide +kernel
theorem d_law_law_31 : decode code 31 = .ok (.iand, 1) := by decide +kernel
theorem d_law_law_32 : decode code 32 = .ok (.tableswitch 235 0 8 #[52, 63, 96, 119, 142, 153, 176, 189, 212], 52) := by decide +kernel
theorem d_law_law_84 : decode code 84 = .ok (.aload_n 1, 1) := by decide +kernel
theorem d_law_law_85 : decode code 85 = .ok (.invokevirtual 13, 3) := by decide +kernel
theorem d_law_law_88 : decode code 88 = .ok (.aload_n 2, 1) := by decide +kernel
theorem d_law_law_89 : decode code 89 = .ok (.invokevirtual 16, 3) := by decide +kernel
theorem d_law_law_92 : decode code 92 = .ok (.goto 175, 3) := by decide +kernel
theorem d_law_law_95 : decode code 95 = .ok (.aload_n 1, 1) := by decide +kernel
theorem d_law_law_96 : decode code 96 = .ok (.aload_n 0, 1) := by decide +kernel
theorem d_law_law_97 : decode code 97 = .ok (.iload_n 3, 1) := by decide +kernel
theorem d_law_law_98 : decode code 98 = .ok (.iconst 1, 1) := by decide +kernel
theorem d_law_law_99 : decode code 99 = .ok (.iadd, 1) := by decide +kernel
theorem d_law_law_100 : decode code 100 = .ok (.iaload, 1) := by decide +kernel
theorem d_law_law_101 : decode code 101 = .ok (.aload_n 0, 1) := by decide +kernel
theorem d_law_law_102 : decode code 102 = .ok (.iload_n 3, 1) := by decide +kernel
theorem d_law_law_103 : decode code 103 = .ok (.iconst 2, 1) := by decide +kernel
theorem d_law_law_104 : decode code 104 = .ok (.iadd, 1) := by decide +kernel
theorem d_law_law_105 : decode code 105 = .ok (.iaload, 1) := by decide +kernel
theorem d_law_law_106 : decode code 106 = .ok (.invokevirtual 17, 3) := by decide +kernel
theorem d_law_law_109 : decode code 109 = .ok (.aload_n 2, 1) := by decide +kernel
theorem d_law_law_110 : decode code 110 = .ok (.aload_n 0, 1) := by decide +kernel
theorem d_law_law_111 : decode code 111 = .ok (.iload_n 3, 1) := by decide +kernel
theorem d_law_law_112 : decode code 112 = .ok (.iconst 1, 1) := by decide +kernel
theorem d_law_law_113 : decode code 113 = .ok (.iadd, 1) := by decide +kernel
theorem d_law_law_114 : decode code 114 = .ok (.iaload, 1) := by decide +kernel
theorem d_law_law_115 : decode code 115 = .ok (.aload_n 0, 1) := by decide +kernel
theorem d_law_law_116 : decode code 116 = .ok (.iload_n 3, 1) := by decide +kernel
theorem d_law_law_117 : decode code 117 = .ok (.iconst 2, 1) := by decide +kernel
theorem d_law_law_118 : decode code 118 = .ok (.iadd, 1) := by decide +kernel
theorem d_law_law_119 : decode code 119 = .ok (.iaload, 1) := by decide +kernel
theorem d_law_law_120 : decode code 120 = .ok (.invokevirtual 21, 3) := by decide +kernel
theorem d_law_law_123 : decode code 123 = .ok (.if_icmp .eq 144, 3) := by decide +kernel
theorem d_law_law_126 : decode code 126 = .ok (.iconst 0, 1) := by decide +kernel
theorem d_law_law_127 : decode code 127 = .ok (.ireturn, 1) := by decide +kernel
theorem d_law_law_128 : decode code 128 = .ok (.aload_n 1, 1) := by decide +kernel
theorem d_law_law_129 : decode code 129 = .ok (.aload_n 0, 1) := by decide +kernel
theorem d_law_law_130 : decode code 130 = .ok (.iload_n 3, 1) := by decide +kernel
theorem d_law_law_131 : decode code 131 = .ok (.iconst 1, 1) := by decide +kernel
theorem d_law_law_132 : decode code 132 = .ok (.iadd, 1) := by decide +kernel
theorem d_law_law_133 : decode code 133 = .ok (.iaload, 1) := by decide +kernel
theorem d_law_law_134 : decode code 134 = .ok (.invokevirtual 22, 3) := by decide +kernel
theorem d_law_law_137 : decode code 137 = .ok (.aload_n 2, 1) := by decide +kernel
theorem d_law_law_138 : decode code 138 = .ok (.aload_n 0, 1) := by decide +kernel
theorem d_law_law_139 : decode code 139 = .ok (.iload_n 3, 1) := by decide +kernel
theorem d_law_law_140 : decode code 140 = .ok (.iconst 1, 1) := by decide +kernel
theorem d_law_law_141 : decode code 141 = .ok (.iadd, 1) := by decide +kernel
theorem d_law_law_142 : decode code 142 = .ok (.iaload, 1) := by decide +kernel
theorem d_law_law_143 : decode code 143 = .ok (.invokevirtual 26, 3) := by decide +kernel
theorem d_law_law_146 : decode code 146 = .ok (.if_icmp .eq 121, 3) := by decide +kernel
theorem d_law_law_149 : decode code 149 = .ok (.iconst 0, 1) := by decide +kernel
theorem d_law_law_150 : decode code 150 = .ok (.ireturn, 1) := by decide +kernel
theorem d_law_law_151 : decode code 151 = .ok (.aload_n 1, 1) := by decide +kernel
theorem d_law_law_152 : decode code 152 = .ok (.aload_n 0, 1) := by decide +kernel
theorem d_law_law_153 : decode code 153 = .ok (.iload_n 3, 1) := by decide +kernel
theorem d_law_law_154 : decode code 154 = .ok (.iconst 1, 1) := by decide +kernel
theorem d_law_law_155 : decode code 155 = .ok (.iadd, 1) := by decide +kernel
theorem d_law_law_156 : decode code 156 = .ok (.iaload, 1) := by decide +kernel
theorem d_law_law_157 : decode code 157 = .ok (.invokevirtual 27, 3) := by decide +kernel
theorem d_law_law_160 : decode code 160 = .ok (.aload_n 2, 1) := by decide +kernel
theorem d_law_law_161 : decode code 161 = .ok (.aload_n 0, 1) := by decide +kernel
theorem d_law_law_162 : decode code 162 = .ok (.iload_n 3, 1) := by decide +kernel
theorem d_law_law_163 : decode code 163 = .ok (.iconst 1, 1) := by decide +kernel
theorem d_law_law_164 : decode code 164 = .ok (.iadd, 1) := by decide +kernel
theorem d_law_law_165 : decode code 165 = .ok (.iaload, 1) := by decide +kernel
theorem d_law_law_166 : decode code 166 = .ok (.invokevirtual 30, 3) := by decide +kernel
theorem d_law_law_169 : decode code 169 = .ok (.if_icmp .eq 98, 3) := by decide +kernel
theorem d_law_law_172 : decode code 172 = .ok (.iconst 0, 1) := by decide +kernel
theorem d_law_law_173 : decode code 173 = .ok (.ireturn, 1) := by decide +kernel
theorem d_law_law_174 : decode code 174 = .ok (.aload_n 1, 1) := by decide +kernel
theorem d_law_law_175 : decode code 175 = .ok (.invokevirtual 31, 3) := by decide +kernel
theorem d_law_law_178 : decode code 178 = .ok (.aload_n 2, 1) := by decide +kernel
theorem d_law_law_179 : decode code 179 = .ok (.invokevirtual 34, 3) := by decide +kernel
theorem d_law_law_182 : decode code 182 = .ok (.goto 85, 3) := by decide +kernel
theorem d_law_law_185 : decode code 185 = .ok (.aload_n 1, 1) := by decide +kernel
theorem d_law_law_186 : decode code 186 = .ok (.aload_n 0, 1) := by decide +kernel
theorem d_law_law_187 : decode code 187 = .ok (.iload_n 3, 1) := by decide +kernel
theorem d_law_law_188 : decode code 188 = .ok (.iconst 1, 1) := by decide +kernel
theorem d_law_law_189 : decode code 189 = .ok (.iadd, 1) := by decide +kernel
theorem d_law_law_190 : decode code 190 = .ok (.iaload, 1) := by decide +kernel
theorem d_law_law_191 : decode code 191 = .ok (.invokevirtual 35, 3) := by decide +kernel
theorem d_law_law_194 : decode code 194 = .ok (.aload_n 2, 1) := by decide +kernel
theorem d_law_law_195 : decode code 195 = .ok (.aload_n 0, 1) := by decide +kernel
theorem d_law_law_196 : decode code 196 = .ok (.iload_n 3, 1) := by decide +kernel
theorem d_law_law_197 : decode code 197 = .ok (.iconst 1, 1) := by decide +kernel
theorem d_law_law_198 : decode code 198 = .ok (.iadd, 1) := by decide +kernel
theorem d_law_law_199 : decode code 199 = .ok (.iaload, 1) := by decide +kernel
theorem d_law_law_200 : decode code 200 = .ok (.invokevirtual 38, 3) := by decide +kernel
theorem d_law_law_203 : decode code 203 = .ok (.if_icmp .eq 64, 3) := by decide +kernel
theorem d_law_law_206 : decode code 206 = .ok (.iconst 0, 1) := by decide +kernel
theorem d_law_law_207 : decode code 207 = .ok (.ireturn, 1) := by decide +kernel
theorem d_law_law_208 : decode code 208 = .ok (.aload_n 1, 1) := by decide +kernel
theorem d_law_law_209 : decode code 209 = .ok (.invokevirtual 39, 3) := by decide +kernel
theorem d_law_law_212 : decode code 212 = .ok (.aload_n 2, 1) := by decide +kernel
theorem d_law_law_213 : decode code 213 = .ok (.invokevirtual 43, 3) := by decide +kernel
theorem d_law_law_216 : decode code 216 = .ok (.if_icmp .eq 51, 3) := by decide +kernel
theorem d_law_law_219 : decode code 219 = .ok (.iconst 0, 1) := by decide +kernel
theorem d_law_law_220 : decode code 220 = .ok (.ireturn, 1) := by decide +kernel
theorem d_law_law_221 : decode code 221 = .ok (.aload_n 1, 1) := by decide +kernel
theorem d_law_law_222 : decode code 222 = .ok (.aload_n 0, 1) := by decide +kernel
theorem d_law_law_223 : decode code 223 = .ok (.iload_n 3, 1) := by decide +kernel
theorem d_law_law_224 : decode code 224 = .ok (.iconst 1, 1) := by decide +kernel
theorem d_law_law_225 : decode code 225 = .ok (.iadd, 1) := by decide +kernel
theorem d_law_law_226 : decode code 226 = .ok (.iaload, 1) := by decide +kernel
theorem d_law_law_227 : decode code 227 = .ok (.invokevirtual 44, 3) := by decide +kernel
theorem d_law_law_230 : decode code 230 = .ok (.aload_n 2, 1) := by decide +kernel
theorem d_law_law_231 : decode code 231 = .ok (.aload_n 0, 1) := by decide +kernel
theorem d_law_law_232 : decode code 232 = .ok (.iload_n 3, 1) := by decide +kernel
theorem d_law_law_233 : decode code 233 = .ok (.iconst 1, 1) := by decide +kernel
theorem d_law_law_234 : decode code 234 = .ok (.iadd, 1) := by decide +kernel
theorem d_law_law_235 : decode code 235 = .ok (.iaload, 1) := by decide +kernel
theorem d_law_law_236 : decode code 236 = .ok (.invokevirtual 47, 3) := by decide +kernel
theorem d_law_law_239 : decode code 239 = .ok (.if_icmp .eq 28, 3) := by decide +kernel
theorem d_law_law_242 : decode code 242 = .ok (.iconst 0, 1) := by decide +kernel
theorem d_law_law_243 : decode code 243 = .ok (.ireturn, 1) := by decide +kernel
theorem d_law_law_244 : decode code 244 = .ok (.aload_n 1, 1) := by decide +kernel
theorem d_law_law_245 : decode code 245 = .ok (.aload_n 0, 1) := by decide +kernel
theorem d_law_law_246 : decode code 246 = .ok (.iload_n 3, 1) := by decide +kernel
theorem d_law_law_247 : decode code 247 = .ok (.iconst 1, 1) := by decide +kernel
theorem d_law_law_248 : decode code 248 = .ok (.iadd, 1) := by decide +kernel
theorem d_law_law_249 : decode code 249 = .ok (.iaload, 1) := by decide +kernel
theorem d_law_law_250 : decode code 250 = .ok (.invokevirtual 48, 3) := by decide +kernel
theorem d_law_law_253 : decode code 253 = .ok (.aload_n 2, 1) := by decide +kernel
theorem d_law_law_254 : decode code 254 = .ok (.aload_n 0, 1) := by decide +kernel
theorem d_law_law_255 : decode code 255 = .ok (.iload_n 3, 1) := by decide +kernel
theorem d_law_law_256 : decode code 256 = .ok (.iconst 1, 1) := by decide +kernel
theorem d_law_law_257 : decode code 257 = .ok (.iadd, 1) := by decide +kernel
theorem d_law_law_258 : decode code 258 = .ok (.iaload, 1) := by decide +kernel
theorem d_law_law_259 : decode code 259 = .ok (.invokevirtual 52, 3) := by decide +kernel
theorem d_law_law_262 : decode code 262 = .ok (.if_icmp .eq 5, 3) := by decide +kernel
theorem d_law_law_265 : decode code 265 = .ok (.iconst 0, 1) := by decide +kernel
theorem d_law_law_266 : decode code 266 = .ok (.ireturn, 1) := by decide +kernel
theorem d_law_law_267 : decode code 267 = .ok (.iinc 3 3, 3) := by decide +kernel
theorem d_law_law_270 : decode code 270 = .ok (.goto (-252), 3) := by decide +kernel
theorem d_law_law_273 : decode code 273 = .ok (.iconst 1, 1) := by decide +kernel
theorem d_law_law_274 : decode code 274 = .ok (.ireturn, 1) := by decide +kernel
end
section
/-! numbers, bytes and truth values in arrays; rows over them; calls in one step; loops -/
def cN (L : Nat → Nat) : Nat → Int32 := fun k => nI (L k)
def cT (T : Nat → Int8) : Nat → Int32 := fun k => (T k).toInt32
noncomputable def zb (P : Prop) : Int32 := @ite Int32 P (Classical.propDecidable P) 1 0
noncomputable def cZ (P : Nat → Prop) : Nat → Int32 := fun k => zb (P k)
theorem zb_t {P : Prop} (h : P) : zb P = 1 := if_pos h
theorem zb_f {P : Prop} (h : ¬ P) : zb P = 0 := if_neg h
theorem zb_iff {P Q : Prop} (h : P ↔ Q) : zb P = zb Q := by rw [propext h]
theorem zb_0 {P : Prop} : zb P = 0 ↔ ¬ P := by
  by_cases h : P
  · rw [zb_t h]; exact ⟨fun q => absurd q (by decide), fun q => absurd h q⟩
  · rw [zb_f h]; exact ⟨fun _ => h, fun _ => rfl⟩
theorem zb_nar (P : Prop) : narrow .boolean (.int (zb P)) = .int (zb P) := by
  by_cases h : P
  · rw [zb_t h]; rfl
  · rw [zb_f h]; rfl
theorem zb_vp (P : Prop) : vp_nar .boolean (zb P) = zb P := by unfold vp_nar; rw [zb_nar]
theorem zb_or (P Q : Prop) : zb P ||| zb Q = zb (P ∨ Q) := by
  by_cases h : P <;> by_cases g : Q
  · rw [zb_t h, zb_t g, zb_t (Or.inl h)]; rfl
  · rw [zb_t h, zb_f g, zb_t (Or.inl h)]; rfl
  · rw [zb_f h, zb_t g, zb_t (Or.inr g)]; rfl
  · rw [zb_f h, zb_f g, zb_f (fun q => q.elim h g)]; rfl
theorem cN_up {L : Nat → Nat} {k v : Nat} (h : k < 2 ^ 31) : upd (cN L) (nI k).toNatClampNeg (nI v) = cN (va_up L k v) := by
  rw [nI_clamp h]; funext j; unfold upd cN va_up; by_cases q : j = k <;> simp [q]
theorem cT_up {T : Nat → Int8} {k : Nat} {v : Int8} (h : k < 2 ^ 31) : upd (cT T) (nI k).toNatClampNeg v.toInt32 = cT (va_up T k v) := by
  rw [nI_clamp h]; funext j; unfold upd cT va_up; by_cases q : j = k <;> simp [q]
theorem cZ_up {P : Nat → Prop} {k : Nat} {v : Prop} (h : k < 2 ^ 31) : upd (cZ P) (nI k).toNatClampNeg (zb v) = cZ (va_up P k v) := by
  rw [nI_clamp h]; funext j; unfold upd cZ va_up; by_cases q : j = k <;> simp [q]
theorem nI_or (a b : Nat) : nI a ||| nI b = nI (a ||| b) := by
  apply Int32.toBitVec_inj.mp
  show (BitVec.ofNat 32 a ||| BitVec.ofNat 32 b) = BitVec.ofNat 32 (a ||| b)
  exact (BitVec.ofNat_or ..).symm
theorem nI_and (a b : Nat) : nI a &&& nI b = nI (a &&& b) := by
  apply Int32.toBitVec_inj.mp
  show (BitVec.ofNat 32 a &&& BitVec.ofNat 32 b) = BitVec.ofNat 32 (a &&& b)
  exact (BitVec.ofNat_and ..).symm
/-- a byte as a number -/
def ub (x : Int8) : Nat := x.toBitVec.toNat
theorem ub_lt (x : Int8) : ub x < 256 := x.toBitVec.isLt
theorem ub_inj {x y : Int8} : ub x = ub y ↔ x = y := ⟨fun h => Int8.toBitVec_inj.mp (BitVec.eq_of_toNat_eq h), fun h => by rw [h]⟩
theorem ub_all : ∀ n, n < 256 → (Int8.ofNat n).toInt32 &&& 255 = nI n := by decide +kernel
theorem ub_of (x : Int8) : x = Int8.ofNat (ub x) := by
  apply Int8.toBitVec_inj.mp
  show x.toBitVec = BitVec.ofNat 8 x.toBitVec.toNat
  simp
theorem ub_and (x : Int8) : x.toInt32 &&& 255 = nI (ub x) := by
  conv => lhs; rw [ub_of x]
  exact ub_all _ (ub_lt x)
theorem i8_inj {x y : Int8} : x.toInt32 = y.toInt32 ↔ x = y := by
  refine ⟨fun h => ub_inj.mp ?_, fun h => by rw [h]⟩
  have h1 := ub_and x
  rw [h, ub_and y] at h1
  exact ((nI_eq (by have := ub_lt y; omega) (by have := ub_lt x; omega)).mp h1).symm
/-- a number that counts down: q - 1 -/
def dn (q : Nat) : Int32 := nI q - 1
theorem dn_s (j : Nat) : dn (j + 1) = nI j := nI_pred j
theorem dn_0 : dn 0 < 0 := by decide
theorem dn_i (j : Nat) : nI j + Int32.ofInt (-1) = dn j := by
  unfold dn
  rw [show Int32.ofInt (-1) = -1 from rfl, Int32.sub_eq_add_neg]
section YR
variable {p : Program} {l : Launch} {e : Env} {R : Room} {s : State} {m : MethodId} {args : Array Value} {below : List Frame} {meth : Method} {c : Code} {H : Heap} {locs : List Loc} {cells slots : Nat} {Q : State → Prop}
variable {cc : ByteArray} {pc : Nat} {ls : Array Slot} {rest : List Value} {D : va_G} {cl : List vw_C} {A : Nat → Prop} {a : Nat} {tys : List (ClassId × FieldType)} {ws : va_W} {H0 : Heap}
theorem y_to {x y : Int32} (h : x = y) (k : W p l e R s m args below meth c H locs cells slots Q (F0 m pc ls (.int y :: rest))) : W p l e R s m args below meth c H locs cells slots Q (F0 m pc ls (.int x :: rest)) := h ▸ k
theorem y_iadd {x y : Nat} (hexec : p.tables.exec = Jvm.exec) (hb : c.code = cc) (hdg : decode cc pc = .ok (.iadd, 1)) (k : W p l e R s m args below meth c H locs cells slots Q (F0 m (pc + 1) ls (.int (nI (x + y)) :: rest))) : W p l e R s m args below meth c H locs cells slots Q (F0 m pc ls (.int (nI y) :: .int (nI x) :: rest)) := lv_iadd hexec hb hdg (by rw [nI_add]; exact k)
theorem y_isub {x y : Nat} (hexec : p.tables.exec = Jvm.exec) (hb : c.code = cc) (h : y ≤ x) (hdg : decode cc pc = .ok (.isub, 1)) (k : W p l e R s m args below meth c H locs cells slots Q (F0 m (pc + 1) ls (.int (nI (x - y)) :: rest))) : W p l e R s m args below meth c H locs cells slots Q (F0 m pc ls (.int (nI y) :: .int (nI x) :: rest)) := lv_isub hexec hb hdg (by rw [pk_sub h]; exact k)
theorem y_imul {x y : Nat} (hexec : p.tables.exec = Jvm.exec) (hb : c.code = cc) (hdg : decode cc pc = .ok (.imul, 1)) (k : W p l e R s m args below meth c H locs cells slots Q (F0 m (pc + 1) ls (.int (nI (x * y)) :: rest))) : W p l e R s m args below meth c H locs cells slots Q (F0 m pc ls (.int (nI y) :: .int (nI x) :: rest)) := lv_imul hexec hb hdg (by rw [pk_mul]; exact k)
theorem y_iand {x y : Nat} (hexec : p.tables.exec = Jvm.exec) (hb : c.code = cc) (hdg : decode cc pc = .ok (.iand, 1)) (k : W p l e R s m args below meth c H locs cells slots Q (F0 m (pc + 1) ls (.int (nI (x &&& y)) :: rest))) : W p l e R s m args below meth c H locs cells slots Q (F0 m pc ls (.int (nI y) :: .int (nI x) :: rest)) := lv_iand hexec hb hdg (by rw [nI_and]; exact k)
theorem y_iandB {x : Int8} (hexec : p.tables.exec = Jvm.exec) (hb : c.code = cc) (hdg : decode cc pc = .ok (.iand, 1)) (k : W p l e R s m args below meth c H locs cells slots Q (F0 m (pc + 1) ls (.int (nI (ub x)) :: rest))) : W p l e R s m args below meth c H locs cells slots Q (F0 m pc ls (.int (nI 255) :: .int x.toInt32 :: rest)) := lv_iand hexec hb hdg (by rw [show nI 255 = 255 from rfl, ub_and]; exact k)
theorem y_ior {x y : Nat} (hexec : p.tables.exec = Jvm.exec) (hb : c.code = cc) (hdg : decode cc pc = .ok (.ior, 1)) (k : W p l e R s m args below meth c H locs cells slots Q (F0 m (pc + 1) ls (.int (nI (x ||| y)) :: rest))) : W p l e R s m args below meth c H locs cells slots Q (F0 m pc ls (.int (nI y) :: .int (nI x) :: rest)) := lv_ior hexec hb hdg (by rw [nI_or]; exact k)
theorem y_iorZ {x y : Prop} (hexec : p.tables.exec = Jvm.exec) (hb : c.code = cc) (hdg : decode cc pc = .ok (.ior, 1)) (k : W p l e R s m args below meth c H locs cells slots Q (F0 m (pc + 1) ls (.int (zb (x ∨ y)) :: rest))) : W p l e R s m args below meth c H locs cells slots Q (F0 m pc ls (.int (zb y) :: .int (zb x) :: rest)) := lv_ior hexec hb hdg (by rw [zb_or]; exact k)
-- arrays
theorem y_iald (hexec : p.tables.exec = Jvm.exec) (hb : c.code = cc) (hK : va_K D cl tys s) (hP : va_P D cl ws H) (q0 t0 : Nat) {cA : ClassId} {n : Nat} {f : Nat → Nat} (ha : ws[q0]? = some (a, .inl (cA, n, .inl (cN f)))) (ht : tys[t0]? = some (cA, .int)) {i : Nat} (hi : i < n) (hn : n < 2 ^ 31) (hdg : decode cc pc = .ok (.iaload, 1))
    (kk : W p l e R s m args below meth c H locs cells slots Q (F0 m (pc + 1) ls (.int (nI (f i)) :: rest))) : W p l e R s m args below meth c H locs cells slots Q (F0 m pc ls (.int (nI i) :: .ref a :: rest)) :=
  va_iald hexec hb hK hP q0 t0 ha ht (vp_in_nI hi hn) hdg (by rw [nI_clamp (Nat.lt_trans hi hn)]; exact kk)
theorem y_bald (hexec : p.tables.exec = Jvm.exec) (hb : c.code = cc) (hK : va_K D cl tys s) (hP : va_P D cl ws H) (q0 t0 : Nat) {cA : ClassId} {n : Nat} {f : Nat → Int8} (ha : ws[q0]? = some (a, .inl (cA, n, .inl (cT f)))) (ht : tys[t0]? = some (cA, .byte)) {i : Nat} (hi : i < n) (hn : n < 2 ^ 31) (hdg : decode cc pc = .ok (.baload, 1))
    (kk : W p l e R s m args below meth c H locs cells slots Q (F0 m (pc + 1) ls (.int (f i).toInt32 :: rest))) : W p l e R s m args below meth c H locs cells slots Q (F0 m pc ls (.int (nI i) :: .ref a :: rest)) :=
  va_bald hexec hb hK hP q0 t0 ha ht (vp_in_nI hi hn) hdg (by rw [nI_clamp (Nat.lt_trans hi hn)]; exact kk)
theorem y_zald (hexec : p.tables.exec = Jvm.exec) (hb : c.code = cc) (hK : va_K D cl tys s) (hP : va_P D cl ws H) (q0 t0 : Nat) {cA : ClassId} {n : Nat} {f : Nat → Prop} (ha : ws[q0]? = some (a, .inl (cA, n, .inl (cZ f)))) (ht : tys[t0]? = some (cA, .boolean)) {i : Nat} (hi : i < n) (hn : n < 2 ^ 31) (hdg : decode cc pc = .ok (.baload, 1))
    (kk : W p l e R s m args below meth c H locs cells slots Q (F0 m (pc + 1) ls (.int (zb (f i)) :: rest))) : W p l e R s m args below meth c H locs cells slots Q (F0 m pc ls (.int (nI i) :: .ref a :: rest)) :=
  va_zald hexec hb hK hP q0 t0 ha ht (vp_in_nI hi hn) hdg (by rw [nI_clamp (Nat.lt_trans hi hn)]; exact kk)
theorem y_iast (hexec : p.tables.exec = Jvm.exec) (hb : c.code = cc) (hK : va_K D cl tys s) (hP : va_P D cl ws H) (hD : va_D A ws) (hS : va_S A H0 H locs) (q0 t0 : Nat) {cA : ClassId} {n : Nat} {f : Nat → Nat} (ha : ws[q0]? = some (a, .inl (cA, n, .inl (cN f)))) (ht : tys[t0]? = some (cA, .int)) {i x : Nat} (hi : i < n) (hn : n < 2 ^ 31) (hdg : decode cc pc = .ok (.iastore, 1))
    (kk : ∀ (H1 : Heap) (locs1 : List Loc), va_P D cl (ws.set q0 (a, .inl (cA, n, .inl (cN (va_up f i x))))) H1 → va_D A (ws.set q0 (a, .inl (cA, n, .inl (cN (va_up f i x))))) → va_S A H0 H1 locs1 → W p l e R s m args below meth c H1 locs1 cells slots Q (F0 m (pc + 1) ls rest)) : W p l e R s m args below meth c H locs cells slots Q (F0 m pc ls (.int (nI x) :: .int (nI i) :: .ref a :: rest)) :=
  va_iast hexec hb hK hP hD hS q0 t0 ha ht (vp_in_nI hi hn) hdg (by rw [cN_up (Nat.lt_trans hi hn)]; exact kk)
theorem y_bast (hexec : p.tables.exec = Jvm.exec) (hb : c.code = cc) (hK : va_K D cl tys s) (hP : va_P D cl ws H) (hD : va_D A ws) (hS : va_S A H0 H locs) (q0 t0 : Nat) {cA : ClassId} {n : Nat} {f : Nat → Int8} (ha : ws[q0]? = some (a, .inl (cA, n, .inl (cT f)))) (ht : tys[t0]? = some (cA, .byte)) {i : Nat} {x : Int32} (hi : i < n) (hn : n < 2 ^ 31) (hdg : decode cc pc = .ok (.bastore, 1))
    (kk : ∀ (H1 : Heap) (locs1 : List Loc), va_P D cl (ws.set q0 (a, .inl (cA, n, .inl (cT (va_up f i x.toInt8))))) H1 → va_D A (ws.set q0 (a, .inl (cA, n, .inl (cT (va_up f i x.toInt8))))) → va_S A H0 H1 locs1 → W p l e R s m args below meth c H1 locs1 cells slots Q (F0 m (pc + 1) ls rest)) : W p l e R s m args below meth c H locs cells slots Q (F0 m pc ls (.int x.toInt8.toInt32 :: .int (nI i) :: .ref a :: rest)) :=
  va_bast hexec hb hK hP hD hS q0 t0 ha ht (vp_in_nI hi hn) hdg (by rw [pk_vb, cT_up (Nat.lt_trans hi hn)]; exact kk)
theorem y_zast (hexec : p.tables.exec = Jvm.exec) (hb : c.code = cc) (hK : va_K D cl tys s) (hP : va_P D cl ws H) (hD : va_D A ws) (hS : va_S A H0 H locs) (q0 t0 : Nat) {cA : ClassId} {n : Nat} {f : Nat → Prop} (ha : ws[q0]? = some (a, .inl (cA, n, .inl (cZ f)))) (ht : tys[t0]? = some (cA, .boolean)) {i : Nat} {x : Prop} (hi : i < n) (hn : n < 2 ^ 31) (hdg : decode cc pc = .ok (.bastore, 1))
    (kk : ∀ (H1 : Heap) (locs1 : List Loc), va_P D cl (ws.set q0 (a, .inl (cA, n, .inl (cZ (va_up f i x))))) H1 → va_D A (ws.set q0 (a, .inl (cA, n, .inl (cZ (va_up f i x))))) → va_S A H0 H1 locs1 → W p l e R s m args below meth c H1 locs1 cells slots Q (F0 m (pc + 1) ls rest)) : W p l e R s m args below meth c H locs cells slots Q (F0 m pc ls (.int (zb x) :: .int (nI i) :: .ref a :: rest)) :=
  va_zast hexec hb hK hP hD hS q0 t0 ha ht (vp_in_nI hi hn) hdg (by rw [zb_vp, cZ_up (Nat.lt_trans hi hn)]; exact kk)
-- branches over natural numbers and truth values
theorem y_icmp_ge {x y : Nat} (hexec : p.tables.exec = Jvm.exec) (hb : c.code = cc) (h1 : x < 2 ^ 31) (h2 : y < 2 ^ 31) {off : Int} {tgt : Nat} (hdg : decode cc pc = .ok (.if_icmp .ge off, 3)) (ht : (pc : Int) + off = (tgt : Int)) (kt : y ≤ x → W p l e R s m args below meth c H locs cells slots Q (F0 m tgt ls rest)) (kf : x < y → W p l e R s m args below meth c H locs cells slots Q (F0 m (pc + 3) ls rest)) : W p l e R s m args below meth c H locs cells slots Q (F0 m pc ls (.int (nI y) :: .int (nI x) :: rest)) :=
  lv_icmp_ge hexec hb hdg ht (fun h => kt ((nI_leI h2 h1).mp h)) (fun h => kf (Nat.not_le.mp fun q => h ((nI_leI h2 h1).mpr q)))
theorem y_icmp_gt {x y : Nat} (hexec : p.tables.exec = Jvm.exec) (hb : c.code = cc) (h1 : x < 2 ^ 31) (h2 : y < 2 ^ 31) {off : Int} {tgt : Nat} (hdg : decode cc pc = .ok (.if_icmp .gt off, 3)) (ht : (pc : Int) + off = (tgt : Int)) (kt : y < x → W p l e R s m args below meth c H locs cells slots Q (F0 m tgt ls rest)) (kf : x ≤ y → W p l e R s m args below meth c H locs cells slots Q (F0 m (pc + 3) ls rest)) : W p l e R s m args below meth c H locs cells slots Q (F0 m pc ls (.int (nI y) :: .int (nI x) :: rest)) :=
  lv_icmp_gt hexec hb hdg ht (fun h => kt ((nI_ltI h2 h1).mp h)) (fun h => kf (Nat.not_lt.mp fun q => h ((nI_ltI h2 h1).mpr q)))
theorem y_icmp_le {x y : Nat} (hexec : p.tables.exec = Jvm.exec) (hb : c.code = cc) (h1 : x < 2 ^ 31) (h2 : y < 2 ^ 31) {off : Int} {tgt : Nat} (hdg : decode cc pc = .ok (.if_icmp .le off, 3)) (ht : (pc : Int) + off = (tgt : Int)) (kt : x ≤ y → W p l e R s m args below meth c H locs cells slots Q (F0 m tgt ls rest)) (kf : y < x → W p l e R s m args below meth c H locs cells slots Q (F0 m (pc + 3) ls rest)) : W p l e R s m args below meth c H locs cells slots Q (F0 m pc ls (.int (nI y) :: .int (nI x) :: rest)) :=
  lv_icmp_le hexec hb hdg ht (fun h => kt ((nI_leI h1 h2).mp h)) (fun h => kf (Nat.not_le.mp fun q => h ((nI_leI h1 h2).mpr q)))
theorem y_icmp_lt {x y : Nat} (hexec : p.tables.exec = Jvm.exec) (hb : c.code = cc) (h1 : x < 2 ^ 31) (h2 : y < 2 ^ 31) {off : Int} {tgt : Nat} (hdg : decode cc pc = .ok (.if_icmp .lt off, 3)) (ht : (pc : Int) + off = (tgt : Int)) (kt : x < y → W p l e R s m args below meth c H locs cells slots Q (F0 m tgt ls rest)) (kf : y ≤ x → W p l e R s m args below meth c H locs cells slots Q (F0 m (pc + 3) ls rest)) : W p l e R s m args below meth c H locs cells slots Q (F0 m pc ls (.int (nI y) :: .int (nI x) :: rest)) :=
  lv_icmp_lt hexec hb hdg ht (fun h => kt ((nI_ltI h1 h2).mp h)) (fun h => kf (Nat.not_lt.mp fun q => h ((nI_ltI h1 h2).mpr q)))
theorem y_icmp_eq {x y : Nat} (hexec : p.tables.exec = Jvm.exec) (hb : c.code = cc) (h1 : x < 2 ^ 31) (h2 : y < 2 ^ 31) {off : Int} {tgt : Nat} (hdg : decode cc pc = .ok (.if_icmp .eq off, 3)) (ht : (pc : Int) + off = (tgt : Int)) (kt : x = y → W p l e R s m args below meth c H locs cells slots Q (F0 m tgt ls rest)) (kf : x ≠ y → W p l e R s m args below meth c H locs cells slots Q (F0 m (pc + 3) ls rest)) : W p l e R s m args below meth c H locs cells slots Q (F0 m pc ls (.int (nI y) :: .int (nI x) :: rest)) :=
  lv_icmp_eq hexec hb hdg ht (fun h => kt ((nI_eq h1 h2).mp h)) (fun h => kf fun q => h ((nI_eq h1 h2).mpr q))
theorem y_icmp_ne {x y : Nat} (hexec : p.tables.exec = Jvm.exec) (hb : c.code = cc) (h1 : x < 2 ^ 31) (h2 : y < 2 ^ 31) {off : Int} {tgt : Nat} (hdg : decode cc pc = .ok (.if_icmp .ne off, 3)) (ht : (pc : Int) + off = (tgt : Int)) (kt : x ≠ y → W p l e R s m args below meth c H locs cells slots Q (F0 m tgt ls rest)) (kf : x = y → W p l e R s m args below meth c H locs cells slots Q (F0 m (pc + 3) ls rest)) : W p l e R s m args below meth c H locs cells slots Q (F0 m pc ls (.int (nI y) :: .int (nI x) :: rest)) :=
  lv_icmp_ne hexec hb hdg ht (fun h => kt fun q => h ((nI_eq h1 h2).mpr q)) (fun h => kf ((nI_eq h1 h2).mp h))
theorem y_if_eq {x : Nat} (hexec : p.tables.exec = Jvm.exec) (hb : c.code = cc) (h1 : x < 2 ^ 31) {off : Int} {tgt : Nat} (hdg : decode cc pc = .ok (.ifCond .eq off, 3)) (ht : (pc : Int) + off = (tgt : Int)) (kt : x = 0 → W p l e R s m args below meth c H locs cells slots Q (F0 m tgt ls rest)) (kf : x ≠ 0 → W p l e R s m args below meth c H locs cells slots Q (F0 m (pc + 3) ls rest)) : W p l e R s m args below meth c H locs cells slots Q (F0 m pc ls (.int (nI x) :: rest)) :=
  lv_if_eq hexec hb hdg ht (fun h => kt ((nI_eq h1 (by decide)).mp h)) (fun h => kf fun q => h ((nI_eq h1 (by decide)).mpr q))
theorem y_if_ne {x : Nat} (hexec : p.tables.exec = Jvm.exec) (hb : c.code = cc) (h1 : x < 2 ^ 31) {off : Int} {tgt : Nat} (hdg : decode cc pc = .ok (.ifCond .ne off, 3)) (ht : (pc : Int) + off = (tgt : Int)) (kt : x ≠ 0 → W p l e R s m args below meth c H locs cells slots Q (F0 m tgt ls rest)) (kf : x = 0 → W p l e R s m args below meth c H locs cells slots Q (F0 m (pc + 3) ls rest)) : W p l e R s m args below meth c H locs cells slots Q (F0 m pc ls (.int (nI x) :: rest)) :=
  lv_if_ne hexec hb hdg ht (fun h => kt fun q => h ((nI_eq h1 (by decide)).mpr q)) (fun h => kf ((nI_eq h1 (by decide)).mp h))
theorem y_if_gt {x : Nat} (hexec : p.tables.exec = Jvm.exec) (hb : c.code = cc) (h1 : x < 2 ^ 31) {off : Int} {tgt : Nat} (hdg : decode cc pc = .ok (.ifCond .gt off, 3)) (ht : (pc : Int) + off = (tgt : Int)) (kt : 0 < x → W p l e R s m args below meth c H locs cells slots Q (F0 m tgt ls rest)) (kf : x = 0 → W p l e R s m args below meth c H locs cells slots Q (F0 m (pc + 3) ls rest)) : W p l e R s m args below meth c H locs cells slots Q (F0 m pc ls (.int (nI x) :: rest)) :=
  lv_if_gt hexec hb hdg ht (fun h => kt ((nI_ltI (by decide) h1).mp h)) (fun h => kf (Nat.eq_zero_of_not_pos fun q => h ((nI_ltI (a := 0) (by decide) h1).mpr q)))
theorem y_if_le {x : Nat} (hexec : p.tables.exec = Jvm.exec) (hb : c.code = cc) (h1 : x < 2 ^ 31) {off : Int} {tgt : Nat} (hdg : decode cc pc = .ok (.ifCond .le off, 3)) (ht : (pc : Int) + off = (tgt : Int)) (kt : x = 0 → W p l e R s m args below meth c H locs cells slots Q (F0 m tgt ls rest)) (kf : 0 < x → W p l e R s m args below meth c H locs cells slots Q (F0 m (pc + 3) ls rest)) : W p l e R s m args below meth c H locs cells slots Q (F0 m pc ls (.int (nI x) :: rest)) :=
  lv_if_le hexec hb hdg ht (fun h => kt (Nat.le_zero.mp ((nI_leI h1 (by decide)).mp h))) (fun h => kf (Nat.pos_of_ne_zero fun q => h (by rw [q]; decide)))
theorem y_if_lt {x : Nat} (hexec : p.tables.exec = Jvm.exec) (hb : c.code = cc) (h1 : x < 2 ^ 31) {off : Int} {tgt : Nat} (hdg : decode cc pc = .ok (.ifCond .lt off, 3)) (ht : (pc : Int) + off = (tgt : Int)) (kf : W p l e R s m args below meth c H locs cells slots Q (F0 m (pc + 3) ls rest)) : W p l e R s m args below meth c H locs cells slots Q (F0 m pc ls (.int (nI x) :: rest)) :=
  lv_if_lt hexec hb hdg ht (fun h => absurd h (nI_pos h1)) (fun _ => kf)
/-- a count down: at 0 it's over -/
theorem y_dn {q : Nat} (hexec : p.tables.exec = Jvm.exec) (hb : c.code = cc) (h1 : q < 2 ^ 31) {off : Int} {tgt : Nat} (hdg : decode cc pc = .ok (.ifCond .lt off, 3)) (ht : (pc : Int) + off = (tgt : Int)) (kt : q = 0 → W p l e R s m args below meth c H locs cells slots Q (F0 m tgt ls rest)) (kf : ∀ j, q = j + 1 → W p l e R s m args below meth c H locs cells slots Q (F0 m (pc + 3) ls rest)) : W p l e R s m args below meth c H locs cells slots Q (F0 m pc ls (.int (dn q) :: rest)) := by
  cases q with
  | zero => exact lv_if_lt hexec hb hdg ht (fun _ => kt rfl) (fun h => absurd dn_0 h)
  | succ j => exact lv_if_lt hexec hb hdg ht (fun h => absurd h (by rw [dn_s]; exact nI_pos (by omega))) (fun _ => kf j rfl)
theorem y_ifeq {P : Prop} (hexec : p.tables.exec = Jvm.exec) (hb : c.code = cc) {off : Int} {tgt : Nat} (hdg : decode cc pc = .ok (.ifCond .eq off, 3)) (ht : (pc : Int) + off = (tgt : Int)) (kt : ¬ P → W p l e R s m args below meth c H locs cells slots Q (F0 m tgt ls rest)) (kf : P → W p l e R s m args below meth c H locs cells slots Q (F0 m (pc + 3) ls rest)) : W p l e R s m args below meth c H locs cells slots Q (F0 m pc ls (.int (zb P) :: rest)) :=
  lv_if_eq hexec hb hdg ht (fun h => kt (zb_0.mp h)) (fun h => kf (Classical.byContradiction fun q => h (zb_0.mpr q)))
theorem y_ifne {P : Prop} (hexec : p.tables.exec = Jvm.exec) (hb : c.code = cc) {off : Int} {tgt : Nat} (hdg : decode cc pc = .ok (.ifCond .ne off, 3)) (ht : (pc : Int) + off = (tgt : Int)) (kt : P → W p l e R s m args below meth c H locs cells slots Q (F0 m tgt ls rest)) (kf : ¬ P → W p l e R s m args below meth c H locs cells slots Q (F0 m (pc + 3) ls rest)) : W p l e R s m args below meth c H locs cells slots Q (F0 m pc ls (.int (zb P) :: rest)) :=
  lv_if_ne hexec hb hdg ht (fun h => kt (Classical.byContradiction fun q => h (zb_0.mpr q))) (fun h => kf (zb_0.mp h))
/-- what comes behind both ways, once -/
theorem y_join {pcj : Nat} {stj st : List Value} (k : W p l e R s m args below meth c H locs cells slots Q (F0 m pcj ls stj)) (k2 : W p l e R s m args below meth c H locs cells slots Q (F0 m pcj ls stj) → W p l e R s m args below meth c H locs cells slots Q (F0 m pc ls st)) : W p l e R s m args below meth c H locs cells slots Q (F0 m pc ls st) := k2 k
theorem y_loop {pc : Nat} (I : Nat → Heap → List Loc → Array Slot → Prop) (n : Nat) {H : Heap} {locs : List Loc} {ls : Array Slot} (h0 : I n H locs ls)
    (step : ∀ (n : Nat) (H : Heap) (locs : List Loc) (ls : Array Slot), I n H locs ls → (∀ (n' : Nat) (H' : Heap) (locs' : List Loc) (ls' : Array Slot), n' < n → I n' H' locs' ls' → W p l e R s m args below meth c H' locs' cells slots Q (F0 m pc ls' [])) → W p l e R s m args below meth c H locs cells slots Q (F0 m pc ls [])) : W p l e R s m args below meth c H locs cells slots Q (F0 m pc ls []) := by
  induction n using Nat.strongRecOn generalizing H locs ls with
  | ind n ih => exact step n H locs ls h0 (fun n' H' locs' ls' hn hI => ih n' hn hI)
end YR
abbrev tyl (cI cB cZ : ClassId) : List (ClassId × FieldType) := [(cI, .int), (cB, .byte), (cZ, .boolean)]
/-- a contract's start: its world, and what is known of the tables -/
def Bp (D : va_G) (cI cB cZ : ClassId) (w : va_W) (sz : Nat) (U : State) : Prop := U.heap.size = sz ∧ va_P D classes w U.heap ∧ va_K D classes (tyl cI cB cZ) U ∧ va_D (fun _ => True) w ∧ Nst U
/-- a contract's end: the world behind it -/
def Bq (D : va_G) (cI cB cZ : ClassId) (A : Nat → Prop) (w : va_W) (t : State) : Prop := va_P D classes w t.heap ∧ va_K D classes (tyl cI cB cZ) t ∧ va_D A w
theorem Bp.blind {D : va_G} {cI cB cZ : ClassId} {w : va_W} {sz : Nat} {av : List Value} : FrameBlind (va_Pc av (Bp D cI cB cZ w sz)) := by
  intro a U g mk q
  obtain ⟨q0, q1, qP, qK, qD, qN⟩ := q
  exact ⟨q0, q1, qP, va_K.moved (u := U) (U := U.calling g mk a) (Vm.Alike.refl U.vm) qK, qD, Nst.same rfl qN⟩
/-- the words of a call, by the tables -/
abbrev VW (own : String) (idx : Nat) (y : MethodName) (bytes : ByteArray) (maxL : Nat) (ret : Option FieldType) (n : Nat) : Prop := Cond.code y bytes maxL ret ∈ tw_ ∧ Cond.initialized y.cls ∈ tw_ ∧ Cond.methodLink own idx y ∈ tw_ ∧ (y.cls ≠ "java/lang/invoke/MethodHandle" ∧ y.cls ≠ "java/lang/invoke/VarHandle" ∧ (parseMethodDescriptor y.desc).map (fun d => d.parameters.length) = some n)
theorem tw_goodIn {w0 : Cond} (h : w0 ∈ tw_) : GoodIn tw_ (w0 :: tw_) := by
  intro w hw
  rcases List.mem_cons.mp hw with rfl | hw
  · exact ⟨h, tw_good _ h⟩
  · exact ⟨hw, tw_good _ hw⟩
theorem VW.cb {R : Room} {s : State} {args : Array Value} {own : String} {idx : Nat} {y : MethodName} {bytes : ByteArray} {maxL : Nat} {ret : Option FieldType} {n : Nat} {rm : Room} (v : VW own idx y bytes maxL ret n) (hT : ∀ w ∈ tw_, w.before args s = true) (hR : rm.frames + 1 ≤ R.frames ∧ 8 + (maxL + 11) + rm.locals ≤ R.locals) : CallB R s args own idx y bytes maxL ret (.code y bytes maxL ret :: tw_) rm rm.cells rm.slots n :=
  callB_of n hT (tw_goodIn v.1) rfl rfl rfl (hT _ v.2.1) (hT _ v.2.2.1) v.2.2.2 hR
section YC
variable {p : Program} {l : Launch} {e : Env} {R : Room} {s : State} {m : MethodId} {args : Array Value} {below : List Frame} {meth : Method} {c : Code} {H : Heap} {locs : List Loc} {cells slots : Nat} {Q : State → Prop}
variable {cc : ByteArray} {pc : Nat} {ls : Array Slot} {rest st0 : List Value} {D : va_G} {cI cB cZ : ClassId} {A0 : Nat → Prop} {ws w0 wr : va_W}
variable {y : MethodName} {bytes : ByteArray} {maxL nL n idx : Nat} {ret : Option FieldType} {rm : Room} {Qc : Array Value → State → Outcome → State → Prop} {free : Addr → Prop} {own : String} {b : Nat} {As : List Value}
theorem Bp.pre (hK : va_K D classes (tyl cI cB cZ) s) (hN : Nst s) (hP : va_P D classes ws H) (hD : va_D A0 ws) (isC : List Nat) (hC : isC.map (fun i => ws[i]?) = w0.map some) (hn : va_nd isC = true) (U : State) (hU : U.heap = H) (hW : s.WarmedH U.vm) : Bp D cI cB cZ w0 H.size U := by
  have hC2 : isC.filterMap (fun i => ws[i]?) = w0 := by
    have h1 : (isC.map (fun i => ws[i]?)).filterMap id = (w0.map some).filterMap id := by rw [hC]
    simpa [List.filterMap_map] using h1
  refine ⟨by rw [hU], by rw [hU]; exact hP.sub isC hC2, va_K.moved hW.alike hK, (hD.sub isC hn hC).weaken (fun _ _ _ _ => trivial), Nst.warm hW hN⟩
/-- invokevirtual -/
theorem y_runV {C : String} {ci q0 : Nat} {T : u_T} {N : Nat} {fs : List Value} (hx : p.tables.exec = Jvm.exec) (hb : c.code = cc) (hml : c.maxLocals = nL) (hown : s.vm.findClass own = some m.cls) (hT : ∀ w ∈ tw_, w.before args s = true) (hN : Nst s) (hK : va_K D classes (tyl cI cB cZ) s) (hP : va_P D classes ws H) (hD : va_D A0 ws)
    (hM : Met l y (.code y bytes maxL ret :: tw_) rm (va_Pc (.ref b :: As) (Bp D cI cB cZ w0 H.size)) Qc rm.cells rm.slots free) (v : VW own idx y bytes maxL ret n) (v2 : Cond.instanceMethod y ∈ tw_ ∧ Cond.selects C y y ∈ tw_) (isC : List Nat) (hC : isC.map (fun i => ws[i]?) = w0.map some) (hnC : va_nd isC = true)
    (hrc : ws[q0]? = some (b, .inr (ci, fs))) (hcl : classes[ci]? = some (C, T, N)) (hR : rm.frames + 1 ≤ R.frames ∧ 8 + (maxL + 11) + rm.locals ≤ R.locals) (hlen : As.length = n) (hsize : ls.size = nL) (hst : st0 = As.reverse ++ .ref b :: rest) (hW : (rest.map fun v => v.category).sum ≤ 8) (hdg : decode cc pc = .ok (.invokevirtual idx, 3)) (hf : cells + rm.cells ≤ R.cells ∧ slots + rm.slots ≤ R.slots) :
    va_Run p l e R s m args below meth c H locs cells slots rm.cells rm.slots (F0 m pc ls st0) rest (Qc (Value.ref b :: As).toArray) free := by
  refine va_runV (C := C) (b := b) ⟨hx, hb, hml, hown, hT⟩ hM ⟨v.cb hT hR, hT _ v2.1, hT _ v2.2⟩ ⟨Bp.blind, va_recv hK hP hcl hrc, fun U hU hW => ⟨rfl, Bp.pre hK hN hP hD isC hC hnC U hU hW⟩⟩ rfl hlen hsize hst ?_ hdg hf
  simpa [Jvm.JFrame.monitorRoom] using hW
/-- invokestatic -/
theorem y_runS (hx : p.tables.exec = Jvm.exec) (hb : c.code = cc) (hml : c.maxLocals = nL) (hown : s.vm.findClass own = some m.cls) (hT : ∀ w ∈ tw_, w.before args s = true) (hN : Nst s) (hK : va_K D classes (tyl cI cB cZ) s) (hP : va_P D classes ws H) (hD : va_D A0 ws)
    (hM : Met l y (.code y bytes maxL ret :: tw_) rm (va_Pc As (Bp D cI cB cZ w0 H.size)) Qc rm.cells rm.slots free) (v : VW own idx y bytes maxL ret n) (v2 : Cond.static y ∈ tw_) (isC : List Nat) (hC : isC.map (fun i => ws[i]?) = w0.map some) (hnC : va_nd isC = true)
    (hR : rm.frames + 1 ≤ R.frames ∧ 8 + (maxL + 11) + rm.locals ≤ R.locals) (hlen : As.length = n) (hsize : ls.size = nL) (hst : st0 = As.reverse ++ rest) (hW : (rest.map fun v => v.category).sum ≤ 8) (hdg : decode cc pc = .ok (.invokestatic idx, 3)) (hf : cells + rm.cells ≤ R.cells ∧ slots + rm.slots ≤ R.slots) :
    va_Run p l e R s m args below meth c H locs cells slots rm.cells rm.slots (F0 m pc ls st0) rest (Qc As.toArray) free := by
  refine va_runS ⟨hx, hb, hml, hown, hT⟩ hM ⟨v.cb hT hR, hT _ v2⟩ ⟨Bp.blind, fun U hU hW => ⟨rfl, Bp.pre hK hN hP hD isC hC hnC U hU hW⟩⟩ rfl hlen hsize hst ?_ hdg hf
  simpa [Jvm.JFrame.monitorRoom] using hW
/-- a constructor -/
theorem y_runI {bytes : ByteArray} (hx : p.tables.exec = Jvm.exec) (hb : c.code = cc) (hml : c.maxLocals = nL) (hown : s.vm.findClass own = some m.cls) (hT : ∀ w ∈ tw_, w.before args s = true) (hN : Nst s) (hK : va_K D classes (tyl cI cB cZ) s) (hP : va_P D classes ws H) (hD : va_D A0 ws)
    (hM : Met l y (.code y bytes maxL none :: tw_) rm (va_Pc (.ref b :: As) (Bp D cI cB cZ w0 H.size)) Qc rm.cells rm.slots free) (v : VW own idx y bytes maxL none n) (v2 : y.name = "<init>" ∧ Cond.instanceMethod y ∈ tw_) (isC : List Nat) (hC : isC.map (fun i => ws[i]?) = w0.map some) (hnC : va_nd isC = true)
    (hR : rm.frames + 1 ≤ R.frames ∧ 8 + (maxL + 11) + rm.locals ≤ R.locals) (hlen : As.length = n) (hsize : ls.size = nL) (hst : st0 = As.reverse ++ .ref b :: rest) (hW : (rest.map fun v => v.category).sum ≤ 8) (hdg : decode cc pc = .ok (.invokespecial idx, 3)) (hf : cells + rm.cells ≤ R.cells ∧ slots + rm.slots ≤ R.slots) :
    va_Run p l e R s m args below meth c H locs cells slots rm.cells rm.slots (F0 m pc ls st0) rest (Qc (Value.ref b :: As).toArray) free := by
  refine va_runI (b := b) ⟨hx, hb, hml, hown, hT⟩ hM ⟨v.cb hT hR, v2.1, hT _ v2.2⟩ ⟨Bp.blind, fun U hU hW => ⟨rfl, Bp.pre hK hN hP hD isC hC hnC U hU hW⟩⟩ rfl hlen hsize hst ?_ hdg hf
  simpa [Jvm.JFrame.monitorRoom] using hW
/-- a private constructor of a nest mate -/
theorem y_runIN {bytes : ByteArray} {host : String} (hx : p.tables.exec = Jvm.exec) (hb : c.code = cc) (hml : c.maxLocals = nL) (hown : s.vm.findClass own = some m.cls) (hT : ∀ w ∈ tw_, w.before args s = true) (hN : Nst s) (hK : va_K D classes (tyl cI cB cZ) s) (hP : va_P D classes ws H) (hD : va_D A0 ws)
    (hM : Met l y (.code y bytes maxL none :: tw_) rm (va_Pc (.ref b :: As) (Bp D cI cB cZ w0 H.size)) Qc rm.cells rm.slots free) (v1 : Cond.code y bytes maxL none ∈ tw_ ∧ Cond.initialized y.cls ∈ tw_) (vn : va_Nw (.methodLinkNest own idx y host) s) (vd : y.cls ≠ "java/lang/invoke/MethodHandle" ∧ y.cls ≠ "java/lang/invoke/VarHandle" ∧ (parseMethodDescriptor y.desc).map (fun d => d.parameters.length) = some n) (v2 : y.name = "<init>" ∧ Cond.instanceMethod y ∈ tw_) (isC : List Nat) (hC : isC.map (fun i => ws[i]?) = w0.map some) (hnC : va_nd isC = true)
    (hR : rm.frames + 1 ≤ R.frames ∧ 8 + (maxL + 11) + rm.locals ≤ R.locals) (hlen : As.length = n) (hsize : ls.size = nL) (hst : st0 = As.reverse ++ .ref b :: rest) (hW : (rest.map fun v => v.category).sum ≤ 8) (hdg : decode cc pc = .ok (.invokespecial idx, 3)) (hf : cells + rm.cells ≤ R.cells ∧ slots + rm.slots ≤ R.slots) :
    va_Run p l e R s m args below meth c H locs cells slots rm.cells rm.slots (F0 m pc ls st0) rest (Qc (Value.ref b :: As).toArray) free := by
  refine va_runIN (b := b) ⟨hx, hb, hml, hown, hT⟩ hM ⟨va_cnB n hT (tw_goodIn v1.1) rfl rfl rfl vn (hT _ v1.2) vd hR, v2.1, hT _ v2.2⟩ ⟨Bp.blind, fun U hU hW => ⟨rfl, Bp.pre hK hN hP hD isC hC hnC U hU hW⟩⟩ rfl hlen hsize hst ?_ hdg hf
  simpa [Jvm.JFrame.monitorRoom] using hW
variable {mc ms : Nat} {av : Array Value}
/-- behind a call that answers an int: the callee's new world beside the rest -/
theorem y_i {S : Type} {post : Int32 → S → Prop} {w1 : S → va_W} (hP : va_P D classes ws H) (hD : va_D A0 ws) (hS : va_S A0 s.heap H locs) (hA : ∀ q, s.heap.size ≤ q → A0 q) (isC isR : List Nat) (hC : isC.map (fun i => ws[i]?) = w0.map some) (hR : isR.map (fun i => ws[i]?) = wr.map some) (hnR : va_nd isR = true) (hdis : ∀ i ∈ isR, i ∉ isC)
    (hr : va_Run p l e R s m args below meth c H locs cells slots 0 0 (F0 m pc ls st0) rest (va_Qi post (fun u => Bq D cI cB cZ (va_A w0 H.size) (w1 u)) (va_A w0 H.size) av) (va_A w0 H.size))
    (kk : ∀ (r : Int32) (u : S) (H1 : Heap) (locs1 : List Loc), post r u → va_P D classes (wr ++ w1 u) H1 → va_D A0 (wr ++ w1 u) → va_S A0 s.heap H1 locs1 → W p l e R s m args below meth c H1 locs1 cells slots Q (F0 m (pc + 3) ls (.int r :: rest))) : W p l e R s m args below meth c H locs cells slots Q (F0 m pc ls st0) := by
  have hF := va_free (wc := w0) hD hS hA isC hC
  refine va_calli hr hS (fun q _ h => hF q h) hF (fun r u t H1 locs1 ht hvm hw hB hz1 hk1 hS1 => ?_)
  obtain ⟨hP1, hK1, hD1⟩ := hB
  rw [ht] at hP1
  obtain ⟨hP2, hD2⟩ := va_join (wr := wr) hP hD isC isR hC hR hnR hdis hk1 hF hP1 hD1
  exact kk r u H1 locs1 hw hP2 hD2 hS1
theorem y_v {S : Type} {post : S → Prop} {w1 : S → va_W} (hP : va_P D classes ws H) (hD : va_D A0 ws) (hS : va_S A0 s.heap H locs) (hA : ∀ q, s.heap.size ≤ q → A0 q) (isC isR : List Nat) (hC : isC.map (fun i => ws[i]?) = w0.map some) (hR : isR.map (fun i => ws[i]?) = wr.map some) (hnR : va_nd isR = true) (hdis : ∀ i ∈ isR, i ∉ isC)
    (hr : va_Run p l e R s m args below meth c H locs cells slots 0 0 (F0 m pc ls st0) rest (va_Qv post (fun u => Bq D cI cB cZ (va_A w0 H.size) (w1 u)) (va_A w0 H.size) av) (va_A w0 H.size))
    (kk : ∀ (u : S) (H1 : Heap) (locs1 : List Loc), post u → va_P D classes (wr ++ w1 u) H1 → va_D A0 (wr ++ w1 u) → va_S A0 s.heap H1 locs1 → W p l e R s m args below meth c H1 locs1 cells slots Q (F0 m (pc + 3) ls rest)) : W p l e R s m args below meth c H locs cells slots Q (F0 m pc ls st0) := by
  have hF := va_free (wc := w0) hD hS hA isC hC
  refine va_callv hr hS (fun q _ h => hF q h) hF (fun u t H1 locs1 ht hvm hw hB hz1 hk1 hS1 => ?_)
  obtain ⟨hP1, hK1, hD1⟩ := hB
  rw [ht] at hP1
  obtain ⟨hP2, hD2⟩ := va_join (wr := wr) hP hD isC isR hC hR hnR hdis hk1 hF hP1 hD1
  exact kk u H1 locs1 hw hP2 hD2 hS1
/-- the same, of a call that makes cells -/
theorem y_va {S : Type} {post : S → Prop} {w1 : S → va_W} (hP : va_P D classes ws H) (hD : va_D A0 ws) (hS : va_S A0 s.heap H locs) (hA : ∀ q, s.heap.size ≤ q → A0 q) (isC isR : List Nat) (hC : isC.map (fun i => ws[i]?) = w0.map some) (hR : isR.map (fun i => ws[i]?) = wr.map some) (hnR : va_nd isR = true) (hdis : ∀ i ∈ isR, i ∉ isC)
    (hr : va_Run p l e R s m args below meth c H locs cells slots mc ms (F0 m pc ls st0) rest (va_Qv post (fun u => Bq D cI cB cZ (va_A w0 H.size) (w1 u)) (va_A w0 H.size) av) (va_A w0 H.size))
    (kk : ∀ (u : S) (H1 : Heap) (locs1 : List Loc), post u → va_P D classes (wr ++ w1 u) H1 → va_D A0 (wr ++ w1 u) → va_S A0 s.heap H1 locs1 → W p l e R s m args below meth c H1 locs1 (cells + mc) (slots + ms) Q (F0 m (pc + 3) ls rest)) : W p l e R s m args below meth c H locs cells slots Q (F0 m pc ls st0) := by
  have hF := va_free (wc := w0) hD hS hA isC hC
  refine va_callv hr hS (fun q _ h => hF q h) hF (fun u t H1 locs1 ht hvm hw hB hz1 hk1 hS1 => ?_)
  obtain ⟨hP1, hK1, hD1⟩ := hB
  rw [ht] at hP1
  obtain ⟨hP2, hD2⟩ := va_join (wr := wr) hP hD isC isR hC hR hnR hdis hk1 hF hP1 hD1
  exact kk u H1 locs1 hw hP2 hD2 hS1
-- answers
theorem y_iret {S : Type} {post : Int32 → S → Prop} {w1 : S → va_W} {v : Int32} (hx : p.tables.exec = Jvm.exec) (hb : c.code = cc) (hr : meth.sig.returnType = some .int) (hlocks : meth.locks = false) (hK : va_K D classes (tyl cI cB cZ) s) (u : S) (hP : va_P D classes (w1 u) H) (hD : va_D A0 (w1 u)) (hS : va_S A0 s.heap H locs) (hp : post v u) (hdg : decode cc pc = .ok (.ireturn, 1)) :
    W p l e R s m args below meth c H locs cells slots (MQ below (va_Qi post (fun u => Bq D cI cB cZ A0 (w1 u)) A0) args s cells slots A0) (F0 m pc ls [.int v]) :=
  W.iret hx hb hr (fun t ht hW => ⟨⟨v, u, rfl, hp, by rw [ht]; exact hP, va_K.moved hW.alike hK, hD⟩, hS.F ht⟩) hS.2.2 hdg hlocks
theorem y_zret {S : Type} {post : Int32 → S → Prop} {w1 : S → va_W} {v : Prop} (hx : p.tables.exec = Jvm.exec) (hb : c.code = cc) (hr : meth.sig.returnType = some .boolean) (hlocks : meth.locks = false) (hK : va_K D classes (tyl cI cB cZ) s) (u : S) (hP : va_P D classes (w1 u) H) (hD : va_D A0 (w1 u)) (hS : va_S A0 s.heap H locs) (hp : post (zb v) u) (hdg : decode cc pc = .ok (.ireturn, 1)) :
    W p l e R s m args below meth c H locs cells slots (MQ below (va_Qi post (fun u => Bq D cI cB cZ A0 (w1 u)) A0) args s cells slots A0) (F0 m pc ls [.int (zb v)]) :=
  W.zret hx hb hr (zb_nar v) (fun t ht hW => ⟨⟨zb v, u, rfl, hp, by rw [ht]; exact hP, va_K.moved hW.alike hK, hD⟩, hS.F ht⟩) hS.2.2 hdg hlocks
theorem y_vret {S : Type} {post : S → Prop} {w1 : S → va_W} (hx : p.tables.exec = Jvm.exec) (hb : c.code = cc) (hr : meth.sig.returnType = none) (hlocks : meth.locks = false) (hK : va_K D classes (tyl cI cB cZ) s) (u : S) (hP : va_P D classes (w1 u) H) (hD : va_D A0 (w1 u)) (hS : va_S A0 s.heap H locs) (hp : post u) (hdg : decode cc pc = .ok (.return_, 1)) :
    W p l e R s m args below meth c H locs cells slots (MQ below (va_Qv post (fun u => Bq D cI cB cZ A0 (w1 u)) A0) args s cells slots A0) (F0 m pc ls []) :=
  W.vret hx hb hr (fun t ht hW => ⟨⟨u, rfl, hp, by rw [ht]; exact hP, va_K.moved hW.alike hK, hD⟩, hS.F ht⟩) hS.2.2 hdg hlocks
end YC
end
section
/-! the worlds (cells) of the classes, and the words of what they compute -/
theorem z1 {P : Prop} (h : P) : nI 1 = zb P := (zb_t h).symm
theorem z0 {P : Prop} (h : ¬ P) : nI 0 = zb P := (zb_f h).symm
abbrev wPi (cB : ClassId) (a : Nat → Nat) (z : Nat) (tx : Nat → Int8) : va_W := [(a 10, .inr (2, [.ref (a 11), .int (nI z)])), (a 11, .inl (cB, 256, .inl (cT tx)))]
noncomputable abbrev wPt (cI cB cZ' : ClassId) (a : Nat → Nat) (c u : Nat) (L M C F S : Nat → Nat) (li : Nat → Int8) (no th ro : Nat → Prop) : va_W := [(a 0, .inr (1, [.ref (a 1), .ref (a 2), .ref (a 3), .ref (a 4), .ref (a 5), .ref (a 6), .ref (a 7), .ref (a 8), .ref (a 9), .int (nI c), .int (nI u)])), (a 1, .inl (cI, 128, .inl (cN L))), (a 2, .inl (cI, 128, .inl (cN M))), (a 3, .inl (cI, 128, .inl (cN C))), (a 4, .inl (cI, 128, .inl (cN F))), (a 5, .inl (cI, 128, .inl (cN S))), (a 6, .inl (cB, 256, .inl (cT li))), (a 7, .inl (cZ', 256, .inl (cZ no))), (a 8, .inl (cZ', 256, .inl (cZ th))), (a 9, .inl (cZ', 256, .inl (cZ ro)))]
noncomputable abbrev wC (cI cB cZ' : ClassId) (a : Nat → Nat) (c u : Nat) (L M C F S : Nat → Nat) (li : Nat → Int8) (no th ro : Nat → Prop) (z : Nat) (tx : Nat → Int8) : va_W := wPt cI cB cZ' a c u L M C F S li no th ro ++ wPi cB a z tx
noncomputable abbrev wS (cI cB cZ' : ClassId) (a : Nat → Nat) (c u : Nat) (L M C F S : Nat → Nat) (li : Nat → Int8) (no th ro : Nat → Prop) (z : Nat) (tx : Nat → Int8) : va_W := (a 12, .inr (0, [.ref (a 10), .ref (a 0)])) :: wC cI cB cZ' a c u L M C F S li no th ro z tx
noncomputable abbrev wM (cI cB cZ' : ClassId) (b : Nat → Nat) (c u z : Nat) (L M C S F : Nat → Nat) (li tx : Nat → Int8) (gd nx : Nat → Prop) (tm : Nat → Nat) : va_W := [(b 0, .inr (3, [.int (nI c), .ref (b 1), .ref (b 2), .ref (b 3), .ref (b 4), .ref (b 5), .ref (b 6), .int (nI u), .ref (b 7), .int (nI z), .ref (b 8), .ref (b 9), .ref (b 10)])), (b 1, .inl (cI, 60, .inl (cN L))), (b 2, .inl (cI, 60, .inl (cN M))), (b 3, .inl (cI, 60, .inl (cN C))), (b 4, .inl (cI, 60, .inl (cN S))), (b 5, .inl (cI, 60, .inl (cN F))), (b 6, .inl (cB, 255, .inl (cT li))), (b 7, .inl (cB, 255, .inl (cT tx))), (b 8, .inl (cZ', 256, .inl (cZ gd))), (b 9, .inl (cZ', 256, .inl (cZ nx))), (b 10, .inl (cI, 256, .inl (cN tm)))]
/-- the classes of a byte, as bits -/
def clsN (v : Nat) : Nat := if 65 ≤ v ∧ v ≤ 90 then 67 else if 97 ≤ v ∧ v ≤ 122 then 69 else if 48 ≤ v ∧ v ≤ 57 then 72 else if v < 32 ∨ v = 127 then 96 else if v < 127 then 80 else 64
/-- a letter's bit, 0 for none -/
def bitN (b : Int32) : Nat := if b = nI 65 then 1 else if b = nI 85 then 2 else if b = nI 76 then 4 else if b = nI 78 then 8 else if b = nI 80 then 16 else if b = nI 67 then 32 else if b = nI 69 then 64 else 0
theorem bitN_lt (b : Int32) : bitN b < 128 := by unfold bitN; (repeat' split) <;> decide
theorem bitN_no {b : Int32} (h1 : ¬ b = nI 65) (h2 : ¬ b = nI 85) (h3 : ¬ b = nI 76) (h4 : ¬ b = nI 78) (h5 : ¬ b = nI 80) (h6 : ¬ b = nI 67) (h7 : ¬ b = nI 69) : bitN b = 0 := by
  unfold bitN; rw [if_neg h1, if_neg h2, if_neg h3, if_neg h4, if_neg h5, if_neg h6, if_neg h7]
theorem bitN_last {b : Int32} (h1 : ¬ b = nI 65) (h2 : ¬ b = nI 85) (h3 : ¬ b = nI 76) (h4 : ¬ b = nI 78) (h5 : ¬ b = nI 80) (h6 : ¬ b = nI 67) (h : bitN b ≠ 0) : bitN b = 64 := by
  by_cases h7 : b = nI 69
  · subst h7; rfl
  · exact absurd (bitN_no h1 h2 h3 h4 h5 h6 h7) h
theorem bitN_out {b : Int32} (h : b.toInt < 65 ∨ 85 < b.toInt) : bitN b = 0 := by
  refine bitN_no ?_ ?_ ?_ ?_ ?_ ?_ ?_ <;> (rintro rfl; revert h; decide)
theorem sw_in {b : Int32} (h : ¬ (b.toInt < 65 ∨ 85 < b.toInt)) : ∃ j : Nat, 65 ≤ j ∧ j ≤ 85 ∧ b = nI j := by
  refine ⟨b.toInt.toNat, by omega, by omega, Int32.toInt_inj.mp ?_⟩
  rw [nI_toInt (by omega)]
  omega
/-- a number of times -/
def isT (x : Int32) : Prop := ∃ n : Nat, n ≤ 255 ∧ x = nI n
theorem isT_of {x : Int32} (h : ¬ x < 0) (g : ¬ nI 255 < x) : isT x := by
  obtain ⟨j, hj, e⟩ := nI_of2 (n := 255) (M := nI 255) (by decide) h (by rw [Int32.not_lt] at g; exact g)
  exact ⟨j, hj, e⟩
theorem isT_neg {x : Int32} (h : x < 0) : ¬ isT x := by
  rintro ⟨n, hn, rfl⟩
  exact nI_pos (by omega) h
theorem isT_big {x : Int32} (h : nI 255 < x) : ¬ isT x := by
  rintro ⟨n, hn, rfl⟩
  have := (nI_ltI (by omega) (by omega)).mp h
  omega
/-- how long a part is once -/
def len1 (cp sp : Nat) : Nat := if cp = 0 then sp else 1
/-- a part stands once at a place, within n bytes -/
def st1 (cp sp fp : Nat) (li tx : Nat → Int8) (n at' : Nat) : Prop := (cp ≠ 0 ∧ at' < n ∧ clsN (ub (tx at')) &&& cp ≠ 0) ∨ (cp = 0 ∧ at' + sp ≤ n ∧ ∀ k, k < sp → tx (at' + k) = li (fp + k))
theorem st1_end {cp sp fp : Nat} {li tx : Nat → Int8} {n i : Nat} (h : st1 cp sp fp li tx n i) : i + len1 cp sp ≤ n := by
  rcases h with ⟨h, h2, -⟩ | ⟨h, h2, -⟩
  · unfold len1; rw [if_neg h]; exact h2
  · unfold len1; rw [if_pos h]; exact h2
end
section
set_option maxHeartbeats 4000000 in
set_option maxRecDepth 100000 in
/-- PatternSieve.isTimes -/
theorem c_Sv_isTimes (l : Launch) (D : va_G) (cI cB cZ : ClassId) (x : Int32) (sz : Nat) : Met l y_Sv_isTimes cw_Sv_isTimes ({ frames := 0, cells := 0, slots := 0, locals := 0 }) (va_Pc [.int x] (Bp D cI cB cZ ([] : va_W) sz)) (va_Qi (S := Unit) (fun r _ => r = zb (isT x)) (fun v_ => Bq D cI cB cZ (va_A ([] : va_W) sz) ([])) (va_A ([] : va_W) sz)) 0 0 (va_A ([] : va_W) sz) := by
  refine Met.ofW (cc := b_Sv_isTimes) (maxL := 1) (ret := (some FieldType.boolean)) (by decide) rfl ?_
  intro p e s m args below meth c1 s₁ B hml hv
  obtain ⟨rfl, hsz, hP, hK, hD0, hN⟩ := hv
  subst hsz
  have hx := B.exec
  have hb := B.bytes
  have hr := B.returns
  have hT : ∀ w ∈ tw_, w.before _ s = true := fun w h => atoms_spec (ws := cw_Sv_isTimes) B.pre w (List.mem_cons_of_mem _ h)
  have hown : s.vm.findClass R_Sv = some m.cls := findClass_of_methodNamed B.named
  have hlocks := B.notSynchronized
  have hD := hD0.self (sz := s.heap.size)
  generalize hAe : va_A ([] : va_W) s.heap.size = A at hD ⊢
  have hA : ∀ q : Nat, s.heap.size ≤ q → A q := fun q h => by rw [← hAe]; exact Or.inr h
  have hS : va_S A s.heap s.heap [] := va_S.rf
  have hl := lv_entry ([.int x]) (n := 1) (Nat.le_of_ble_eq_true rfl)
  rw [lg_entry_eq]
  generalize (lg_sl ([.int x]) ++ List.replicate (1 - (lg_sl ([.int x])).length) Slot.unset).toArray = ls at hl ⊢
  have hl : lv_has ls 1 [(0, .int x)] := hl
  refine y_join (pcj := 16) (stj := [.int (zb (isT x))]) ?_ (fun hj => ?_)
  · exact y_zret hx hb hr hlocks hK () hP hD hS rfl d_Sv_isTimes_16
  · refine lv_iload_n hx hb d_Sv_isTimes_0 rfl (lv_at hl 0 rfl) ?_
    refine lv_if_lt (tgt := 15) hx hb d_Sv_isTimes_1 (by decide) (fun h1 => ?_) (fun h1 => ?_)
    · refine lv_iconst (v := nI 0) hx hb d_Sv_isTimes_15 (by decide) ?_
      exact y_to (z0 (isT_neg h1)) hj
    · refine lv_iload_n hx hb d_Sv_isTimes_4 rfl (lv_at hl 0 rfl) ?_
      refine lv_sipush (v := nI 255) hx hb d_Sv_isTimes_5 (by decide) ?_
      refine lv_icmp_gt (tgt := 15) hx hb d_Sv_isTimes_8 (by decide) (fun h2 => ?_) (fun h2 => ?_)
      · refine lv_iconst (v := nI 0) hx hb d_Sv_isTimes_15 (by decide) ?_
        exact y_to (z0 (isT_big h2)) hj
      · refine lv_iconst (v := nI 1) hx hb d_Sv_isTimes_11 (by decide) ?_
        refine lv_goto (tgt := 16) hx hb d_Sv_isTimes_12 (by decide) ?_
        exact y_to (z1 (isT_of h1 h2)) hj

set_option maxHeartbeats 4000000 in
set_option maxRecDepth 100000 in
/-- PatternSieveModel.isNumber -/
theorem c_Mo_isNumber (l : Launch) (D : va_G) (cI cB cZ : ClassId) (x : Int32) (sz : Nat) : Met l y_Mo_isNumber cw_Mo_isNumber ({ frames := 0, cells := 0, slots := 0, locals := 0 }) (va_Pc [.int x] (Bp D cI cB cZ ([] : va_W) sz)) (va_Qi (S := Unit) (fun r _ => r = zb (isT x)) (fun v_ => Bq D cI cB cZ (va_A ([] : va_W) sz) ([])) (va_A ([] : va_W) sz)) 0 0 (va_A ([] : va_W) sz) := by
  refine Met.ofW (cc := b_Mo_isNumber) (maxL := 1) (ret := (some FieldType.boolean)) (by decide) rfl ?_
  intro p e s m args below meth c1 s₁ B hml hv
  obtain ⟨rfl, hsz, hP, hK, hD0, hN⟩ := hv
  subst hsz
  have hx := B.exec
  have hb := B.bytes
  have hr := B.returns
  have hT : ∀ w ∈ tw_, w.before _ s = true := fun w h => atoms_spec (ws := cw_Mo_isNumber) B.pre w (List.mem_cons_of_mem _ h)
  have hown : s.vm.findClass R_Mo = some m.cls := findClass_of_methodNamed B.named
  have hlocks := B.notSynchronized
  have hD := hD0.self (sz := s.heap.size)
  generalize hAe : va_A ([] : va_W) s.heap.size = A at hD ⊢
  have hA : ∀ q : Nat, s.heap.size ≤ q → A q := fun q h => by rw [← hAe]; exact Or.inr h
  have hS : va_S A s.heap s.heap [] := va_S.rf
  have hl := lv_entry ([.int x]) (n := 1) (Nat.le_of_ble_eq_true rfl)
  rw [lg_entry_eq]
  generalize (lg_sl ([.int x]) ++ List.replicate (1 - (lg_sl ([.int x])).length) Slot.unset).toArray = ls at hl ⊢
  have hl : lv_has ls 1 [(0, .int x)] := hl
  refine y_join (pcj := 16) (stj := [.int (zb (isT x))]) ?_ (fun hj => ?_)
  · exact y_zret hx hb hr hlocks hK () hP hD hS rfl d_Mo_isNumber_16
  · refine lv_iload_n hx hb d_Mo_isNumber_0 rfl (lv_at hl 0 rfl) ?_
    refine lv_if_lt (tgt := 15) hx hb d_Mo_isNumber_1 (by decide) (fun h1 => ?_) (fun h1 => ?_)
    · refine lv_iconst (v := nI 0) hx hb d_Mo_isNumber_15 (by decide) ?_
      exact y_to (z0 (isT_neg h1)) hj
    · refine lv_iload_n hx hb d_Mo_isNumber_4 rfl (lv_at hl 0 rfl) ?_
      refine lv_sipush (v := nI 255) hx hb d_Mo_isNumber_5 (by decide) ?_
      refine lv_icmp_gt (tgt := 15) hx hb d_Mo_isNumber_8 (by decide) (fun h2 => ?_) (fun h2 => ?_)
      · refine lv_iconst (v := nI 0) hx hb d_Mo_isNumber_15 (by decide) ?_
        exact y_to (z0 (isT_big h2)) hj
      · refine lv_iconst (v := nI 1) hx hb d_Mo_isNumber_11 (by decide) ?_
        refine lv_goto (tgt := 16) hx hb d_Mo_isNumber_12 (by decide) ?_
        exact y_to (z1 (isT_of h1 h2)) hj

set_option maxHeartbeats 4000000 in
set_option maxRecDepth 100000 in
/-- Numbers.isDigit -/
theorem c_Nu_isDigit (l : Launch) (D : va_G) (cI cB cZ : ClassId) (v : Nat) (hv : v < 256) (sz : Nat) : Met l y_Nu_isDigit cw_Nu_isDigit ({ frames := 0, cells := 0, slots := 0, locals := 0 }) (va_Pc [.int (nI v)] (Bp D cI cB cZ ([] : va_W) sz)) (va_Qi (S := Unit) (fun r _ => r = zb (48 ≤ v ∧ v ≤ 57)) (fun v_ => Bq D cI cB cZ (va_A ([] : va_W) sz) ([])) (va_A ([] : va_W) sz)) 0 0 (va_A ([] : va_W) sz) := by
  refine Met.ofW (cc := b_Nu_isDigit) (maxL := 1) (ret := (some FieldType.boolean)) (by decide) rfl ?_
  intro p e s m args below meth c1 s₁ B hml hv
  obtain ⟨rfl, hsz, hP, hK, hD0, hN⟩ := hv
  subst hsz
  have hx := B.exec
  have hb := B.bytes
  have hr := B.returns
  have hT : ∀ w ∈ tw_, w.before _ s = true := fun w h => atoms_spec (ws := cw_Nu_isDigit) B.pre w (List.mem_cons_of_mem _ h)
  have hown : s.vm.findClass R_Nu = some m.cls := findClass_of_methodNamed B.named
  have hlocks := B.notSynchronized
  have hD := hD0.self (sz := s.heap.size)
  generalize hAe : va_A ([] : va_W) s.heap.size = A at hD ⊢
  have hA : ∀ q : Nat, s.heap.size ≤ q → A q := fun q h => by rw [← hAe]; exact Or.inr h
  have hS : va_S A s.heap s.heap [] := va_S.rf
  have hl := lv_entry ([.int (nI v)]) (n := 1) (Nat.le_of_ble_eq_true rfl)
  rw [lg_entry_eq]
  generalize (lg_sl ([.int (nI v)]) ++ List.replicate (1 - (lg_sl ([.int (nI v)])).length) Slot.unset).toArray = ls at hl ⊢
  have hl : lv_has ls 1 [(0, .int (nI v))] := hl
  refine y_join (pcj := 17) (stj := [.int (zb (48 ≤ v ∧ v ≤ 57))]) ?_ (fun hj => ?_)
  · exact y_zret hx hb hr hlocks hK () hP hD hS rfl d_Nu_isDigit_17
  · refine lv_iload_n hx hb d_Nu_isDigit_0 rfl (lv_at hl 0 rfl) ?_
    refine lv_bipush (v := nI 48) hx hb d_Nu_isDigit_1 (by decide) ?_
    refine y_icmp_lt (tgt := 16) hx hb (by omega) (by omega) d_Nu_isDigit_3 (by decide) (fun h1 => ?_) (fun h1 => ?_)
    · refine lv_iconst (v := nI 0) hx hb d_Nu_isDigit_16 (by decide) ?_
      exact y_to (z0 (fun q => by omega)) hj
    · refine lv_iload_n hx hb d_Nu_isDigit_6 rfl (lv_at hl 0 rfl) ?_
      refine lv_bipush (v := nI 57) hx hb d_Nu_isDigit_7 (by decide) ?_
      refine y_icmp_gt (tgt := 16) hx hb (by omega) (by omega) d_Nu_isDigit_9 (by decide) (fun h2 => ?_) (fun h2 => ?_)
      · refine lv_iconst (v := nI 0) hx hb d_Nu_isDigit_16 (by decide) ?_
        exact y_to (z0 (fun q => by omega)) hj
      · refine lv_iconst (v := nI 1) hx hb d_Nu_isDigit_12 (by decide) ?_
        refine lv_goto (tgt := 17) hx hb d_Nu_isDigit_13 (by decide) ?_
        exact y_to (z1 (⟨h1, h2⟩)) hj

set_option maxHeartbeats 4000000 in
set_option maxRecDepth 100000 in
/-- Pattern.classOf -/
theorem c_Pt_classOf (l : Launch) (D : va_G) (cI cB cZ : ClassId) (v : Nat) (hv : v < 256) (sz : Nat) : Met l y_Pt_classOf cw_Pt_classOf ({ frames := 1, cells := 0, slots := 0, locals := 20 }) (va_Pc [.int (nI v)] (Bp D cI cB cZ ([] : va_W) sz)) (va_Qi (S := Unit) (fun r _ => r = nI (clsN v)) (fun v_ => Bq D cI cB cZ (va_A ([] : va_W) sz) ([])) (va_A ([] : va_W) sz)) 0 0 (va_A ([] : va_W) sz) := by
  refine Met.ofW (cc := b_Pt_classOf) (maxL := 1) (ret := (some FieldType.int)) (by decide) rfl ?_
  intro p e s m args below meth c1 s₁ B hml hv
  obtain ⟨rfl, hsz, hP, hK, hD0, hN⟩ := hv
  subst hsz
  have hx := B.exec
  have hb := B.bytes
  have hr := B.returns
  have hT : ∀ w ∈ tw_, w.before _ s = true := fun w h => atoms_spec (ws := cw_Pt_classOf) B.pre w (List.mem_cons_of_mem _ h)
  have hown : s.vm.findClass R_Pt = some m.cls := findClass_of_methodNamed B.named
  have hlocks := B.notSynchronized
  have hD := hD0.self (sz := s.heap.size)
  generalize hAe : va_A ([] : va_W) s.heap.size = A at hD ⊢
  have hA : ∀ q : Nat, s.heap.size ≤ q → A q := fun q h => by rw [← hAe]; exact Or.inr h
  have hS : va_S A s.heap s.heap [] := va_S.rf
  have hl := lv_entry ([.int (nI v)]) (n := 1) (Nat.le_of_ble_eq_true rfl)
  rw [lg_entry_eq]
  generalize (lg_sl ([.int (nI v)]) ++ List.replicate (1 - (lg_sl ([.int (nI v)])).length) Slot.unset).toArray = ls at hl ⊢
  have hl : lv_has ls 1 [(0, .int (nI v))] := hl
  refine lv_iload_n hx hb d_Pt_classOf_0 rfl (lv_at hl 0 rfl) ?_
  refine lv_bipush (v := nI 65) hx hb d_Pt_classOf_1 (by decide) ?_
  refine y_icmp_lt (tgt := 15) hx hb (by omega) (by omega) d_Pt_classOf_3 (by decide) (fun h1 => ?_) (fun h1 => ?_)
  · refine lv_iload_n hx hb d_Pt_classOf_15 rfl (lv_at hl 0 rfl) ?_
    refine lv_bipush (v := nI 97) hx hb d_Pt_classOf_16 (by decide) ?_
    refine y_icmp_lt (tgt := 30) hx hb (by omega) (by omega) d_Pt_classOf_18 (by decide) (fun h3 => ?_) (fun h3 => ?_)
    · refine lv_iload_n hx hb d_Pt_classOf_30 rfl (lv_at hl 0 rfl) ?_
      refine y_i (w0 := ([] : va_W)) (wr := []) hP hD hS hA [] [] rfl rfl (by decide) (by decide) (y_runS (n := 1) (rm := { frames := 0, cells := 0, slots := 0, locals := 0 }) (w0 := ([] : va_W)) (As := [.int (nI v)]) (rest := []) hx hb hml hown hT hN hK hP hD (c_Nu_isDigit l D cI cB cZ v hv _) ⟨tw_k165, tw_k11, tw_k163, by decide +kernel⟩ tw_k164 [] rfl (by decide) ⟨Nat.le_of_ble_eq_true rfl, Nat.le_of_ble_eq_true rfl⟩ rfl hl.1 rfl (Nat.le_of_ble_eq_true rfl) d_Pt_classOf_31 ⟨Nat.le_of_ble_eq_true rfl, Nat.le_of_ble_eq_true rfl⟩) (fun r v_ H locs hp hP hD hS => ?_)
      have hP : va_P D classes ([] : va_W) H := hP
      have hD : va_D A ([] : va_W) := hD
      subst hp
      refine y_ifeq (tgt := 40) hx hb d_Pt_classOf_34 (by decide) (fun h5 => ?_) (fun h5 => ?_)
      · refine lv_iload_n hx hb d_Pt_classOf_40 rfl (lv_at hl 0 rfl) ?_
        refine lv_bipush (v := nI 32) hx hb d_Pt_classOf_41 (by decide) ?_
        refine y_icmp_lt (tgt := 52) hx hb (by omega) (by omega) d_Pt_classOf_43 (by decide) (fun h6 => ?_) (fun h6 => ?_)
        · refine lv_bipush (v := nI 96) hx hb d_Pt_classOf_52 (by decide) ?_
          refine lv_goto (tgt := 70) hx hb d_Pt_classOf_54 (by decide) ?_
          exact y_iret hx hb hr hlocks hK () hP hD hS (by unfold clsN; (repeat' split) <;> first | rfl | omega) d_Pt_classOf_70
        · refine lv_iload_n hx hb d_Pt_classOf_46 rfl (lv_at hl 0 rfl) ?_
          refine lv_bipush (v := nI 127) hx hb d_Pt_classOf_47 (by decide) ?_
          refine y_icmp_ne (tgt := 57) hx hb (by omega) (by omega) d_Pt_classOf_49 (by decide) (fun h7 => ?_) (fun h7 => ?_)
          · refine lv_iload_n hx hb d_Pt_classOf_57 rfl (lv_at hl 0 rfl) ?_
            refine lv_bipush (v := nI 127) hx hb d_Pt_classOf_58 (by decide) ?_
            refine y_icmp_ge (tgt := 68) hx hb (by omega) (by omega) d_Pt_classOf_60 (by decide) (fun h8 => ?_) (fun h8 => ?_)
            · refine lv_bipush (v := nI 64) hx hb d_Pt_classOf_68 (by decide) ?_
              exact y_iret hx hb hr hlocks hK () hP hD hS (by unfold clsN; (repeat' split) <;> first | rfl | omega) d_Pt_classOf_70
            · refine lv_bipush (v := nI 80) hx hb d_Pt_classOf_63 (by decide) ?_
              refine lv_goto (tgt := 70) hx hb d_Pt_classOf_65 (by decide) ?_
              exact y_iret hx hb hr hlocks hK () hP hD hS (by unfold clsN; (repeat' split) <;> first | rfl | omega) d_Pt_classOf_70
          · refine lv_bipush (v := nI 96) hx hb d_Pt_classOf_52 (by decide) ?_
            refine lv_goto (tgt := 70) hx hb d_Pt_classOf_54 (by decide) ?_
            exact y_iret hx hb hr hlocks hK () hP hD hS (by unfold clsN; (repeat' split) <;> first | rfl | omega) d_Pt_classOf_70
      · refine lv_bipush (v := nI 72) hx hb d_Pt_classOf_37 (by decide) ?_
        exact y_iret hx hb hr hlocks hK () hP hD hS (by unfold clsN; (repeat' split) <;> first | rfl | omega) d_Pt_classOf_39
    · refine lv_iload_n hx hb d_Pt_classOf_21 rfl (lv_at hl 0 rfl) ?_
      refine lv_bipush (v := nI 122) hx hb d_Pt_classOf_22 (by decide) ?_
      refine y_icmp_gt (tgt := 30) hx hb (by omega) (by omega) d_Pt_classOf_24 (by decide) (fun h4 => ?_) (fun h4 => ?_)
      · refine lv_iload_n hx hb d_Pt_classOf_30 rfl (lv_at hl 0 rfl) ?_
        refine y_i (w0 := ([] : va_W)) (wr := []) hP hD hS hA [] [] rfl rfl (by decide) (by decide) (y_runS (n := 1) (rm := { frames := 0, cells := 0, slots := 0, locals := 0 }) (w0 := ([] : va_W)) (As := [.int (nI v)]) (rest := []) hx hb hml hown hT hN hK hP hD (c_Nu_isDigit l D cI cB cZ v hv _) ⟨tw_k165, tw_k11, tw_k163, by decide +kernel⟩ tw_k164 [] rfl (by decide) ⟨Nat.le_of_ble_eq_true rfl, Nat.le_of_ble_eq_true rfl⟩ rfl hl.1 rfl (Nat.le_of_ble_eq_true rfl) d_Pt_classOf_31 ⟨Nat.le_of_ble_eq_true rfl, Nat.le_of_ble_eq_true rfl⟩) (fun r v_ H locs hp hP hD hS => ?_)
        have hP : va_P D classes ([] : va_W) H := hP
        have hD : va_D A ([] : va_W) := hD
        subst hp
        refine y_ifeq (tgt := 40) hx hb d_Pt_classOf_34 (by decide) (fun h5 => ?_) (fun h5 => ?_)
        · refine lv_iload_n hx hb d_Pt_classOf_40 rfl (lv_at hl 0 rfl) ?_
          refine lv_bipush (v := nI 32) hx hb d_Pt_classOf_41 (by decide) ?_
          refine y_icmp_lt (tgt := 52) hx hb (by omega) (by omega) d_Pt_classOf_43 (by decide) (fun h6 => ?_) (fun h6 => ?_)
          · refine lv_bipush (v := nI 96) hx hb d_Pt_classOf_52 (by decide) ?_
            refine lv_goto (tgt := 70) hx hb d_Pt_classOf_54 (by decide) ?_
            exact y_iret hx hb hr hlocks hK () hP hD hS (by unfold clsN; (repeat' split) <;> first | rfl | omega) d_Pt_classOf_70
          · refine lv_iload_n hx hb d_Pt_classOf_46 rfl (lv_at hl 0 rfl) ?_
            refine lv_bipush (v := nI 127) hx hb d_Pt_classOf_47 (by decide) ?_
            refine y_icmp_ne (tgt := 57) hx hb (by omega) (by omega) d_Pt_classOf_49 (by decide) (fun h7 => ?_) (fun h7 => ?_)
            · refine lv_iload_n hx hb d_Pt_classOf_57 rfl (lv_at hl 0 rfl) ?_
              refine lv_bipush (v := nI 127) hx hb d_Pt_classOf_58 (by decide) ?_
              refine y_icmp_ge (tgt := 68) hx hb (by omega) (by omega) d_Pt_classOf_60 (by decide) (fun h8 => ?_) (fun h8 => ?_)
              · refine lv_bipush (v := nI 64) hx hb d_Pt_classOf_68 (by decide) ?_
                exact y_iret hx hb hr hlocks hK () hP hD hS (by unfold clsN; (repeat' split) <;> first | rfl | omega) d_Pt_classOf_70
              · refine lv_bipush (v := nI 80) hx hb d_Pt_classOf_63 (by decide) ?_
                refine lv_goto (tgt := 70) hx hb d_Pt_classOf_65 (by decide) ?_
                exact y_iret hx hb hr hlocks hK () hP hD hS (by unfold clsN; (repeat' split) <;> first | rfl | omega) d_Pt_classOf_70
            · refine lv_bipush (v := nI 96) hx hb d_Pt_classOf_52 (by decide) ?_
              refine lv_goto (tgt := 70) hx hb d_Pt_classOf_54 (by decide) ?_
              exact y_iret hx hb hr hlocks hK () hP hD hS (by unfold clsN; (repeat' split) <;> first | rfl | omega) d_Pt_classOf_70
        · refine lv_bipush (v := nI 72) hx hb d_Pt_classOf_37 (by decide) ?_
          exact y_iret hx hb hr hlocks hK () hP hD hS (by unfold clsN; (repeat' split) <;> first | rfl | omega) d_Pt_classOf_39
      · refine lv_bipush (v := nI 69) hx hb d_Pt_classOf_27 (by decide) ?_
        exact y_iret hx hb hr hlocks hK () hP hD hS (by unfold clsN; (repeat' split) <;> first | rfl | omega) d_Pt_classOf_29
  · refine lv_iload_n hx hb d_Pt_classOf_6 rfl (lv_at hl 0 rfl) ?_
    refine lv_bipush (v := nI 90) hx hb d_Pt_classOf_7 (by decide) ?_
    refine y_icmp_gt (tgt := 15) hx hb (by omega) (by omega) d_Pt_classOf_9 (by decide) (fun h2 => ?_) (fun h2 => ?_)
    · refine lv_iload_n hx hb d_Pt_classOf_15 rfl (lv_at hl 0 rfl) ?_
      refine lv_bipush (v := nI 97) hx hb d_Pt_classOf_16 (by decide) ?_
      refine y_icmp_lt (tgt := 30) hx hb (by omega) (by omega) d_Pt_classOf_18 (by decide) (fun h3 => ?_) (fun h3 => ?_)
      · refine lv_iload_n hx hb d_Pt_classOf_30 rfl (lv_at hl 0 rfl) ?_
        refine y_i (w0 := ([] : va_W)) (wr := []) hP hD hS hA [] [] rfl rfl (by decide) (by decide) (y_runS (n := 1) (rm := { frames := 0, cells := 0, slots := 0, locals := 0 }) (w0 := ([] : va_W)) (As := [.int (nI v)]) (rest := []) hx hb hml hown hT hN hK hP hD (c_Nu_isDigit l D cI cB cZ v hv _) ⟨tw_k165, tw_k11, tw_k163, by decide +kernel⟩ tw_k164 [] rfl (by decide) ⟨Nat.le_of_ble_eq_true rfl, Nat.le_of_ble_eq_true rfl⟩ rfl hl.1 rfl (Nat.le_of_ble_eq_true rfl) d_Pt_classOf_31 ⟨Nat.le_of_ble_eq_true rfl, Nat.le_of_ble_eq_true rfl⟩) (fun r v_ H locs hp hP hD hS => ?_)
        have hP : va_P D classes ([] : va_W) H := hP
        have hD : va_D A ([] : va_W) := hD
        subst hp
        refine y_ifeq (tgt := 40) hx hb d_Pt_classOf_34 (by decide) (fun h5 => ?_) (fun h5 => ?_)
        · refine lv_iload_n hx hb d_Pt_classOf_40 rfl (lv_at hl 0 rfl) ?_
          refine lv_bipush (v := nI 32) hx hb d_Pt_classOf_41 (by decide) ?_
          refine y_icmp_lt (tgt := 52) hx hb (by omega) (by omega) d_Pt_classOf_43 (by decide) (fun h6 => ?_) (fun h6 => ?_)
          · refine lv_bipush (v := nI 96) hx hb d_Pt_classOf_52 (by decide) ?_
            refine lv_goto (tgt := 70) hx hb d_Pt_classOf_54 (by decide) ?_
            exact y_iret hx hb hr hlocks hK () hP hD hS (by unfold clsN; (repeat' split) <;> first | rfl | omega) d_Pt_classOf_70
          · refine lv_iload_n hx hb d_Pt_classOf_46 rfl (lv_at hl 0 rfl) ?_
            refine lv_bipush (v := nI 127) hx hb d_Pt_classOf_47 (by decide) ?_
            refine y_icmp_ne (tgt := 57) hx hb (by omega) (by omega) d_Pt_classOf_49 (by decide) (fun h7 => ?_) (fun h7 => ?_)
            · refine lv_iload_n hx hb d_Pt_classOf_57 rfl (lv_at hl 0 rfl) ?_
              refine lv_bipush (v := nI 127) hx hb d_Pt_classOf_58 (by decide) ?_
              refine y_icmp_ge (tgt := 68) hx hb (by omega) (by omega) d_Pt_classOf_60 (by decide) (fun h8 => ?_) (fun h8 => ?_)
              · refine lv_bipush (v := nI 64) hx hb d_Pt_classOf_68 (by decide) ?_
                exact y_iret hx hb hr hlocks hK () hP hD hS (by unfold clsN; (repeat' split) <;> first | rfl | omega) d_Pt_classOf_70
              · refine lv_bipush (v := nI 80) hx hb d_Pt_classOf_63 (by decide) ?_
                refine lv_goto (tgt := 70) hx hb d_Pt_classOf_65 (by decide) ?_
                exact y_iret hx hb hr hlocks hK () hP hD hS (by unfold clsN; (repeat' split) <;> first | rfl | omega) d_Pt_classOf_70
            · refine lv_bipush (v := nI 96) hx hb d_Pt_classOf_52 (by decide) ?_
              refine lv_goto (tgt := 70) hx hb d_Pt_classOf_54 (by decide) ?_
              exact y_iret hx hb hr hlocks hK () hP hD hS (by unfold clsN; (repeat' split) <;> first | rfl | omega) d_Pt_classOf_70
        · refine lv_bipush (v := nI 72) hx hb d_Pt_classOf_37 (by decide) ?_
          exact y_iret hx hb hr hlocks hK () hP hD hS (by unfold clsN; (repeat' split) <;> first | rfl | omega) d_Pt_classOf_39
      · refine lv_iload_n hx hb d_Pt_classOf_21 rfl (lv_at hl 0 rfl) ?_
        refine lv_bipush (v := nI 122) hx hb d_Pt_classOf_22 (by decide) ?_
        refine y_icmp_gt (tgt := 30) hx hb (by omega) (by omega) d_Pt_classOf_24 (by decide) (fun h4 => ?_) (fun h4 => ?_)
        · refine lv_iload_n hx hb d_Pt_classOf_30 rfl (lv_at hl 0 rfl) ?_
          refine y_i (w0 := ([] : va_W)) (wr := []) hP hD hS hA [] [] rfl rfl (by decide) (by decide) (y_runS (n := 1) (rm := { frames := 0, cells := 0, slots := 0, locals := 0 }) (w0 := ([] : va_W)) (As := [.int (nI v)]) (rest := []) hx hb hml hown hT hN hK hP hD (c_Nu_isDigit l D cI cB cZ v hv _) ⟨tw_k165, tw_k11, tw_k163, by decide +kernel⟩ tw_k164 [] rfl (by decide) ⟨Nat.le_of_ble_eq_true rfl, Nat.le_of_ble_eq_true rfl⟩ rfl hl.1 rfl (Nat.le_of_ble_eq_true rfl) d_Pt_classOf_31 ⟨Nat.le_of_ble_eq_true rfl, Nat.le_of_ble_eq_true rfl⟩) (fun r v_ H locs hp hP hD hS => ?_)
          have hP : va_P D classes ([] : va_W) H := hP
          have hD : va_D A ([] : va_W) := hD
          subst hp
          refine y_ifeq (tgt := 40) hx hb d_Pt_classOf_34 (by decide) (fun h5 => ?_) (fun h5 => ?_)
          · refine lv_iload_n hx hb d_Pt_classOf_40 rfl (lv_at hl 0 rfl) ?_
            refine lv_bipush (v := nI 32) hx hb d_Pt_classOf_41 (by decide) ?_
            refine y_icmp_lt (tgt := 52) hx hb (by omega) (by omega) d_Pt_classOf_43 (by decide) (fun h6 => ?_) (fun h6 => ?_)
            · refine lv_bipush (v := nI 96) hx hb d_Pt_classOf_52 (by decide) ?_
              refine lv_goto (tgt := 70) hx hb d_Pt_classOf_54 (by decide) ?_
              exact y_iret hx hb hr hlocks hK () hP hD hS (by unfold clsN; (repeat' split) <;> first | rfl | omega) d_Pt_classOf_70
            · refine lv_iload_n hx hb d_Pt_classOf_46 rfl (lv_at hl 0 rfl) ?_
              refine lv_bipush (v := nI 127) hx hb d_Pt_classOf_47 (by decide) ?_
              refine y_icmp_ne (tgt := 57) hx hb (by omega) (by omega) d_Pt_classOf_49 (by decide) (fun h7 => ?_) (fun h7 => ?_)
              · refine lv_iload_n hx hb d_Pt_classOf_57 rfl (lv_at hl 0 rfl) ?_
                refine lv_bipush (v := nI 127) hx hb d_Pt_classOf_58 (by decide) ?_
                refine y_icmp_ge (tgt := 68) hx hb (by omega) (by omega) d_Pt_classOf_60 (by decide) (fun h8 => ?_) (fun h8 => ?_)
                · refine lv_bipush (v := nI 64) hx hb d_Pt_classOf_68 (by decide) ?_
                  exact y_iret hx hb hr hlocks hK () hP hD hS (by unfold clsN; (repeat' split) <;> first | rfl | omega) d_Pt_classOf_70
                · refine lv_bipush (v := nI 80) hx hb d_Pt_classOf_63 (by decide) ?_
                  refine lv_goto (tgt := 70) hx hb d_Pt_classOf_65 (by decide) ?_
                  exact y_iret hx hb hr hlocks hK () hP hD hS (by unfold clsN; (repeat' split) <;> first | rfl | omega) d_Pt_classOf_70
              · refine lv_bipush (v := nI 96) hx hb d_Pt_classOf_52 (by decide) ?_
                refine lv_goto (tgt := 70) hx hb d_Pt_classOf_54 (by decide) ?_
                exact y_iret hx hb hr hlocks hK () hP hD hS (by unfold clsN; (repeat' split) <;> first | rfl | omega) d_Pt_classOf_70
          · refine lv_bipush (v := nI 72) hx hb d_Pt_classOf_37 (by decide) ?_
            exact y_iret hx hb hr hlocks hK () hP hD hS (by unfold clsN; (repeat' split) <;> first | rfl | omega) d_Pt_classOf_39
        · refine lv_bipush (v := nI 69) hx hb d_Pt_classOf_27 (by decide) ?_
          exact y_iret hx hb hr hlocks hK () hP hD hS (by unfold clsN; (repeat' split) <;> first | rfl | omega) d_Pt_classOf_29
    · refine lv_bipush (v := nI 67) hx hb d_Pt_classOf_12 (by decide) ?_
      exact y_iret hx hb hr hlocks hK () hP hD hS (by unfold clsN; (repeat' split) <;> first | rfl | omega) d_Pt_classOf_14

set_option maxHeartbeats 4000000 in
set_option maxRecDepth 100000 in
/-- PatternSieveModel.classesOf -/
theorem c_Mo_classesOf (l : Launch) (D : va_G) (cI cB cZ : ClassId) (v : Nat) (hv : v < 256) (sz : Nat) : Met l y_Mo_classesOf cw_Mo_classesOf ({ frames := 0, cells := 0, slots := 0, locals := 0 }) (va_Pc [.int (nI v)] (Bp D cI cB cZ ([] : va_W) sz)) (va_Qi (S := Unit) (fun r _ => r = nI (clsN v)) (fun v_ => Bq D cI cB cZ (va_A ([] : va_W) sz) ([])) (va_A ([] : va_W) sz)) 0 0 (va_A ([] : va_W) sz) := by
  refine Met.ofW (cc := b_Mo_classesOf) (maxL := 1) (ret := (some FieldType.int)) (by decide) rfl ?_
  intro p e s m args below meth c1 s₁ B hml hv
  obtain ⟨rfl, hsz, hP, hK, hD0, hN⟩ := hv
  subst hsz
  have hx := B.exec
  have hb := B.bytes
  have hr := B.returns
  have hT : ∀ w ∈ tw_, w.before _ s = true := fun w h => atoms_spec (ws := cw_Mo_classesOf) B.pre w (List.mem_cons_of_mem _ h)
  have hown : s.vm.findClass R_Mo = some m.cls := findClass_of_methodNamed B.named
  have hlocks := B.notSynchronized
  have hD := hD0.self (sz := s.heap.size)
  generalize hAe : va_A ([] : va_W) s.heap.size = A at hD ⊢
  have hA : ∀ q : Nat, s.heap.size ≤ q → A q := fun q h => by rw [← hAe]; exact Or.inr h
  have hS : va_S A s.heap s.heap [] := va_S.rf
  have hl := lv_entry ([.int (nI v)]) (n := 1) (Nat.le_of_ble_eq_true rfl)
  rw [lg_entry_eq]
  generalize (lg_sl ([.int (nI v)]) ++ List.replicate (1 - (lg_sl ([.int (nI v)])).length) Slot.unset).toArray = ls at hl ⊢
  have hl : lv_has ls 1 [(0, .int (nI v))] := hl
  refine lv_iload_n hx hb d_Mo_classesOf_0 rfl (lv_at hl 0 rfl) ?_
  refine lv_bipush (v := nI 65) hx hb d_Mo_classesOf_1 (by decide) ?_
  refine y_icmp_lt (tgt := 15) hx hb (by omega) (by omega) d_Mo_classesOf_3 (by decide) (fun h1 => ?_) (fun h1 => ?_)
  · refine lv_iload_n hx hb d_Mo_classesOf_15 rfl (lv_at hl 0 rfl) ?_
    refine lv_bipush (v := nI 97) hx hb d_Mo_classesOf_16 (by decide) ?_
    refine y_icmp_lt (tgt := 30) hx hb (by omega) (by omega) d_Mo_classesOf_18 (by decide) (fun h3 => ?_) (fun h3 => ?_)
    · refine lv_iload_n hx hb d_Mo_classesOf_30 rfl (lv_at hl 0 rfl) ?_
      refine lv_bipush (v := nI 48) hx hb d_Mo_classesOf_31 (by decide) ?_
      refine y_icmp_lt (tgt := 45) hx hb (by omega) (by omega) d_Mo_classesOf_33 (by decide) (fun h5 => ?_) (fun h5 => ?_)
      · refine lv_iload_n hx hb d_Mo_classesOf_45 rfl (lv_at hl 0 rfl) ?_
        refine lv_bipush (v := nI 32) hx hb d_Mo_classesOf_46 (by decide) ?_
        refine y_icmp_lt (tgt := 57) hx hb (by omega) (by omega) d_Mo_classesOf_48 (by decide) (fun h6 => ?_) (fun h6 => ?_)
        · refine lv_bipush (v := nI 96) hx hb d_Mo_classesOf_57 (by decide) ?_
          refine lv_goto (tgt := 75) hx hb d_Mo_classesOf_59 (by decide) ?_
          exact y_iret hx hb hr hlocks hK () hP hD hS (by unfold clsN; (repeat' split) <;> first | rfl | omega) d_Mo_classesOf_75
        · refine lv_iload_n hx hb d_Mo_classesOf_51 rfl (lv_at hl 0 rfl) ?_
          refine lv_bipush (v := nI 127) hx hb d_Mo_classesOf_52 (by decide) ?_
          refine y_icmp_ne (tgt := 62) hx hb (by omega) (by omega) d_Mo_classesOf_54 (by decide) (fun h7 => ?_) (fun h7 => ?_)
          · refine lv_iload_n hx hb d_Mo_classesOf_62 rfl (lv_at hl 0 rfl) ?_
            refine lv_bipush (v := nI 127) hx hb d_Mo_classesOf_63 (by decide) ?_
            refine y_icmp_ge (tgt := 73) hx hb (by omega) (by omega) d_Mo_classesOf_65 (by decide) (fun h8 => ?_) (fun h8 => ?_)
            · refine lv_bipush (v := nI 64) hx hb d_Mo_classesOf_73 (by decide) ?_
              exact y_iret hx hb hr hlocks hK () hP hD hS (by unfold clsN; (repeat' split) <;> first | rfl | omega) d_Mo_classesOf_75
            · refine lv_bipush (v := nI 80) hx hb d_Mo_classesOf_68 (by decide) ?_
              refine lv_goto (tgt := 75) hx hb d_Mo_classesOf_70 (by decide) ?_
              exact y_iret hx hb hr hlocks hK () hP hD hS (by unfold clsN; (repeat' split) <;> first | rfl | omega) d_Mo_classesOf_75
          · refine lv_bipush (v := nI 96) hx hb d_Mo_classesOf_57 (by decide) ?_
            refine lv_goto (tgt := 75) hx hb d_Mo_classesOf_59 (by decide) ?_
            exact y_iret hx hb hr hlocks hK () hP hD hS (by unfold clsN; (repeat' split) <;> first | rfl | omega) d_Mo_classesOf_75
      · refine lv_iload_n hx hb d_Mo_classesOf_36 rfl (lv_at hl 0 rfl) ?_
        refine lv_bipush (v := nI 57) hx hb d_Mo_classesOf_37 (by decide) ?_
        refine y_icmp_gt (tgt := 45) hx hb (by omega) (by omega) d_Mo_classesOf_39 (by decide) (fun h55 => ?_) (fun h55 => ?_)
        · refine lv_iload_n hx hb d_Mo_classesOf_45 rfl (lv_at hl 0 rfl) ?_
          refine lv_bipush (v := nI 32) hx hb d_Mo_classesOf_46 (by decide) ?_
          refine y_icmp_lt (tgt := 57) hx hb (by omega) (by omega) d_Mo_classesOf_48 (by decide) (fun h6 => ?_) (fun h6 => ?_)
          · refine lv_bipush (v := nI 96) hx hb d_Mo_classesOf_57 (by decide) ?_
            refine lv_goto (tgt := 75) hx hb d_Mo_classesOf_59 (by decide) ?_
            exact y_iret hx hb hr hlocks hK () hP hD hS (by unfold clsN; (repeat' split) <;> first | rfl | omega) d_Mo_classesOf_75
          · refine lv_iload_n hx hb d_Mo_classesOf_51 rfl (lv_at hl 0 rfl) ?_
            refine lv_bipush (v := nI 127) hx hb d_Mo_classesOf_52 (by decide) ?_
            refine y_icmp_ne (tgt := 62) hx hb (by omega) (by omega) d_Mo_classesOf_54 (by decide) (fun h7 => ?_) (fun h7 => ?_)
            · refine lv_iload_n hx hb d_Mo_classesOf_62 rfl (lv_at hl 0 rfl) ?_
              refine lv_bipush (v := nI 127) hx hb d_Mo_classesOf_63 (by decide) ?_
              refine y_icmp_ge (tgt := 73) hx hb (by omega) (by omega) d_Mo_classesOf_65 (by decide) (fun h8 => ?_) (fun h8 => ?_)
              · refine lv_bipush (v := nI 64) hx hb d_Mo_classesOf_73 (by decide) ?_
                exact y_iret hx hb hr hlocks hK () hP hD hS (by unfold clsN; (repeat' split) <;> first | rfl | omega) d_Mo_classesOf_75
              · refine lv_bipush (v := nI 80) hx hb d_Mo_classesOf_68 (by decide) ?_
                refine lv_goto (tgt := 75) hx hb d_Mo_classesOf_70 (by decide) ?_
                exact y_iret hx hb hr hlocks hK () hP hD hS (by unfold clsN; (repeat' split) <;> first | rfl | omega) d_Mo_classesOf_75
            · refine lv_bipush (v := nI 96) hx hb d_Mo_classesOf_57 (by decide) ?_
              refine lv_goto (tgt := 75) hx hb d_Mo_classesOf_59 (by decide) ?_
              exact y_iret hx hb hr hlocks hK () hP hD hS (by unfold clsN; (repeat' split) <;> first | rfl | omega) d_Mo_classesOf_75
        · refine lv_bipush (v := nI 72) hx hb d_Mo_classesOf_42 (by decide) ?_
          exact y_iret hx hb hr hlocks hK () hP hD hS (by unfold clsN; (repeat' split) <;> first | rfl | omega) d_Mo_classesOf_44
    · refine lv_iload_n hx hb d_Mo_classesOf_21 rfl (lv_at hl 0 rfl) ?_
      refine lv_bipush (v := nI 122) hx hb d_Mo_classesOf_22 (by decide) ?_
      refine y_icmp_gt (tgt := 30) hx hb (by omega) (by omega) d_Mo_classesOf_24 (by decide) (fun h4 => ?_) (fun h4 => ?_)
      · refine lv_iload_n hx hb d_Mo_classesOf_30 rfl (lv_at hl 0 rfl) ?_
        refine lv_bipush (v := nI 48) hx hb d_Mo_classesOf_31 (by decide) ?_
        refine y_icmp_lt (tgt := 45) hx hb (by omega) (by omega) d_Mo_classesOf_33 (by decide) (fun h5 => ?_) (fun h5 => ?_)
        · refine lv_iload_n hx hb d_Mo_classesOf_45 rfl (lv_at hl 0 rfl) ?_
          refine lv_bipush (v := nI 32) hx hb d_Mo_classesOf_46 (by decide) ?_
          refine y_icmp_lt (tgt := 57) hx hb (by omega) (by omega) d_Mo_classesOf_48 (by decide) (fun h6 => ?_) (fun h6 => ?_)
          · refine lv_bipush (v := nI 96) hx hb d_Mo_classesOf_57 (by decide) ?_
            refine lv_goto (tgt := 75) hx hb d_Mo_classesOf_59 (by decide) ?_
            exact y_iret hx hb hr hlocks hK () hP hD hS (by unfold clsN; (repeat' split) <;> first | rfl | omega) d_Mo_classesOf_75
          · refine lv_iload_n hx hb d_Mo_classesOf_51 rfl (lv_at hl 0 rfl) ?_
            refine lv_bipush (v := nI 127) hx hb d_Mo_classesOf_52 (by decide) ?_
            refine y_icmp_ne (tgt := 62) hx hb (by omega) (by omega) d_Mo_classesOf_54 (by decide) (fun h7 => ?_) (fun h7 => ?_)
            · refine lv_iload_n hx hb d_Mo_classesOf_62 rfl (lv_at hl 0 rfl) ?_
              refine lv_bipush (v := nI 127) hx hb d_Mo_classesOf_63 (by decide) ?_
              refine y_icmp_ge (tgt := 73) hx hb (by omega) (by omega) d_Mo_classesOf_65 (by decide) (fun h8 => ?_) (fun h8 => ?_)
              · refine lv_bipush (v := nI 64) hx hb d_Mo_classesOf_73 (by decide) ?_
                exact y_iret hx hb hr hlocks hK () hP hD hS (by unfold clsN; (repeat' split) <;> first | rfl | omega) d_Mo_classesOf_75
              · refine lv_bipush (v := nI 80) hx hb d_Mo_classesOf_68 (by decide) ?_
                refine lv_goto (tgt := 75) hx hb d_Mo_classesOf_70 (by decide) ?_
                exact y_iret hx hb hr hlocks hK () hP hD hS (by unfold clsN; (repeat' split) <;> first | rfl | omega) d_Mo_classesOf_75
            · refine lv_bipush (v := nI 96) hx hb d_Mo_classesOf_57 (by decide) ?_
              refine lv_goto (tgt := 75) hx hb d_Mo_classesOf_59 (by decide) ?_
              exact y_iret hx hb hr hlocks hK () hP hD hS (by unfold clsN; (repeat' split) <;> first | rfl | omega) d_Mo_classesOf_75
        · refine lv_iload_n hx hb d_Mo_classesOf_36 rfl (lv_at hl 0 rfl) ?_
          refine lv_bipush (v := nI 57) hx hb d_Mo_classesOf_37 (by decide) ?_
          refine y_icmp_gt (tgt := 45) hx hb (by omega) (by omega) d_Mo_classesOf_39 (by decide) (fun h55 => ?_) (fun h55 => ?_)
          · refine lv_iload_n hx hb d_Mo_classesOf_45 rfl (lv_at hl 0 rfl) ?_
            refine lv_bipush (v := nI 32) hx hb d_Mo_classesOf_46 (by decide) ?_
            refine y_icmp_lt (tgt := 57) hx hb (by omega) (by omega) d_Mo_classesOf_48 (by decide) (fun h6 => ?_) (fun h6 => ?_)
            · refine lv_bipush (v := nI 96) hx hb d_Mo_classesOf_57 (by decide) ?_
              refine lv_goto (tgt := 75) hx hb d_Mo_classesOf_59 (by decide) ?_
              exact y_iret hx hb hr hlocks hK () hP hD hS (by unfold clsN; (repeat' split) <;> first | rfl | omega) d_Mo_classesOf_75
            · refine lv_iload_n hx hb d_Mo_classesOf_51 rfl (lv_at hl 0 rfl) ?_
              refine lv_bipush (v := nI 127) hx hb d_Mo_classesOf_52 (by decide) ?_
              refine y_icmp_ne (tgt := 62) hx hb (by omega) (by omega) d_Mo_classesOf_54 (by decide) (fun h7 => ?_) (fun h7 => ?_)
              · refine lv_iload_n hx hb d_Mo_classesOf_62 rfl (lv_at hl 0 rfl) ?_
                refine lv_bipush (v := nI 127) hx hb d_Mo_classesOf_63 (by decide) ?_
                refine y_icmp_ge (tgt := 73) hx hb (by omega) (by omega) d_Mo_classesOf_65 (by decide) (fun h8 => ?_) (fun h8 => ?_)
                · refine lv_bipush (v := nI 64) hx hb d_Mo_classesOf_73 (by decide) ?_
                  exact y_iret hx hb hr hlocks hK () hP hD hS (by unfold clsN; (repeat' split) <;> first | rfl | omega) d_Mo_classesOf_75
                · refine lv_bipush (v := nI 80) hx hb d_Mo_classesOf_68 (by decide) ?_
                  refine lv_goto (tgt := 75) hx hb d_Mo_classesOf_70 (by decide) ?_
                  exact y_iret hx hb hr hlocks hK () hP hD hS (by unfold clsN; (repeat' split) <;> first | rfl | omega) d_Mo_classesOf_75
              · refine lv_bipush (v := nI 96) hx hb d_Mo_classesOf_57 (by decide) ?_
                refine lv_goto (tgt := 75) hx hb d_Mo_classesOf_59 (by decide) ?_
                exact y_iret hx hb hr hlocks hK () hP hD hS (by unfold clsN; (repeat' split) <;> first | rfl | omega) d_Mo_classesOf_75
          · refine lv_bipush (v := nI 72) hx hb d_Mo_classesOf_42 (by decide) ?_
            exact y_iret hx hb hr hlocks hK () hP hD hS (by unfold clsN; (repeat' split) <;> first | rfl | omega) d_Mo_classesOf_44
      · refine lv_bipush (v := nI 69) hx hb d_Mo_classesOf_27 (by decide) ?_
        exact y_iret hx hb hr hlocks hK () hP hD hS (by unfold clsN; (repeat' split) <;> first | rfl | omega) d_Mo_classesOf_29
  · refine lv_iload_n hx hb d_Mo_classesOf_6 rfl (lv_at hl 0 rfl) ?_
    refine lv_bipush (v := nI 90) hx hb d_Mo_classesOf_7 (by decide) ?_
    refine y_icmp_gt (tgt := 15) hx hb (by omega) (by omega) d_Mo_classesOf_9 (by decide) (fun h2 => ?_) (fun h2 => ?_)
    · refine lv_iload_n hx hb d_Mo_classesOf_15 rfl (lv_at hl 0 rfl) ?_
      refine lv_bipush (v := nI 97) hx hb d_Mo_classesOf_16 (by decide) ?_
      refine y_icmp_lt (tgt := 30) hx hb (by omega) (by omega) d_Mo_classesOf_18 (by decide) (fun h3 => ?_) (fun h3 => ?_)
      · refine lv_iload_n hx hb d_Mo_classesOf_30 rfl (lv_at hl 0 rfl) ?_
        refine lv_bipush (v := nI 48) hx hb d_Mo_classesOf_31 (by decide) ?_
        refine y_icmp_lt (tgt := 45) hx hb (by omega) (by omega) d_Mo_classesOf_33 (by decide) (fun h5 => ?_) (fun h5 => ?_)
        · refine lv_iload_n hx hb d_Mo_classesOf_45 rfl (lv_at hl 0 rfl) ?_
          refine lv_bipush (v := nI 32) hx hb d_Mo_classesOf_46 (by decide) ?_
          refine y_icmp_lt (tgt := 57) hx hb (by omega) (by omega) d_Mo_classesOf_48 (by decide) (fun h6 => ?_) (fun h6 => ?_)
          · refine lv_bipush (v := nI 96) hx hb d_Mo_classesOf_57 (by decide) ?_
            refine lv_goto (tgt := 75) hx hb d_Mo_classesOf_59 (by decide) ?_
            exact y_iret hx hb hr hlocks hK () hP hD hS (by unfold clsN; (repeat' split) <;> first | rfl | omega) d_Mo_classesOf_75
          · refine lv_iload_n hx hb d_Mo_classesOf_51 rfl (lv_at hl 0 rfl) ?_
            refine lv_bipush (v := nI 127) hx hb d_Mo_classesOf_52 (by decide) ?_
            refine y_icmp_ne (tgt := 62) hx hb (by omega) (by omega) d_Mo_classesOf_54 (by decide) (fun h7 => ?_) (fun h7 => ?_)
            · refine lv_iload_n hx hb d_Mo_classesOf_62 rfl (lv_at hl 0 rfl) ?_
              refine lv_bipush (v := nI 127) hx hb d_Mo_classesOf_63 (by decide) ?_
              refine y_icmp_ge (tgt := 73) hx hb (by omega) (by omega) d_Mo_classesOf_65 (by decide) (fun h8 => ?_) (fun h8 => ?_)
              · refine lv_bipush (v := nI 64) hx hb d_Mo_classesOf_73 (by decide) ?_
                exact y_iret hx hb hr hlocks hK () hP hD hS (by unfold clsN; (repeat' split) <;> first | rfl | omega) d_Mo_classesOf_75
              · refine lv_bipush (v := nI 80) hx hb d_Mo_classesOf_68 (by decide) ?_
                refine lv_goto (tgt := 75) hx hb d_Mo_classesOf_70 (by decide) ?_
                exact y_iret hx hb hr hlocks hK () hP hD hS (by unfold clsN; (repeat' split) <;> first | rfl | omega) d_Mo_classesOf_75
            · refine lv_bipush (v := nI 96) hx hb d_Mo_classesOf_57 (by decide) ?_
              refine lv_goto (tgt := 75) hx hb d_Mo_classesOf_59 (by decide) ?_
              exact y_iret hx hb hr hlocks hK () hP hD hS (by unfold clsN; (repeat' split) <;> first | rfl | omega) d_Mo_classesOf_75
        · refine lv_iload_n hx hb d_Mo_classesOf_36 rfl (lv_at hl 0 rfl) ?_
          refine lv_bipush (v := nI 57) hx hb d_Mo_classesOf_37 (by decide) ?_
          refine y_icmp_gt (tgt := 45) hx hb (by omega) (by omega) d_Mo_classesOf_39 (by decide) (fun h55 => ?_) (fun h55 => ?_)
          · refine lv_iload_n hx hb d_Mo_classesOf_45 rfl (lv_at hl 0 rfl) ?_
            refine lv_bipush (v := nI 32) hx hb d_Mo_classesOf_46 (by decide) ?_
            refine y_icmp_lt (tgt := 57) hx hb (by omega) (by omega) d_Mo_classesOf_48 (by decide) (fun h6 => ?_) (fun h6 => ?_)
            · refine lv_bipush (v := nI 96) hx hb d_Mo_classesOf_57 (by decide) ?_
              refine lv_goto (tgt := 75) hx hb d_Mo_classesOf_59 (by decide) ?_
              exact y_iret hx hb hr hlocks hK () hP hD hS (by unfold clsN; (repeat' split) <;> first | rfl | omega) d_Mo_classesOf_75
            · refine lv_iload_n hx hb d_Mo_classesOf_51 rfl (lv_at hl 0 rfl) ?_
              refine lv_bipush (v := nI 127) hx hb d_Mo_classesOf_52 (by decide) ?_
              refine y_icmp_ne (tgt := 62) hx hb (by omega) (by omega) d_Mo_classesOf_54 (by decide) (fun h7 => ?_) (fun h7 => ?_)
              · refine lv_iload_n hx hb d_Mo_classesOf_62 rfl (lv_at hl 0 rfl) ?_
                refine lv_bipush (v := nI 127) hx hb d_Mo_classesOf_63 (by decide) ?_
                refine y_icmp_ge (tgt := 73) hx hb (by omega) (by omega) d_Mo_classesOf_65 (by decide) (fun h8 => ?_) (fun h8 => ?_)
                · refine lv_bipush (v := nI 64) hx hb d_Mo_classesOf_73 (by decide) ?_
                  exact y_iret hx hb hr hlocks hK () hP hD hS (by unfold clsN; (repeat' split) <;> first | rfl | omega) d_Mo_classesOf_75
                · refine lv_bipush (v := nI 80) hx hb d_Mo_classesOf_68 (by decide) ?_
                  refine lv_goto (tgt := 75) hx hb d_Mo_classesOf_70 (by decide) ?_
                  exact y_iret hx hb hr hlocks hK () hP hD hS (by unfold clsN; (repeat' split) <;> first | rfl | omega) d_Mo_classesOf_75
              · refine lv_bipush (v := nI 96) hx hb d_Mo_classesOf_57 (by decide) ?_
                refine lv_goto (tgt := 75) hx hb d_Mo_classesOf_59 (by decide) ?_
                exact y_iret hx hb hr hlocks hK () hP hD hS (by unfold clsN; (repeat' split) <;> first | rfl | omega) d_Mo_classesOf_75
          · refine lv_bipush (v := nI 72) hx hb d_Mo_classesOf_42 (by decide) ?_
            exact y_iret hx hb hr hlocks hK () hP hD hS (by unfold clsN; (repeat' split) <;> first | rfl | omega) d_Mo_classesOf_44
      · refine lv_iload_n hx hb d_Mo_classesOf_21 rfl (lv_at hl 0 rfl) ?_
        refine lv_bipush (v := nI 122) hx hb d_Mo_classesOf_22 (by decide) ?_
        refine y_icmp_gt (tgt := 30) hx hb (by omega) (by omega) d_Mo_classesOf_24 (by decide) (fun h4 => ?_) (fun h4 => ?_)
        · refine lv_iload_n hx hb d_Mo_classesOf_30 rfl (lv_at hl 0 rfl) ?_
          refine lv_bipush (v := nI 48) hx hb d_Mo_classesOf_31 (by decide) ?_
          refine y_icmp_lt (tgt := 45) hx hb (by omega) (by omega) d_Mo_classesOf_33 (by decide) (fun h5 => ?_) (fun h5 => ?_)
          · refine lv_iload_n hx hb d_Mo_classesOf_45 rfl (lv_at hl 0 rfl) ?_
            refine lv_bipush (v := nI 32) hx hb d_Mo_classesOf_46 (by decide) ?_
            refine y_icmp_lt (tgt := 57) hx hb (by omega) (by omega) d_Mo_classesOf_48 (by decide) (fun h6 => ?_) (fun h6 => ?_)
            · refine lv_bipush (v := nI 96) hx hb d_Mo_classesOf_57 (by decide) ?_
              refine lv_goto (tgt := 75) hx hb d_Mo_classesOf_59 (by decide) ?_
              exact y_iret hx hb hr hlocks hK () hP hD hS (by unfold clsN; (repeat' split) <;> first | rfl | omega) d_Mo_classesOf_75
            · refine lv_iload_n hx hb d_Mo_classesOf_51 rfl (lv_at hl 0 rfl) ?_
              refine lv_bipush (v := nI 127) hx hb d_Mo_classesOf_52 (by decide) ?_
              refine y_icmp_ne (tgt := 62) hx hb (by omega) (by omega) d_Mo_classesOf_54 (by decide) (fun h7 => ?_) (fun h7 => ?_)
              · refine lv_iload_n hx hb d_Mo_classesOf_62 rfl (lv_at hl 0 rfl) ?_
                refine lv_bipush (v := nI 127) hx hb d_Mo_classesOf_63 (by decide) ?_
                refine y_icmp_ge (tgt := 73) hx hb (by omega) (by omega) d_Mo_classesOf_65 (by decide) (fun h8 => ?_) (fun h8 => ?_)
                · refine lv_bipush (v := nI 64) hx hb d_Mo_classesOf_73 (by decide) ?_
                  exact y_iret hx hb hr hlocks hK () hP hD hS (by unfold clsN; (repeat' split) <;> first | rfl | omega) d_Mo_classesOf_75
                · refine lv_bipush (v := nI 80) hx hb d_Mo_classesOf_68 (by decide) ?_
                  refine lv_goto (tgt := 75) hx hb d_Mo_classesOf_70 (by decide) ?_
                  exact y_iret hx hb hr hlocks hK () hP hD hS (by unfold clsN; (repeat' split) <;> first | rfl | omega) d_Mo_classesOf_75
              · refine lv_bipush (v := nI 96) hx hb d_Mo_classesOf_57 (by decide) ?_
                refine lv_goto (tgt := 75) hx hb d_Mo_classesOf_59 (by decide) ?_
                exact y_iret hx hb hr hlocks hK () hP hD hS (by unfold clsN; (repeat' split) <;> first | rfl | omega) d_Mo_classesOf_75
          · refine lv_iload_n hx hb d_Mo_classesOf_36 rfl (lv_at hl 0 rfl) ?_
            refine lv_bipush (v := nI 57) hx hb d_Mo_classesOf_37 (by decide) ?_
            refine y_icmp_gt (tgt := 45) hx hb (by omega) (by omega) d_Mo_classesOf_39 (by decide) (fun h55 => ?_) (fun h55 => ?_)
            · refine lv_iload_n hx hb d_Mo_classesOf_45 rfl (lv_at hl 0 rfl) ?_
              refine lv_bipush (v := nI 32) hx hb d_Mo_classesOf_46 (by decide) ?_
              refine y_icmp_lt (tgt := 57) hx hb (by omega) (by omega) d_Mo_classesOf_48 (by decide) (fun h6 => ?_) (fun h6 => ?_)
              · refine lv_bipush (v := nI 96) hx hb d_Mo_classesOf_57 (by decide) ?_
                refine lv_goto (tgt := 75) hx hb d_Mo_classesOf_59 (by decide) ?_
                exact y_iret hx hb hr hlocks hK () hP hD hS (by unfold clsN; (repeat' split) <;> first | rfl | omega) d_Mo_classesOf_75
              · refine lv_iload_n hx hb d_Mo_classesOf_51 rfl (lv_at hl 0 rfl) ?_
                refine lv_bipush (v := nI 127) hx hb d_Mo_classesOf_52 (by decide) ?_
                refine y_icmp_ne (tgt := 62) hx hb (by omega) (by omega) d_Mo_classesOf_54 (by decide) (fun h7 => ?_) (fun h7 => ?_)
                · refine lv_iload_n hx hb d_Mo_classesOf_62 rfl (lv_at hl 0 rfl) ?_
                  refine lv_bipush (v := nI 127) hx hb d_Mo_classesOf_63 (by decide) ?_
                  refine y_icmp_ge (tgt := 73) hx hb (by omega) (by omega) d_Mo_classesOf_65 (by decide) (fun h8 => ?_) (fun h8 => ?_)
                  · refine lv_bipush (v := nI 64) hx hb d_Mo_classesOf_73 (by decide) ?_
                    exact y_iret hx hb hr hlocks hK () hP hD hS (by unfold clsN; (repeat' split) <;> first | rfl | omega) d_Mo_classesOf_75
                  · refine lv_bipush (v := nI 80) hx hb d_Mo_classesOf_68 (by decide) ?_
                    refine lv_goto (tgt := 75) hx hb d_Mo_classesOf_70 (by decide) ?_
                    exact y_iret hx hb hr hlocks hK () hP hD hS (by unfold clsN; (repeat' split) <;> first | rfl | omega) d_Mo_classesOf_75
                · refine lv_bipush (v := nI 96) hx hb d_Mo_classesOf_57 (by decide) ?_
                  refine lv_goto (tgt := 75) hx hb d_Mo_classesOf_59 (by decide) ?_
                  exact y_iret hx hb hr hlocks hK () hP hD hS (by unfold clsN; (repeat' split) <;> first | rfl | omega) d_Mo_classesOf_75
            · refine lv_bipush (v := nI 72) hx hb d_Mo_classesOf_42 (by decide) ?_
              exact y_iret hx hb hr hlocks hK () hP hD hS (by unfold clsN; (repeat' split) <;> first | rfl | omega) d_Mo_classesOf_44
        · refine lv_bipush (v := nI 69) hx hb d_Mo_classesOf_27 (by decide) ?_
          exact y_iret hx hb hr hlocks hK () hP hD hS (by unfold clsN; (repeat' split) <;> first | rfl | omega) d_Mo_classesOf_29
    · refine lv_bipush (v := nI 67) hx hb d_Mo_classesOf_12 (by decide) ?_
      exact y_iret hx hb hr hlocks hK () hP hD hS (by unfold clsN; (repeat' split) <;> first | rfl | omega) d_Mo_classesOf_14
end
section
set_option maxHeartbeats 4000000 in
set_option maxRecDepth 100000 in
/-- Pattern.isClass -/
theorem c_Pt_isClass (l : Launch) (D : va_G) (cI cB cZ : ClassId) (x : Int32) (sz : Nat) : Met l y_Pt_isClass cw_Pt_isClass ({ frames := 0, cells := 0, slots := 0, locals := 0 }) (va_Pc [.int x] (Bp D cI cB cZ ([] : va_W) sz)) (va_Qi (S := Unit) (fun r _ => r = zb (bitN x ≠ 0)) (fun v_ => Bq D cI cB cZ (va_A ([] : va_W) sz) ([])) (va_A ([] : va_W) sz)) 0 0 (va_A ([] : va_W) sz) := by
  refine Met.ofW (cc := b_Pt_isClass) (maxL := 1) (ret := (some FieldType.boolean)) (by decide) rfl ?_
  intro p e s m args below meth c1 s₁ B hml hv
  obtain ⟨rfl, hsz, hP, hK, hD0, hN⟩ := hv
  subst hsz
  have hx := B.exec
  have hb := B.bytes
  have hr := B.returns
  have hT : ∀ w ∈ tw_, w.before _ s = true := fun w h => atoms_spec (ws := cw_Pt_isClass) B.pre w (List.mem_cons_of_mem _ h)
  have hown : s.vm.findClass R_Pt = some m.cls := findClass_of_methodNamed B.named
  have hlocks := B.notSynchronized
  have hD := hD0.self (sz := s.heap.size)
  generalize hAe : va_A ([] : va_W) s.heap.size = A at hD ⊢
  have hA : ∀ q : Nat, s.heap.size ≤ q → A q := fun q h => by rw [← hAe]; exact Or.inr h
  have hS : va_S A s.heap s.heap [] := va_S.rf
  have hl := lv_entry ([.int x]) (n := 1) (Nat.le_of_ble_eq_true rfl)
  rw [lg_entry_eq]
  generalize (lg_sl ([.int x]) ++ List.replicate (1 - (lg_sl ([.int x])).length) Slot.unset).toArray = ls at hl ⊢
  have hl : lv_has ls 1 [(0, .int x)] := hl
  refine y_join (pcj := 47) (stj := [.int (zb (bitN x ≠ 0))]) ?_ (fun hj => ?_)
  · exact y_zret hx hb hr hlocks hK () hP hD hS rfl d_Pt_isClass_47
  · refine lv_iload_n hx hb d_Pt_isClass_0 rfl (lv_at hl 0 rfl) ?_
    refine lv_bipush (v := nI 65) hx hb d_Pt_isClass_1 (by decide) ?_
    refine lv_icmp_eq (tgt := 42) hx hb d_Pt_isClass_3 (by decide) (fun h1 => ?_) (fun h1 => ?_)
    · refine lv_iconst (v := nI 1) hx hb d_Pt_isClass_42 (by decide) ?_
      refine lv_goto (tgt := 47) hx hb d_Pt_isClass_43 (by decide) ?_
      exact y_to (z1 (by rw [h1]; decide)) hj
    · refine lv_iload_n hx hb d_Pt_isClass_6 rfl (lv_at hl 0 rfl) ?_
      refine lv_bipush (v := nI 85) hx hb d_Pt_isClass_7 (by decide) ?_
      refine lv_icmp_eq (tgt := 42) hx hb d_Pt_isClass_9 (by decide) (fun h2 => ?_) (fun h2 => ?_)
      · refine lv_iconst (v := nI 1) hx hb d_Pt_isClass_42 (by decide) ?_
        refine lv_goto (tgt := 47) hx hb d_Pt_isClass_43 (by decide) ?_
        exact y_to (z1 (by rw [h2]; decide)) hj
      · refine lv_iload_n hx hb d_Pt_isClass_12 rfl (lv_at hl 0 rfl) ?_
        refine lv_bipush (v := nI 76) hx hb d_Pt_isClass_13 (by decide) ?_
        refine lv_icmp_eq (tgt := 42) hx hb d_Pt_isClass_15 (by decide) (fun h3 => ?_) (fun h3 => ?_)
        · refine lv_iconst (v := nI 1) hx hb d_Pt_isClass_42 (by decide) ?_
          refine lv_goto (tgt := 47) hx hb d_Pt_isClass_43 (by decide) ?_
          exact y_to (z1 (by rw [h3]; decide)) hj
        · refine lv_iload_n hx hb d_Pt_isClass_18 rfl (lv_at hl 0 rfl) ?_
          refine lv_bipush (v := nI 78) hx hb d_Pt_isClass_19 (by decide) ?_
          refine lv_icmp_eq (tgt := 42) hx hb d_Pt_isClass_21 (by decide) (fun h4 => ?_) (fun h4 => ?_)
          · refine lv_iconst (v := nI 1) hx hb d_Pt_isClass_42 (by decide) ?_
            refine lv_goto (tgt := 47) hx hb d_Pt_isClass_43 (by decide) ?_
            exact y_to (z1 (by rw [h4]; decide)) hj
          · refine lv_iload_n hx hb d_Pt_isClass_24 rfl (lv_at hl 0 rfl) ?_
            refine lv_bipush (v := nI 80) hx hb d_Pt_isClass_25 (by decide) ?_
            refine lv_icmp_eq (tgt := 42) hx hb d_Pt_isClass_27 (by decide) (fun h5 => ?_) (fun h5 => ?_)
            · refine lv_iconst (v := nI 1) hx hb d_Pt_isClass_42 (by decide) ?_
              refine lv_goto (tgt := 47) hx hb d_Pt_isClass_43 (by decide) ?_
              exact y_to (z1 (by rw [h5]; decide)) hj
            · refine lv_iload_n hx hb d_Pt_isClass_30 rfl (lv_at hl 0 rfl) ?_
              refine lv_bipush (v := nI 67) hx hb d_Pt_isClass_31 (by decide) ?_
              refine lv_icmp_eq (tgt := 42) hx hb d_Pt_isClass_33 (by decide) (fun h6 => ?_) (fun h6 => ?_)
              · refine lv_iconst (v := nI 1) hx hb d_Pt_isClass_42 (by decide) ?_
                refine lv_goto (tgt := 47) hx hb d_Pt_isClass_43 (by decide) ?_
                exact y_to (z1 (by rw [h6]; decide)) hj
              · refine lv_iload_n hx hb d_Pt_isClass_36 rfl (lv_at hl 0 rfl) ?_
                refine lv_bipush (v := nI 69) hx hb d_Pt_isClass_37 (by decide) ?_
                refine lv_icmp_ne (tgt := 46) hx hb d_Pt_isClass_39 (by decide) (fun h7 => ?_) (fun h7 => ?_)
                · refine lv_iconst (v := nI 0) hx hb d_Pt_isClass_46 (by decide) ?_
                  exact y_to (z0 (fun q => q (bitN_no h1 h2 h3 h4 h5 h6 h7))) hj
                · refine lv_iconst (v := nI 1) hx hb d_Pt_isClass_42 (by decide) ?_
                  refine lv_goto (tgt := 47) hx hb d_Pt_isClass_43 (by decide) ?_
                  exact y_to (z1 (by rw [show x = nI 69 from h7]; decide)) hj

set_option maxHeartbeats 4000000 in
set_option maxRecDepth 100000 in
/-- PatternSieveModel.bitOf -/
theorem c_Mo_bitOf (l : Launch) (D : va_G) (cI cB cZ : ClassId) (x : Int32) (sz : Nat) : Met l y_Mo_bitOf cw_Mo_bitOf ({ frames := 0, cells := 0, slots := 0, locals := 0 }) (va_Pc [.int x] (Bp D cI cB cZ ([] : va_W) sz)) (va_Qi (S := Unit) (fun r _ => r = nI (bitN x)) (fun v_ => Bq D cI cB cZ (va_A ([] : va_W) sz) ([])) (va_A ([] : va_W) sz)) 0 0 (va_A ([] : va_W) sz) := by
  refine Met.ofW (cc := b_Mo_bitOf) (maxL := 1) (ret := (some FieldType.int)) (by decide) rfl ?_
  intro p e s m args below meth c1 s₁ B hml hv
  obtain ⟨rfl, hsz, hP, hK, hD0, hN⟩ := hv
  subst hsz
  have hx := B.exec
  have hb := B.bytes
  have hr := B.returns
  have hT : ∀ w ∈ tw_, w.before _ s = true := fun w h => atoms_spec (ws := cw_Mo_bitOf) B.pre w (List.mem_cons_of_mem _ h)
  have hown : s.vm.findClass R_Mo = some m.cls := findClass_of_methodNamed B.named
  have hlocks := B.notSynchronized
  have hD := hD0.self (sz := s.heap.size)
  generalize hAe : va_A ([] : va_W) s.heap.size = A at hD ⊢
  have hA : ∀ q : Nat, s.heap.size ≤ q → A q := fun q h => by rw [← hAe]; exact Or.inr h
  have hS : va_S A s.heap s.heap [] := va_S.rf
  have hl := lv_entry ([.int x]) (n := 1) (Nat.le_of_ble_eq_true rfl)
  rw [lg_entry_eq]
  generalize (lg_sl ([.int x]) ++ List.replicate (1 - (lg_sl ([.int x])).length) Slot.unset).toArray = ls at hl ⊢
  have hl : lv_has ls 1 [(0, .int x)] := hl
  refine lv_iload_n hx hb d_Mo_bitOf_0 rfl (lv_at hl 0 rfl) ?_
  by_cases ho : x.toInt < 65 ∨ 85 < x.toInt
  · refine lv_tableOut (tgt := 118) hx hb d_Mo_bitOf_1 ho (by decide) ?_
    refine lv_iconst (v := nI 0) hx hb d_Mo_bitOf_118 (by decide) ?_
    exact y_iret hx hb hr hlocks hK () hP hD hS (by rw [bitN_out ho]) d_Mo_bitOf_119
  · obtain ⟨j, hj1, hj2, rfl⟩ := sw_in ho
    rcases (show j = 65 ∨ j = 66 ∨ j = 67 ∨ j = 68 ∨ j = 69 ∨ j = 70 ∨ j = 71 ∨ j = 72 ∨ j = 73 ∨ j = 74 ∨ j = 75 ∨ j = 76 ∨ j = 77 ∨ j = 78 ∨ j = 79 ∨ j = 80 ∨ j = 81 ∨ j = 82 ∨ j = 83 ∨ j = 84 ∨ j = 85 by omega) with rfl | rfl | rfl | rfl | rfl | rfl | rfl | rfl | rfl | rfl | rfl | rfl | rfl | rfl | rfl | rfl | rfl | rfl | rfl | rfl | rfl
    · refine lv_tableIn (off := 99) (tgt := 100) hx hb d_Mo_bitOf_1 (by decide) (by decide) (by decide) (by decide) ?_
      refine lv_iconst (v := nI 1) hx hb d_Mo_bitOf_100 (by decide) ?_
      exact y_iret hx hb hr hlocks hK () hP hD hS (by decide) d_Mo_bitOf_101
    · refine lv_tableIn (off := 117) (tgt := 118) hx hb d_Mo_bitOf_1 (by decide) (by decide) (by decide) (by decide) ?_
      refine lv_iconst (v := nI 0) hx hb d_Mo_bitOf_118 (by decide) ?_
      exact y_iret hx hb hr hlocks hK () hP hD hS (by decide) d_Mo_bitOf_119
    · refine lv_tableIn (off := 111) (tgt := 112) hx hb d_Mo_bitOf_1 (by decide) (by decide) (by decide) (by decide) ?_
      refine lv_bipush (v := nI 32) hx hb d_Mo_bitOf_112 (by decide) ?_
      exact y_iret hx hb hr hlocks hK () hP hD hS (by decide) d_Mo_bitOf_114
    · refine lv_tableIn (off := 117) (tgt := 118) hx hb d_Mo_bitOf_1 (by decide) (by decide) (by decide) (by decide) ?_
      refine lv_iconst (v := nI 0) hx hb d_Mo_bitOf_118 (by decide) ?_
      exact y_iret hx hb hr hlocks hK () hP hD hS (by decide) d_Mo_bitOf_119
    · refine lv_tableIn (off := 114) (tgt := 115) hx hb d_Mo_bitOf_1 (by decide) (by decide) (by decide) (by decide) ?_
      refine lv_bipush (v := nI 64) hx hb d_Mo_bitOf_115 (by decide) ?_
      exact y_iret hx hb hr hlocks hK () hP hD hS (by decide) d_Mo_bitOf_117
    · refine lv_tableIn (off := 117) (tgt := 118) hx hb d_Mo_bitOf_1 (by decide) (by decide) (by decide) (by decide) ?_
      refine lv_iconst (v := nI 0) hx hb d_Mo_bitOf_118 (by decide) ?_
      exact y_iret hx hb hr hlocks hK () hP hD hS (by decide) d_Mo_bitOf_119
    · refine lv_tableIn (off := 117) (tgt := 118) hx hb d_Mo_bitOf_1 (by decide) (by decide) (by decide) (by decide) ?_
      refine lv_iconst (v := nI 0) hx hb d_Mo_bitOf_118 (by decide) ?_
      exact y_iret hx hb hr hlocks hK () hP hD hS (by decide) d_Mo_bitOf_119
    · refine lv_tableIn (off := 117) (tgt := 118) hx hb d_Mo_bitOf_1 (by decide) (by decide) (by decide) (by decide) ?_
      refine lv_iconst (v := nI 0) hx hb d_Mo_bitOf_118 (by decide) ?_
      exact y_iret hx hb hr hlocks hK () hP hD hS (by decide) d_Mo_bitOf_119
    · refine lv_tableIn (off := 117) (tgt := 118) hx hb d_Mo_bitOf_1 (by decide) (by decide) (by decide) (by decide) ?_
      refine lv_iconst (v := nI 0) hx hb d_Mo_bitOf_118 (by decide) ?_
      exact y_iret hx hb hr hlocks hK () hP hD hS (by decide) d_Mo_bitOf_119
    · refine lv_tableIn (off := 117) (tgt := 118) hx hb d_Mo_bitOf_1 (by decide) (by decide) (by decide) (by decide) ?_
      refine lv_iconst (v := nI 0) hx hb d_Mo_bitOf_118 (by decide) ?_
      exact y_iret hx hb hr hlocks hK () hP hD hS (by decide) d_Mo_bitOf_119
    · refine lv_tableIn (off := 117) (tgt := 118) hx hb d_Mo_bitOf_1 (by decide) (by decide) (by decide) (by decide) ?_
      refine lv_iconst (v := nI 0) hx hb d_Mo_bitOf_118 (by decide) ?_
      exact y_iret hx hb hr hlocks hK () hP hD hS (by decide) d_Mo_bitOf_119
    · refine lv_tableIn (off := 103) (tgt := 104) hx hb d_Mo_bitOf_1 (by decide) (by decide) (by decide) (by decide) ?_
      refine lv_iconst (v := nI 4) hx hb d_Mo_bitOf_104 (by decide) ?_
      exact y_iret hx hb hr hlocks hK () hP hD hS (by decide) d_Mo_bitOf_105
    · refine lv_tableIn (off := 117) (tgt := 118) hx hb d_Mo_bitOf_1 (by decide) (by decide) (by decide) (by decide) ?_
      refine lv_iconst (v := nI 0) hx hb d_Mo_bitOf_118 (by decide) ?_
      exact y_iret hx hb hr hlocks hK () hP hD hS (by decide) d_Mo_bitOf_119
    · refine lv_tableIn (off := 105) (tgt := 106) hx hb d_Mo_bitOf_1 (by decide) (by decide) (by decide) (by decide) ?_
      refine lv_bipush (v := nI 8) hx hb d_Mo_bitOf_106 (by decide) ?_
      exact y_iret hx hb hr hlocks hK () hP hD hS (by decide) d_Mo_bitOf_108
    · refine lv_tableIn (off := 117) (tgt := 118) hx hb d_Mo_bitOf_1 (by decide) (by decide) (by decide) (by decide) ?_
      refine lv_iconst (v := nI 0) hx hb d_Mo_bitOf_118 (by decide) ?_
      exact y_iret hx hb hr hlocks hK () hP hD hS (by decide) d_Mo_bitOf_119
    · refine lv_tableIn (off := 108) (tgt := 109) hx hb d_Mo_bitOf_1 (by decide) (by decide) (by decide) (by decide) ?_
      refine lv_bipush (v := nI 16) hx hb d_Mo_bitOf_109 (by decide) ?_
      exact y_iret hx hb hr hlocks hK () hP hD hS (by decide) d_Mo_bitOf_111
    · refine lv_tableIn (off := 117) (tgt := 118) hx hb d_Mo_bitOf_1 (by decide) (by decide) (by decide) (by decide) ?_
      refine lv_iconst (v := nI 0) hx hb d_Mo_bitOf_118 (by decide) ?_
      exact y_iret hx hb hr hlocks hK () hP hD hS (by decide) d_Mo_bitOf_119
    · refine lv_tableIn (off := 117) (tgt := 118) hx hb d_Mo_bitOf_1 (by decide) (by decide) (by decide) (by decide) ?_
      refine lv_iconst (v := nI 0) hx hb d_Mo_bitOf_118 (by decide) ?_
      exact y_iret hx hb hr hlocks hK () hP hD hS (by decide) d_Mo_bitOf_119
    · refine lv_tableIn (off := 117) (tgt := 118) hx hb d_Mo_bitOf_1 (by decide) (by decide) (by decide) (by decide) ?_
      refine lv_iconst (v := nI 0) hx hb d_Mo_bitOf_118 (by decide) ?_
      exact y_iret hx hb hr hlocks hK () hP hD hS (by decide) d_Mo_bitOf_119
    · refine lv_tableIn (off := 117) (tgt := 118) hx hb d_Mo_bitOf_1 (by decide) (by decide) (by decide) (by decide) ?_
      refine lv_iconst (v := nI 0) hx hb d_Mo_bitOf_118 (by decide) ?_
      exact y_iret hx hb hr hlocks hK () hP hD hS (by decide) d_Mo_bitOf_119
    · refine lv_tableIn (off := 101) (tgt := 102) hx hb d_Mo_bitOf_1 (by decide) (by decide) (by decide) (by decide) ?_
      refine lv_iconst (v := nI 2) hx hb d_Mo_bitOf_102 (by decide) ?_
      exact y_iret hx hb hr hlocks hK () hP hD hS (by decide) d_Mo_bitOf_103

set_option maxHeartbeats 4000000 in
set_option maxRecDepth 100000 in
/-- Pile.size -/
theorem c_Pi_size (l : Launch) (D : va_G) (cI cB cZ : ClassId) (a : Nat → Nat) (z : Nat) (tx : Nat → Int8) (sl : Int32) (sz : Nat) : Met l y_Pi_size cw_Pi_size ({ frames := 0, cells := 0, slots := 0, locals := 0 }) (va_Pc [.ref (a 10), .int sl] (Bp D cI cB cZ (wPi cB a z tx) sz)) (va_Qi (S := Unit) (fun r _ => r = nI z) (fun v_ => Bq D cI cB cZ (va_A (wPi cB a z tx) sz) ((wPi cB a z tx))) (va_A (wPi cB a z tx) sz)) 0 0 (va_A (wPi cB a z tx) sz) := by
  refine Met.ofW (cc := b_Pi_size) (maxL := 2) (ret := (some FieldType.int)) (by decide) rfl ?_
  intro p e s m args below meth c1 s₁ B hml hv
  obtain ⟨rfl, hsz, hP, hK, hD0, hN⟩ := hv
  subst hsz
  have hx := B.exec
  have hb := B.bytes
  have hr := B.returns
  have hT : ∀ w ∈ tw_, w.before _ s = true := fun w h => atoms_spec (ws := cw_Pi_size) B.pre w (List.mem_cons_of_mem _ h)
  have hown : s.vm.findClass R_Pi = some m.cls := findClass_of_methodNamed B.named
  have hlocks := B.notSynchronized
  have hD := hD0.self (sz := s.heap.size)
  generalize hAe : va_A (wPi cB a z tx) s.heap.size = A at hD ⊢
  have hA : ∀ q : Nat, s.heap.size ≤ q → A q := fun q h => by rw [← hAe]; exact Or.inr h
  have hS : va_S A s.heap s.heap [] := va_S.rf
  have hl := lv_entry ([.ref (a 10), .int sl]) (n := 2) (Nat.le_of_ble_eq_true rfl)
  rw [lg_entry_eq]
  generalize (lg_sl ([.ref (a 10), .int sl]) ++ List.replicate (2 - (lg_sl ([.ref (a 10), .int sl])).length) Slot.unset).toArray = ls at hl ⊢
  have hl : lv_has ls 2 [(0, .ref (a 10)), (1, .int sl)] := hl
  refine lv_aload_n hx hb d_Pi_size_0 rfl (lv_at hl 0 rfl) ?_
  refine va_get (D := D) (ci := 2) (v := .int (nI z)) (C := R_Pi) (T := F_Pi) (N := 2) hx hb hT i_Pi hown hK hP 0 rfl rfl 1 (by decide) (hT _ tw_k28) (fun _ h9 => h9) rfl d_Pi_size_1 ?_
  exact y_iret hx hb hr hlocks hK () hP hD hS rfl d_Pi_size_4

set_option maxHeartbeats 4000000 in
set_option maxRecDepth 100000 in
/-- Pile.get -/
theorem c_Pi_get (l : Launch) (D : va_G) (cI cB cZ : ClassId) (a : Nat → Nat) (z : Nat) (tx : Nat → Int8) (sl : Int32) (i : Nat) (hi : i < 256) (sz : Nat) : Met l y_Pi_get cw_Pi_get ({ frames := 0, cells := 0, slots := 0, locals := 0 }) (va_Pc [.ref (a 10), .int sl, .int (nI i)] (Bp D cI cB cZ (wPi cB a z tx) sz)) (va_Qi (S := Unit) (fun r _ => r = nI (ub (tx i))) (fun v_ => Bq D cI cB cZ (va_A (wPi cB a z tx) sz) ((wPi cB a z tx))) (va_A (wPi cB a z tx) sz)) 0 0 (va_A (wPi cB a z tx) sz) := by
  refine Met.ofW (cc := b_Pi_get) (maxL := 3) (ret := (some FieldType.int)) (by decide) rfl ?_
  intro p e s m args below meth c1 s₁ B hml hv
  obtain ⟨rfl, hsz, hP, hK, hD0, hN⟩ := hv
  subst hsz
  have hx := B.exec
  have hb := B.bytes
  have hr := B.returns
  have hT : ∀ w ∈ tw_, w.before _ s = true := fun w h => atoms_spec (ws := cw_Pi_get) B.pre w (List.mem_cons_of_mem _ h)
  have hown : s.vm.findClass R_Pi = some m.cls := findClass_of_methodNamed B.named
  have hlocks := B.notSynchronized
  have hD := hD0.self (sz := s.heap.size)
  generalize hAe : va_A (wPi cB a z tx) s.heap.size = A at hD ⊢
  have hA : ∀ q : Nat, s.heap.size ≤ q → A q := fun q h => by rw [← hAe]; exact Or.inr h
  have hS : va_S A s.heap s.heap [] := va_S.rf
  have hl := lv_entry ([.ref (a 10), .int sl, .int (nI i)]) (n := 3) (Nat.le_of_ble_eq_true rfl)
  rw [lg_entry_eq]
  generalize (lg_sl ([.ref (a 10), .int sl, .int (nI i)]) ++ List.replicate (3 - (lg_sl ([.ref (a 10), .int sl, .int (nI i)])).length) Slot.unset).toArray = ls at hl ⊢
  have hl : lv_has ls 3 [(0, .ref (a 10)), (1, .int sl), (2, .int (nI i))] := hl
  refine lv_aload_n hx hb d_Pi_get_0 rfl (lv_at hl 0 rfl) ?_
  refine va_get (D := D) (ci := 2) (v := .ref (a 11)) (C := R_Pi) (T := F_Pi) (N := 2) hx hb hT i_Pi hown hK hP 0 rfl rfl 0 (by decide) (hT _ tw_k26) (fun _ h9 => h9) rfl d_Pi_get_1 ?_
  refine lv_iload_n hx hb d_Pi_get_4 rfl (lv_at hl 2 rfl) ?_
  refine y_bald hx hb hK hP 1 1 rfl rfl (by omega) (by decide) d_Pi_get_5 ?_
  refine lv_sipush (v := nI 255) hx hb d_Pi_get_6 (by decide) ?_
  refine y_iandB hx hb d_Pi_get_9 ?_
  exact y_iret hx hb hr hlocks hK () hP hD hS rfl d_Pi_get_10

set_option maxHeartbeats 4000000 in
set_option maxRecDepth 100000 in
/-- Pattern.clear -/
theorem c_Pt_clear (l : Launch) (D : va_G) (cI cB cZ : ClassId) (a : Nat → Nat) (c u : Nat) (L M C F S : Nat → Nat) (li : Nat → Int8) (no th ro : Nat → Prop) (sz : Nat) : Met l y_Pt_clear cw_Pt_clear ({ frames := 0, cells := 0, slots := 0, locals := 0 }) (va_Pc [.ref (a 0)] (Bp D cI cB cZ (wPt cI cB cZ a c u L M C F S li no th ro) sz)) (va_Qv (S := Unit) (fun _ => True) (fun v_ => Bq D cI cB cZ (va_A (wPt cI cB cZ a c u L M C F S li no th ro) sz) ((wPt cI cB cZ a 0 0 L M C F S li no th ro))) (va_A (wPt cI cB cZ a c u L M C F S li no th ro) sz)) 0 0 (va_A (wPt cI cB cZ a c u L M C F S li no th ro) sz) := by
  refine Met.ofW (cc := b_Pt_clear) (maxL := 1) (ret := none) (by decide) rfl ?_
  intro p e s m args below meth c1 s₁ B hml hv
  obtain ⟨rfl, hsz, hP, hK, hD0, hN⟩ := hv
  subst hsz
  have hx := B.exec
  have hb := B.bytes
  have hr := B.returns
  have hT : ∀ w ∈ tw_, w.before _ s = true := fun w h => atoms_spec (ws := cw_Pt_clear) B.pre w (List.mem_cons_of_mem _ h)
  have hown : s.vm.findClass R_Pt = some m.cls := findClass_of_methodNamed B.named
  have hlocks := B.notSynchronized
  have hD := hD0.self (sz := s.heap.size)
  generalize hAe : va_A (wPt cI cB cZ a c u L M C F S li no th ro) s.heap.size = A at hD ⊢
  have hA : ∀ q : Nat, s.heap.size ≤ q → A q := fun q h => by rw [← hAe]; exact Or.inr h
  have hS : va_S A s.heap s.heap [] := va_S.rf
  have hl := lv_entry ([.ref (a 0)]) (n := 1) (Nat.le_of_ble_eq_true rfl)
  rw [lg_entry_eq]
  generalize (lg_sl ([.ref (a 0)]) ++ List.replicate (1 - (lg_sl ([.ref (a 0)])).length) Slot.unset).toArray = ls at hl ⊢
  have hl : lv_has ls 1 [(0, .ref (a 0))] := hl
  refine lv_aload_n hx hb d_Pt_clear_0 rfl (lv_at hl 0 rfl) ?_
  refine lv_iconst (v := nI 0) hx hb d_Pt_clear_1 (by decide) ?_
  refine va_put (D := D) (ci := 1) (v := .int (nI 0)) (ty := .int) (C := R_Pt) (T := F_Pt) (N := 11) hx hb hT i_Pt t_Pt t_Pt_ok n_Pt hown hK hP hD hS 0 rfl rfl 9 (by decide) (hT _ tw_k54) (fun _ h9 => h9) rfl (by decide +kernel) rfl rfl (Nat.le_of_ble_eq_true rfl) d_Pt_clear_2 (fun H locs hP hD hS => ?_)
  have hP : va_P D classes (wPt cI cB cZ a 0 u L M C F S li no th ro) H := hP
  have hD : va_D A (wPt cI cB cZ a 0 u L M C F S li no th ro) := hD
  refine lv_aload_n hx hb d_Pt_clear_5 rfl (lv_at hl 0 rfl) ?_
  refine lv_iconst (v := nI 0) hx hb d_Pt_clear_6 (by decide) ?_
  refine va_put (D := D) (ci := 1) (v := .int (nI 0)) (ty := .int) (C := R_Pt) (T := F_Pt) (N := 11) hx hb hT i_Pt t_Pt t_Pt_ok n_Pt hown hK hP hD hS 0 rfl rfl 10 (by decide) (hT _ tw_k56) (fun _ h9 => h9) rfl (by decide +kernel) rfl rfl (Nat.le_of_ble_eq_true rfl) d_Pt_clear_7 (fun H locs hP hD hS => ?_)
  have hP : va_P D classes (wPt cI cB cZ a 0 0 L M C F S li no th ro) H := hP
  have hD : va_D A (wPt cI cB cZ a 0 0 L M C F S li no th ro) := hD
  exact y_vret hx hb hr hlocks hK () hP hD hS trivial d_Pt_clear_10

set_option maxHeartbeats 4000000 in
set_option maxRecDepth 100000 in
/-- Pattern.part -/
theorem c_Pt_part (l : Launch) (D : va_G) (cI cB cZ : ClassId) (a : Nat → Nat) (c u : Nat) (L M C F S : Nat → Nat) (li : Nat → Int8) (no th ro : Nat → Prop) (x y : Nat) (hc : c < 60) (sz : Nat) : Met l y_Pt_part cw_Pt_part ({ frames := 0, cells := 0, slots := 0, locals := 0 }) (va_Pc [.ref (a 0), .int (nI x), .int (nI y)] (Bp D cI cB cZ (wPt cI cB cZ a c u L M C F S li no th ro) sz)) (va_Qv (S := Unit) (fun _ => True) (fun v_ => Bq D cI cB cZ (va_A (wPt cI cB cZ a c u L M C F S li no th ro) sz) ((wPt cI cB cZ a (c + 1) u (va_up L c x) (va_up M c y) (va_up C c 0) (va_up F c u) (va_up S c 0) li no th ro))) (va_A (wPt cI cB cZ a c u L M C F S li no th ro) sz)) 0 0 (va_A (wPt cI cB cZ a c u L M C F S li no th ro) sz) := by
  refine Met.ofW (cc := b_Pt_part) (maxL := 3) (ret := none) (by decide) rfl ?_
  intro p e s m args below meth c1 s₁ B hml hv
  obtain ⟨rfl, hsz, hP, hK, hD0, hN⟩ := hv
  subst hsz
  have hx := B.exec
  have hb := B.bytes
  have hr := B.returns
  have hT : ∀ w ∈ tw_, w.before _ s = true := fun w h => atoms_spec (ws := cw_Pt_part) B.pre w (List.mem_cons_of_mem _ h)
  have hown : s.vm.findClass R_Pt = some m.cls := findClass_of_methodNamed B.named
  have hlocks := B.notSynchronized
  have hD := hD0.self (sz := s.heap.size)
  generalize hAe : va_A (wPt cI cB cZ a c u L M C F S li no th ro) s.heap.size = A at hD ⊢
  have hA : ∀ q : Nat, s.heap.size ≤ q → A q := fun q h => by rw [← hAe]; exact Or.inr h
  have hS : va_S A s.heap s.heap [] := va_S.rf
  have hl := lv_entry ([.ref (a 0), .int (nI x), .int (nI y)]) (n := 3) (Nat.le_of_ble_eq_true rfl)
  rw [lg_entry_eq]
  generalize (lg_sl ([.ref (a 0), .int (nI x), .int (nI y)]) ++ List.replicate (3 - (lg_sl ([.ref (a 0), .int (nI x), .int (nI y)])).length) Slot.unset).toArray = ls at hl ⊢
  have hl : lv_has ls 3 [(0, .ref (a 0)), (1, .int (nI x)), (2, .int (nI y))] := hl
  refine lv_aload_n hx hb d_Pt_part_0 rfl (lv_at hl 0 rfl) ?_
  refine va_get (D := D) (ci := 1) (v := .ref (a 1)) (C := R_Pt) (T := F_Pt) (N := 11) hx hb hT i_Pt hown hK hP 0 rfl rfl 0 (by decide) (hT _ tw_k42) (fun _ h9 => h9) rfl d_Pt_part_1 ?_
  refine lv_aload_n hx hb d_Pt_part_4 rfl (lv_at hl 0 rfl) ?_
  refine va_get (D := D) (ci := 1) (v := .int (nI c)) (C := R_Pt) (T := F_Pt) (N := 11) hx hb hT i_Pt hown hK hP 0 rfl rfl 9 (by decide) (hT _ tw_k54) (fun _ h9 => h9) rfl d_Pt_part_5 ?_
  refine lv_iload_n hx hb d_Pt_part_8 rfl (lv_at hl 1 rfl) ?_
  refine y_iast hx hb hK hP hD hS 1 0 rfl rfl (by omega) (by decide) d_Pt_part_9 (fun H locs hP hD hS => ?_)
  have hP : va_P D classes (wPt cI cB cZ a c u (va_up L c x) M C F S li no th ro) H := hP
  have hD : va_D A (wPt cI cB cZ a c u (va_up L c x) M C F S li no th ro) := hD
  refine lv_aload_n hx hb d_Pt_part_10 rfl (lv_at hl 0 rfl) ?_
  refine va_get (D := D) (ci := 1) (v := .ref (a 2)) (C := R_Pt) (T := F_Pt) (N := 11) hx hb hT i_Pt hown hK hP 0 rfl rfl 1 (by decide) (hT _ tw_k43) (fun _ h9 => h9) rfl d_Pt_part_11 ?_
  refine lv_aload_n hx hb d_Pt_part_14 rfl (lv_at hl 0 rfl) ?_
  refine va_get (D := D) (ci := 1) (v := .int (nI c)) (C := R_Pt) (T := F_Pt) (N := 11) hx hb hT i_Pt hown hK hP 0 rfl rfl 9 (by decide) (hT _ tw_k54) (fun _ h9 => h9) rfl d_Pt_part_15 ?_
  refine lv_iload_n hx hb d_Pt_part_18 rfl (lv_at hl 2 rfl) ?_
  refine y_iast hx hb hK hP hD hS 2 0 rfl rfl (by omega) (by decide) d_Pt_part_19 (fun H locs hP hD hS => ?_)
  have hP : va_P D classes (wPt cI cB cZ a c u (va_up L c x) (va_up M c y) C F S li no th ro) H := hP
  have hD : va_D A (wPt cI cB cZ a c u (va_up L c x) (va_up M c y) C F S li no th ro) := hD
  refine lv_aload_n hx hb d_Pt_part_20 rfl (lv_at hl 0 rfl) ?_
  refine va_get (D := D) (ci := 1) (v := .ref (a 3)) (C := R_Pt) (T := F_Pt) (N := 11) hx hb hT i_Pt hown hK hP 0 rfl rfl 2 (by decide) (hT _ tw_k44) (fun _ h9 => h9) rfl d_Pt_part_21 ?_
  refine lv_aload_n hx hb d_Pt_part_24 rfl (lv_at hl 0 rfl) ?_
  refine va_get (D := D) (ci := 1) (v := .int (nI c)) (C := R_Pt) (T := F_Pt) (N := 11) hx hb hT i_Pt hown hK hP 0 rfl rfl 9 (by decide) (hT _ tw_k54) (fun _ h9 => h9) rfl d_Pt_part_25 ?_
  refine lv_iconst (v := nI 0) hx hb d_Pt_part_28 (by decide) ?_
  refine y_iast hx hb hK hP hD hS 3 0 rfl rfl (by omega) (by decide) d_Pt_part_29 (fun H locs hP hD hS => ?_)
  have hP : va_P D classes (wPt cI cB cZ a c u (va_up L c x) (va_up M c y) (va_up C c 0) F S li no th ro) H := hP
  have hD : va_D A (wPt cI cB cZ a c u (va_up L c x) (va_up M c y) (va_up C c 0) F S li no th ro) := hD
  refine lv_aload_n hx hb d_Pt_part_30 rfl (lv_at hl 0 rfl) ?_
  refine va_get (D := D) (ci := 1) (v := .ref (a 4)) (C := R_Pt) (T := F_Pt) (N := 11) hx hb hT i_Pt hown hK hP 0 rfl rfl 3 (by decide) (hT _ tw_k46) (fun _ h9 => h9) rfl d_Pt_part_31 ?_
  refine lv_aload_n hx hb d_Pt_part_34 rfl (lv_at hl 0 rfl) ?_
  refine va_get (D := D) (ci := 1) (v := .int (nI c)) (C := R_Pt) (T := F_Pt) (N := 11) hx hb hT i_Pt hown hK hP 0 rfl rfl 9 (by decide) (hT _ tw_k54) (fun _ h9 => h9) rfl d_Pt_part_35 ?_
  refine lv_aload_n hx hb d_Pt_part_38 rfl (lv_at hl 0 rfl) ?_
  refine va_get (D := D) (ci := 1) (v := .int (nI u)) (C := R_Pt) (T := F_Pt) (N := 11) hx hb hT i_Pt hown hK hP 0 rfl rfl 10 (by decide) (hT _ tw_k56) (fun _ h9 => h9) rfl d_Pt_part_39 ?_
  refine y_iast hx hb hK hP hD hS 4 0 rfl rfl (by omega) (by decide) d_Pt_part_42 (fun H locs hP hD hS => ?_)
  have hP : va_P D classes (wPt cI cB cZ a c u (va_up L c x) (va_up M c y) (va_up C c 0) (va_up F c u) S li no th ro) H := hP
  have hD : va_D A (wPt cI cB cZ a c u (va_up L c x) (va_up M c y) (va_up C c 0) (va_up F c u) S li no th ro) := hD
  refine lv_aload_n hx hb d_Pt_part_43 rfl (lv_at hl 0 rfl) ?_
  refine va_get (D := D) (ci := 1) (v := .ref (a 5)) (C := R_Pt) (T := F_Pt) (N := 11) hx hb hT i_Pt hown hK hP 0 rfl rfl 4 (by decide) (hT _ tw_k47) (fun _ h9 => h9) rfl d_Pt_part_44 ?_
  refine lv_aload_n hx hb d_Pt_part_47 rfl (lv_at hl 0 rfl) ?_
  refine va_get (D := D) (ci := 1) (v := .int (nI c)) (C := R_Pt) (T := F_Pt) (N := 11) hx hb hT i_Pt hown hK hP 0 rfl rfl 9 (by decide) (hT _ tw_k54) (fun _ h9 => h9) rfl d_Pt_part_48 ?_
  refine lv_iconst (v := nI 0) hx hb d_Pt_part_51 (by decide) ?_
  refine y_iast hx hb hK hP hD hS 5 0 rfl rfl (by omega) (by decide) d_Pt_part_52 (fun H locs hP hD hS => ?_)
  have hP : va_P D classes (wPt cI cB cZ a c u (va_up L c x) (va_up M c y) (va_up C c 0) (va_up F c u) (va_up S c 0) li no th ro) H := hP
  have hD : va_D A (wPt cI cB cZ a c u (va_up L c x) (va_up M c y) (va_up C c 0) (va_up F c u) (va_up S c 0) li no th ro) := hD
  refine lv_aload_n hx hb d_Pt_part_53 rfl (lv_at hl 0 rfl) ?_
  refine lv_dup hx hb d_Pt_part_54 rfl ?_
  refine va_get (D := D) (ci := 1) (v := .int (nI c)) (C := R_Pt) (T := F_Pt) (N := 11) hx hb hT i_Pt hown hK hP 0 rfl rfl 9 (by decide) (hT _ tw_k54) (fun _ h9 => h9) rfl d_Pt_part_55 ?_
  refine lv_iconst (v := nI 1) hx hb d_Pt_part_58 (by decide) ?_
  refine y_iadd hx hb d_Pt_part_59 ?_
  refine va_put (D := D) (ci := 1) (v := .int (nI (c + 1))) (ty := .int) (C := R_Pt) (T := F_Pt) (N := 11) hx hb hT i_Pt t_Pt t_Pt_ok n_Pt hown hK hP hD hS 0 rfl rfl 9 (by decide) (hT _ tw_k54) (fun _ h9 => h9) rfl (by decide +kernel) rfl rfl (Nat.le_of_ble_eq_true rfl) d_Pt_part_60 (fun H locs hP hD hS => ?_)
  have hP : va_P D classes (wPt cI cB cZ a (c + 1) u (va_up L c x) (va_up M c y) (va_up C c 0) (va_up F c u) (va_up S c 0) li no th ro) H := hP
  have hD : va_D A (wPt cI cB cZ a (c + 1) u (va_up L c x) (va_up M c y) (va_up C c 0) (va_up F c u) (va_up S c 0) li no th ro) := hD
  exact y_vret hx hb hr hlocks hK () hP hD hS trivial d_Pt_part_63

set_option maxHeartbeats 4000000 in
set_option maxRecDepth 100000 in
/-- Pattern.letter -/
theorem c_Pt_letter (l : Launch) (D : va_G) (cI cB cZ : ClassId) (a : Nat → Nat) (c u : Nat) (L M C F S : Nat → Nat) (li : Nat → Int8) (no th ro : Nat → Prop) (x : Int32) (hc0 : 0 < c) (hc : c ≤ 60) (hb0 : bitN x ≠ 0) (sz : Nat) : Met l y_Pt_letter cw_Pt_letter ({ frames := 0, cells := 0, slots := 0, locals := 0 }) (va_Pc [.ref (a 0), .int x] (Bp D cI cB cZ (wPt cI cB cZ a c u L M C F S li no th ro) sz)) (va_Qv (S := Unit) (fun _ => True) (fun v_ => Bq D cI cB cZ (va_A (wPt cI cB cZ a c u L M C F S li no th ro) sz) ((wPt cI cB cZ a c u L M (va_up C (c - 1) (C (c - 1) ||| bitN x)) F S li no th ro))) (va_A (wPt cI cB cZ a c u L M C F S li no th ro) sz)) 0 0 (va_A (wPt cI cB cZ a c u L M C F S li no th ro) sz) := by
  refine Met.ofW (cc := b_Pt_letter) (maxL := 3) (ret := none) (by decide) rfl ?_
  intro p e s m args below meth c1 s₁ B hml hv
  obtain ⟨rfl, hsz, hP, hK, hD0, hN⟩ := hv
  subst hsz
  have hx := B.exec
  have hb := B.bytes
  have hr := B.returns
  have hT : ∀ w ∈ tw_, w.before _ s = true := fun w h => atoms_spec (ws := cw_Pt_letter) B.pre w (List.mem_cons_of_mem _ h)
  have hown : s.vm.findClass R_Pt = some m.cls := findClass_of_methodNamed B.named
  have hlocks := B.notSynchronized
  have hD := hD0.self (sz := s.heap.size)
  generalize hAe : va_A (wPt cI cB cZ a c u L M C F S li no th ro) s.heap.size = A at hD ⊢
  have hA : ∀ q : Nat, s.heap.size ≤ q → A q := fun q h => by rw [← hAe]; exact Or.inr h
  have hS : va_S A s.heap s.heap [] := va_S.rf
  have hl := lv_entry ([.ref (a 0), .int x]) (n := 3) (Nat.le_of_ble_eq_true rfl)
  rw [lg_entry_eq]
  generalize (lg_sl ([.ref (a 0), .int x]) ++ List.replicate (3 - (lg_sl ([.ref (a 0), .int x])).length) Slot.unset).toArray = ls at hl ⊢
  have hl : lv_has ls 3 [(0, .ref (a 0)), (1, .int x)] := hl
  refine y_join (pcj := 65) (stj := [.int (nI (bitN x))]) ?_ (fun hj => ?_)
  · refine lv_istore_n (lv' := [(2, .int (nI (bitN x))), (0, .ref (a 0)), (1, .int x)]) hx hb d_Pt_letter_65 rfl hl (by decide) rfl (fun ls hl => ?_)
    refine lv_aload_n hx hb d_Pt_letter_66 rfl (lv_at hl 1 rfl) ?_
    refine va_get (D := D) (ci := 1) (v := .ref (a 3)) (C := R_Pt) (T := F_Pt) (N := 11) hx hb hT i_Pt hown hK hP 0 rfl rfl 2 (by decide) (hT _ tw_k44) (fun _ h9 => h9) rfl d_Pt_letter_67 ?_
    refine lv_aload_n hx hb d_Pt_letter_70 rfl (lv_at hl 1 rfl) ?_
    refine va_get (D := D) (ci := 1) (v := .int (nI c)) (C := R_Pt) (T := F_Pt) (N := 11) hx hb hT i_Pt hown hK hP 0 rfl rfl 9 (by decide) (hT _ tw_k54) (fun _ h9 => h9) rfl d_Pt_letter_71 ?_
    refine lv_iconst (v := nI 1) hx hb d_Pt_letter_74 (by decide) ?_
    refine y_isub hx hb (by omega) d_Pt_letter_75 ?_
    refine lv_dup2_11 hx hb d_Pt_letter_76 rfl rfl ?_
    refine y_iald hx hb hK hP 3 0 rfl rfl (by omega) (by decide) d_Pt_letter_77 ?_
    refine lv_iload_n hx hb d_Pt_letter_78 rfl (lv_at hl 0 rfl) ?_
    refine y_ior hx hb d_Pt_letter_79 ?_
    refine y_iast hx hb hK hP hD hS 3 0 rfl rfl (by omega) (by decide) d_Pt_letter_80 (fun H locs hP hD hS => ?_)
    have hP : va_P D classes (wPt cI cB cZ a c u L M (va_up C (c - 1) ((C (c - 1)) ||| (bitN x))) F S li no th ro) H := hP
    have hD : va_D A (wPt cI cB cZ a c u L M (va_up C (c - 1) ((C (c - 1)) ||| (bitN x))) F S li no th ro) := hD
    exact y_vret hx hb hr hlocks hK () hP hD hS trivial d_Pt_letter_81
  · refine lv_iload_n hx hb d_Pt_letter_0 rfl (lv_at hl 1 rfl) ?_
    refine lv_bipush (v := nI 65) hx hb d_Pt_letter_1 (by decide) ?_
    refine lv_icmp_ne (tgt := 10) hx hb d_Pt_letter_3 (by decide) (fun h1 => ?_) (fun h1 => ?_)
    · refine lv_iload_n hx hb d_Pt_letter_10 rfl (lv_at hl 1 rfl) ?_
      refine lv_bipush (v := nI 85) hx hb d_Pt_letter_11 (by decide) ?_
      refine lv_icmp_ne (tgt := 20) hx hb d_Pt_letter_13 (by decide) (fun h2 => ?_) (fun h2 => ?_)
      · refine lv_iload_n hx hb d_Pt_letter_20 rfl (lv_at hl 1 rfl) ?_
        refine lv_bipush (v := nI 76) hx hb d_Pt_letter_21 (by decide) ?_
        refine lv_icmp_ne (tgt := 30) hx hb d_Pt_letter_23 (by decide) (fun h3 => ?_) (fun h3 => ?_)
        · refine lv_iload_n hx hb d_Pt_letter_30 rfl (lv_at hl 1 rfl) ?_
          refine lv_bipush (v := nI 78) hx hb d_Pt_letter_31 (by decide) ?_
          refine lv_icmp_ne (tgt := 41) hx hb d_Pt_letter_33 (by decide) (fun h4 => ?_) (fun h4 => ?_)
          · refine lv_iload_n hx hb d_Pt_letter_41 rfl (lv_at hl 1 rfl) ?_
            refine lv_bipush (v := nI 80) hx hb d_Pt_letter_42 (by decide) ?_
            refine lv_icmp_ne (tgt := 52) hx hb d_Pt_letter_44 (by decide) (fun h5 => ?_) (fun h5 => ?_)
            · refine lv_iload_n hx hb d_Pt_letter_52 rfl (lv_at hl 1 rfl) ?_
              refine lv_bipush (v := nI 67) hx hb d_Pt_letter_53 (by decide) ?_
              refine lv_icmp_ne (tgt := 63) hx hb d_Pt_letter_55 (by decide) (fun h6 => ?_) (fun h6 => ?_)
              · refine lv_bipush (v := nI 64) hx hb d_Pt_letter_63 (by decide) ?_
                exact y_to (by rw [bitN_last h1 h2 h3 h4 h5 h6 hb0]) hj
              · refine lv_bipush (v := nI 32) hx hb d_Pt_letter_58 (by decide) ?_
                refine lv_goto (tgt := 65) hx hb d_Pt_letter_60 (by decide) ?_
                exact y_to (by rw [show x = nI 67 from h6]; decide) hj
            · refine lv_bipush (v := nI 16) hx hb d_Pt_letter_47 (by decide) ?_
              refine lv_goto (tgt := 65) hx hb d_Pt_letter_49 (by decide) ?_
              exact y_to (by rw [show x = nI 80 from h5]; decide) hj
          · refine lv_bipush (v := nI 8) hx hb d_Pt_letter_36 (by decide) ?_
            refine lv_goto (tgt := 65) hx hb d_Pt_letter_38 (by decide) ?_
            exact y_to (by rw [show x = nI 78 from h4]; decide) hj
        · refine lv_iconst (v := nI 4) hx hb d_Pt_letter_26 (by decide) ?_
          refine lv_goto (tgt := 65) hx hb d_Pt_letter_27 (by decide) ?_
          exact y_to (by rw [show x = nI 76 from h3]; decide) hj
      · refine lv_iconst (v := nI 2) hx hb d_Pt_letter_16 (by decide) ?_
        refine lv_goto (tgt := 65) hx hb d_Pt_letter_17 (by decide) ?_
        exact y_to (by rw [show x = nI 85 from h2]; decide) hj
    · refine lv_iconst (v := nI 1) hx hb d_Pt_letter_6 (by decide) ?_
      refine lv_goto (tgt := 65) hx hb d_Pt_letter_7 (by decide) ?_
      exact y_to (by rw [show x = nI 65 from h1]; decide) hj

set_option maxHeartbeats 4000000 in
set_option maxRecDepth 100000 in
/-- Pattern.literal -/
theorem c_Pt_literal (l : Launch) (D : va_G) (cI cB cZ : ClassId) (a : Nat → Nat) (c u : Nat) (L M C F S : Nat → Nat) (li : Nat → Int8) (no th ro : Nat → Prop) (x : Int32) (hc0 : 0 < c) (hc : c ≤ 60) (hu : u < 255) (sz : Nat) : Met l y_Pt_literal cw_Pt_literal ({ frames := 0, cells := 0, slots := 0, locals := 0 }) (va_Pc [.ref (a 0), .int x] (Bp D cI cB cZ (wPt cI cB cZ a c u L M C F S li no th ro) sz)) (va_Qv (S := Unit) (fun _ => True) (fun v_ => Bq D cI cB cZ (va_A (wPt cI cB cZ a c u L M C F S li no th ro) sz) ((wPt cI cB cZ a c (u + 1) L M C F (va_up S (c - 1) (S (c - 1) + 1)) (va_up li u x.toInt8) no th ro))) (va_A (wPt cI cB cZ a c u L M C F S li no th ro) sz)) 0 0 (va_A (wPt cI cB cZ a c u L M C F S li no th ro) sz) := by
  refine Met.ofW (cc := b_Pt_literal) (maxL := 2) (ret := none) (by decide) rfl ?_
  intro p e s m args below meth c1 s₁ B hml hv
  obtain ⟨rfl, hsz, hP, hK, hD0, hN⟩ := hv
  subst hsz
  have hx := B.exec
  have hb := B.bytes
  have hr := B.returns
  have hT : ∀ w ∈ tw_, w.before _ s = true := fun w h => atoms_spec (ws := cw_Pt_literal) B.pre w (List.mem_cons_of_mem _ h)
  have hown : s.vm.findClass R_Pt = some m.cls := findClass_of_methodNamed B.named
  have hlocks := B.notSynchronized
  have hD := hD0.self (sz := s.heap.size)
  generalize hAe : va_A (wPt cI cB cZ a c u L M C F S li no th ro) s.heap.size = A at hD ⊢
  have hA : ∀ q : Nat, s.heap.size ≤ q → A q := fun q h => by rw [← hAe]; exact Or.inr h
  have hS : va_S A s.heap s.heap [] := va_S.rf
  have hl := lv_entry ([.ref (a 0), .int x]) (n := 2) (Nat.le_of_ble_eq_true rfl)
  rw [lg_entry_eq]
  generalize (lg_sl ([.ref (a 0), .int x]) ++ List.replicate (2 - (lg_sl ([.ref (a 0), .int x])).length) Slot.unset).toArray = ls at hl ⊢
  have hl : lv_has ls 2 [(0, .ref (a 0)), (1, .int x)] := hl
  refine lv_aload_n hx hb d_Pt_literal_0 rfl (lv_at hl 0 rfl) ?_
  refine va_get (D := D) (ci := 1) (v := .ref (a 6)) (C := R_Pt) (T := F_Pt) (N := 11) hx hb hT i_Pt hown hK hP 0 rfl rfl 5 (by decide) (hT _ tw_k49) (fun _ h9 => h9) rfl d_Pt_literal_1 ?_
  refine lv_aload_n hx hb d_Pt_literal_4 rfl (lv_at hl 0 rfl) ?_
  refine va_get (D := D) (ci := 1) (v := .int (nI u)) (C := R_Pt) (T := F_Pt) (N := 11) hx hb hT i_Pt hown hK hP 0 rfl rfl 10 (by decide) (hT _ tw_k56) (fun _ h9 => h9) rfl d_Pt_literal_5 ?_
  refine lv_iload_n hx hb d_Pt_literal_8 rfl (lv_at hl 1 rfl) ?_
  refine lv_i2b (v := x.toInt8.toInt32) hx hb d_Pt_literal_9 rfl ?_
  refine y_bast hx hb hK hP hD hS 6 1 rfl rfl (by omega) (by decide) d_Pt_literal_10 (fun H locs hP hD hS => ?_)
  have hP : va_P D classes (wPt cI cB cZ a c u L M C F S (va_up li u x.toInt8) no th ro) H := hP
  have hD : va_D A (wPt cI cB cZ a c u L M C F S (va_up li u x.toInt8) no th ro) := hD
  refine lv_aload_n hx hb d_Pt_literal_11 rfl (lv_at hl 0 rfl) ?_
  refine lv_dup hx hb d_Pt_literal_12 rfl ?_
  refine va_get (D := D) (ci := 1) (v := .int (nI u)) (C := R_Pt) (T := F_Pt) (N := 11) hx hb hT i_Pt hown hK hP 0 rfl rfl 10 (by decide) (hT _ tw_k56) (fun _ h9 => h9) rfl d_Pt_literal_13 ?_
  refine lv_iconst (v := nI 1) hx hb d_Pt_literal_16 (by decide) ?_
  refine y_iadd hx hb d_Pt_literal_17 ?_
  refine va_put (D := D) (ci := 1) (v := .int (nI (u + 1))) (ty := .int) (C := R_Pt) (T := F_Pt) (N := 11) hx hb hT i_Pt t_Pt t_Pt_ok n_Pt hown hK hP hD hS 0 rfl rfl 10 (by decide) (hT _ tw_k56) (fun _ h9 => h9) rfl (by decide +kernel) rfl rfl (Nat.le_of_ble_eq_true rfl) d_Pt_literal_18 (fun H locs hP hD hS => ?_)
  have hP : va_P D classes (wPt cI cB cZ a c (u + 1) L M C F S (va_up li u x.toInt8) no th ro) H := hP
  have hD : va_D A (wPt cI cB cZ a c (u + 1) L M C F S (va_up li u x.toInt8) no th ro) := hD
  refine lv_aload_n hx hb d_Pt_literal_21 rfl (lv_at hl 0 rfl) ?_
  refine va_get (D := D) (ci := 1) (v := .ref (a 5)) (C := R_Pt) (T := F_Pt) (N := 11) hx hb hT i_Pt hown hK hP 0 rfl rfl 4 (by decide) (hT _ tw_k47) (fun _ h9 => h9) rfl d_Pt_literal_22 ?_
  refine lv_aload_n hx hb d_Pt_literal_25 rfl (lv_at hl 0 rfl) ?_
  refine va_get (D := D) (ci := 1) (v := .int (nI c)) (C := R_Pt) (T := F_Pt) (N := 11) hx hb hT i_Pt hown hK hP 0 rfl rfl 9 (by decide) (hT _ tw_k54) (fun _ h9 => h9) rfl d_Pt_literal_26 ?_
  refine lv_iconst (v := nI 1) hx hb d_Pt_literal_29 (by decide) ?_
  refine y_isub hx hb (by omega) d_Pt_literal_30 ?_
  refine lv_dup2_11 hx hb d_Pt_literal_31 rfl rfl ?_
  refine y_iald hx hb hK hP 5 0 rfl rfl (by omega) (by decide) d_Pt_literal_32 ?_
  refine lv_iconst (v := nI 1) hx hb d_Pt_literal_33 (by decide) ?_
  refine y_iadd hx hb d_Pt_literal_34 ?_
  refine y_iast hx hb hK hP hD hS 5 0 rfl rfl (by omega) (by decide) d_Pt_literal_35 (fun H locs hP hD hS => ?_)
  have hP : va_P D classes (wPt cI cB cZ a c (u + 1) L M C F (va_up S (c - 1) ((S (c - 1)) + 1)) (va_up li u x.toInt8) no th ro) H := hP
  have hD : va_D A (wPt cI cB cZ a c (u + 1) L M C F (va_up S (c - 1) ((S (c - 1)) + 1)) (va_up li u x.toInt8) no th ro) := hD
  exact y_vret hx hb hr hlocks hK () hP hD hS trivial d_Pt_literal_36
end
section
set_option maxHeartbeats 4000000 in
set_option maxRecDepth 100000 in
/-- Pattern.once -/
theorem c_Pt_once (l : Launch) (D : va_G) (cI cB cZ : ClassId) (a : Nat → Nat) (c u : Nat) (L M C F S : Nat → Nat) (li : Nat → Int8) (no th ro : Nat → Prop) (z : Nat) (tx : Nat → Int8) (pp : Nat) (sl : Int32) (i : Nat) (hp : pp < 128) (hz : z ≤ 255) (hi : i ≤ z) (hC : C pp < 128) (hFS : F pp + S pp ≤ 255) (sz : Nat) : Met l y_Pt_once cw_Pt_once ({ frames := 2, cells := 0, slots := 0, locals := 40 }) (va_Pc [.ref (a 0), .int (nI pp), .ref (a 10), .int sl, .int (nI i)] (Bp D cI cB cZ (wC cI cB cZ a c u L M C F S li no th ro z tx) sz)) (va_Qi (S := Unit) (fun r _ => (st1 (C pp) (S pp) (F pp) li tx z i ∧ r = nI (i + len1 (C pp) (S pp))) ∨ (¬ st1 (C pp) (S pp) (F pp) li tx z i ∧ r = -1)) (fun v_ => Bq D cI cB cZ (va_A (wC cI cB cZ a c u L M C F S li no th ro z tx) sz) ((wC cI cB cZ a c u L M C F S li no th ro z tx))) (va_A (wC cI cB cZ a c u L M C F S li no th ro z tx) sz)) 0 0 (va_A (wC cI cB cZ a c u L M C F S li no th ro z tx) sz) := by
  refine Met.ofW (cc := b_Pt_once) (maxL := 7) (ret := (some FieldType.int)) (by decide) rfl ?_
  intro p e s m args below meth c1 s₁ B hml hv
  obtain ⟨rfl, hsz, hP, hK, hD0, hN⟩ := hv
  subst hsz
  have hx := B.exec
  have hb := B.bytes
  have hr := B.returns
  have hT : ∀ w ∈ tw_, w.before _ s = true := fun w h => atoms_spec (ws := cw_Pt_once) B.pre w (List.mem_cons_of_mem _ h)
  have hown : s.vm.findClass R_Pt = some m.cls := findClass_of_methodNamed B.named
  have hlocks := B.notSynchronized
  have hD := hD0.self (sz := s.heap.size)
  generalize hAe : va_A (wC cI cB cZ a c u L M C F S li no th ro z tx) s.heap.size = A at hD ⊢
  have hA : ∀ q : Nat, s.heap.size ≤ q → A q := fun q h => by rw [← hAe]; exact Or.inr h
  have hS : va_S A s.heap s.heap [] := va_S.rf
  have hl := lv_entry ([.ref (a 0), .int (nI pp), .ref (a 10), .int sl, .int (nI i)]) (n := 7) (Nat.le_of_ble_eq_true rfl)
  rw [lg_entry_eq]
  generalize (lg_sl ([.ref (a 0), .int (nI pp), .ref (a 10), .int sl, .int (nI i)]) ++ List.replicate (7 - (lg_sl ([.ref (a 0), .int (nI pp), .ref (a 10), .int sl, .int (nI i)])).length) Slot.unset).toArray = ls at hl ⊢
  have hl : lv_has ls 7 [(0, .ref (a 0)), (1, .int (nI pp)), (2, .ref (a 10)), (3, .int sl), (4, .int (nI i))] := hl
  refine lv_aload_n hx hb d_Pt_once_0 rfl (lv_at hl 2 rfl) ?_
  refine lv_iload_n hx hb d_Pt_once_1 rfl (lv_at hl 3 rfl) ?_
  refine y_i (w0 := (wPi cB a z tx)) (wr := [_, _, _, _, _, _, _, _, _, _]) hP hD hS hA [10, 11] [0, 1, 2, 3, 4, 5, 6, 7, 8, 9] rfl rfl (by decide) (by decide) (y_runV (n := 1) (rm := { frames := 0, cells := 0, slots := 0, locals := 0 }) (w0 := (wPi cB a z tx)) (q0 := 10) (b := a 10) (As := [.int sl]) (rest := []) hx hb hml hown hT hN hK hP hD (c_Pi_size l D cI cB cZ a z tx sl _) ⟨tw_k147, tw_k8, tw_k144, by decide +kernel⟩ ⟨tw_k145, tw_k146⟩ [10, 11] rfl (by decide) rfl rfl ⟨Nat.le_of_ble_eq_true rfl, Nat.le_of_ble_eq_true rfl⟩ rfl hl.1 rfl (Nat.le_of_ble_eq_true rfl) d_Pt_once_2 ⟨Nat.le_of_ble_eq_true rfl, Nat.le_of_ble_eq_true rfl⟩) (fun r v_ H locs hp hP hD hS => ?_)
  have hP : va_P D classes (wC cI cB cZ a c u L M C F S li no th ro z tx) H := hP
  have hD : va_D A (wC cI cB cZ a c u L M C F S li no th ro z tx) := hD
  subst hp
  refine lv_istore (lv' := [(5, .int (nI z)), (0, .ref (a 0)), (1, .int (nI pp)), (2, .ref (a 10)), (3, .int sl), (4, .int (nI i))]) hx hb d_Pt_once_5 hl (by decide) rfl (fun ls hl => ?_)
  refine lv_aload_n hx hb d_Pt_once_7 rfl (lv_at hl 1 rfl) ?_
  refine va_get (D := D) (ci := 1) (v := .ref (a 3)) (C := R_Pt) (T := F_Pt) (N := 11) hx hb hT i_Pt hown hK hP 0 rfl rfl 2 (by decide) (hT _ tw_k44) (fun _ h9 => h9) rfl d_Pt_once_8 ?_
  refine lv_iload_n hx hb d_Pt_once_11 rfl (lv_at hl 2 rfl) ?_
  refine y_iald hx hb hK hP 3 0 rfl rfl (by omega) (by decide) d_Pt_once_12 ?_
  refine y_if_eq (tgt := 52) hx hb (by omega) d_Pt_once_13 (by decide) (fun h1 => ?_) (fun h1 => ?_)
  · refine lv_iload hx hb d_Pt_once_52 (lv_at hl 5 rfl) ?_
    refine lv_aload_n hx hb d_Pt_once_54 rfl (lv_at hl 1 rfl) ?_
    refine va_get (D := D) (ci := 1) (v := .ref (a 5)) (C := R_Pt) (T := F_Pt) (N := 11) hx hb hT i_Pt hown hK hP 0 rfl rfl 4 (by decide) (hT _ tw_k47) (fun _ h9 => h9) rfl d_Pt_once_55 ?_
    refine lv_iload_n hx hb d_Pt_once_58 rfl (lv_at hl 2 rfl) ?_
    refine y_iald hx hb hK hP 5 0 rfl rfl (by omega) (by decide) d_Pt_once_59 ?_
    refine y_iadd hx hb d_Pt_once_60 ?_
    refine lv_iload hx hb d_Pt_once_61 (lv_at hl 0 rfl) ?_
    refine y_icmp_le (tgt := 68) hx hb (by omega) (by omega) d_Pt_once_63 (by decide) (fun h2 => ?_) (fun h2 => ?_)
    · refine lv_iconst (v := nI 0) hx hb d_Pt_once_68 (by decide) ?_
      refine lv_istore (lv' := [(6, .int (nI 0)), (5, .int (nI z)), (0, .ref (a 0)), (1, .int (nI pp)), (2, .ref (a 10)), (3, .int sl), (4, .int (nI i))]) hx hb d_Pt_once_69 hl (by decide) rfl (fun ls hl => ?_)
      refine y_loop (fun n_ H locs ls => ∃ (k : Nat), n_ = S pp - k ∧ va_P D classes (wC cI cB cZ a c u L M C F S li no th ro z tx) H ∧ va_D A (wC cI cB cZ a c u L M C F S li no th ro z tx) ∧ va_S A s.heap H locs ∧ lv_has ls 7 [(6, .int (nI k)), (0, .ref (a 0)), (1, .int (nI pp)), (2, .ref (a 10)), (3, .int sl), (4, .int (nI i)), (5, .int (nI z))] ∧ (k ≤ S pp) ∧ (∀ j, j < k → tx (i + j) = li (F pp + j))) (S pp - 0) ⟨0, rfl, hP, hD, hS, lv_sub hl [0, 2, 3, 4, 5, 6, 1] rfl, Nat.zero_le _, fun j hj => absurd hj (Nat.not_lt_zero j)⟩ (fun n_ H locs ls hI1 ih1 => ?_)
      obtain ⟨k, hn1, hP, hD, hS, hl, hv1_1, hv1_2⟩ := hI1
      refine lv_iload hx hb d_Pt_once_71 (lv_at hl 0 rfl) ?_
      refine lv_aload_n hx hb d_Pt_once_73 rfl (lv_at hl 1 rfl) ?_
      refine va_get (D := D) (ci := 1) (v := .ref (a 5)) (C := R_Pt) (T := F_Pt) (N := 11) hx hb hT i_Pt hown hK hP 0 rfl rfl 4 (by decide) (hT _ tw_k47) (fun _ h9 => h9) rfl d_Pt_once_74 ?_
      refine lv_iload_n hx hb d_Pt_once_77 rfl (lv_at hl 2 rfl) ?_
      refine y_iald hx hb hK hP 5 0 rfl rfl (by omega) (by decide) d_Pt_once_78 ?_
      refine y_icmp_ge (tgt := 121) hx hb (by omega) (by omega) d_Pt_once_79 (by decide) (fun h3 => ?_) (fun h3 => ?_)
      · refine lv_iload hx hb d_Pt_once_121 (lv_at hl 5 rfl) ?_
        refine lv_aload_n hx hb d_Pt_once_123 rfl (lv_at hl 1 rfl) ?_
        refine va_get (D := D) (ci := 1) (v := .ref (a 5)) (C := R_Pt) (T := F_Pt) (N := 11) hx hb hT i_Pt hown hK hP 0 rfl rfl 4 (by decide) (hT _ tw_k47) (fun _ h9 => h9) rfl d_Pt_once_124 ?_
        refine lv_iload_n hx hb d_Pt_once_127 rfl (lv_at hl 2 rfl) ?_
        refine y_iald hx hb hK hP 5 0 rfl rfl (by omega) (by decide) d_Pt_once_128 ?_
        refine y_iadd hx hb d_Pt_once_129 ?_
        exact y_iret hx hb hr hlocks hK () hP hD hS (Or.inl ⟨Or.inr ⟨h1, h2, fun j hj => hv1_2 j (by omega)⟩, by unfold len1; rw [if_pos h1]⟩) d_Pt_once_130
      · refine lv_aload_n hx hb d_Pt_once_82 rfl (lv_at hl 3 rfl) ?_
        refine lv_iload_n hx hb d_Pt_once_83 rfl (lv_at hl 4 rfl) ?_
        refine lv_iload hx hb d_Pt_once_84 (lv_at hl 5 rfl) ?_
        refine lv_iload hx hb d_Pt_once_86 (lv_at hl 0 rfl) ?_
        refine y_iadd hx hb d_Pt_once_88 ?_
        refine y_i (w0 := (wPi cB a z tx)) (wr := [_, _, _, _, _, _, _, _, _, _]) hP hD hS hA [10, 11] [0, 1, 2, 3, 4, 5, 6, 7, 8, 9] rfl rfl (by decide) (by decide) (y_runV (n := 2) (rm := { frames := 0, cells := 0, slots := 0, locals := 0 }) (w0 := (wPi cB a z tx)) (q0 := 10) (b := a 10) (As := [.int sl, .int (nI (i + k))]) (rest := []) hx hb hml hown hT hN hK hP hD (c_Pi_get l D cI cB cZ a z tx sl (i + k) (by omega) _) ⟨tw_k159, tw_k8, tw_k156, by decide +kernel⟩ ⟨tw_k157, tw_k158⟩ [10, 11] rfl (by decide) rfl rfl ⟨Nat.le_of_ble_eq_true rfl, Nat.le_of_ble_eq_true rfl⟩ rfl hl.1 rfl (Nat.le_of_ble_eq_true rfl) d_Pt_once_89 ⟨Nat.le_of_ble_eq_true rfl, Nat.le_of_ble_eq_true rfl⟩) (fun r v_ H locs hp hP hD hS => ?_)
        have hP : va_P D classes (wC cI cB cZ a c u L M C F S li no th ro z tx) H := hP
        have hD : va_D A (wC cI cB cZ a c u L M C F S li no th ro z tx) := hD
        subst hp
        refine lv_aload_n hx hb d_Pt_once_92 rfl (lv_at hl 1 rfl) ?_
        refine va_get (D := D) (ci := 1) (v := .ref (a 6)) (C := R_Pt) (T := F_Pt) (N := 11) hx hb hT i_Pt hown hK hP 0 rfl rfl 5 (by decide) (hT _ tw_k49) (fun _ h9 => h9) rfl d_Pt_once_93 ?_
        refine lv_aload_n hx hb d_Pt_once_96 rfl (lv_at hl 1 rfl) ?_
        refine va_get (D := D) (ci := 1) (v := .ref (a 4)) (C := R_Pt) (T := F_Pt) (N := 11) hx hb hT i_Pt hown hK hP 0 rfl rfl 3 (by decide) (hT _ tw_k46) (fun _ h9 => h9) rfl d_Pt_once_97 ?_
        refine lv_iload_n hx hb d_Pt_once_100 rfl (lv_at hl 2 rfl) ?_
        refine y_iald hx hb hK hP 4 0 rfl rfl (by omega) (by decide) d_Pt_once_101 ?_
        refine lv_iload hx hb d_Pt_once_102 (lv_at hl 0 rfl) ?_
        refine y_iadd hx hb d_Pt_once_104 ?_
        refine y_bald hx hb hK hP 6 1 rfl rfl (by omega) (by decide) d_Pt_once_105 ?_
        refine lv_sipush (v := nI 255) hx hb d_Pt_once_106 (by decide) ?_
        refine y_iandB hx hb d_Pt_once_109 ?_
        refine y_icmp_eq (tgt := 115) hx hb (by have := ub_lt (tx (i + k)); omega) (by have := ub_lt (li (F pp + k)); omega) d_Pt_once_110 (by decide) (fun h4 => ?_) (fun h4 => ?_)
        · refine lv_iinc (v := (nI (k + 1))) (lv' := [(6, .int (nI (k + 1))), (0, .ref (a 0)), (1, .int (nI pp)), (2, .ref (a 10)), (3, .int sl), (4, .int (nI i)), (5, .int (nI z))]) hx hb d_Pt_once_115 hl (k := 0) rfl (nI_add _ 1) (by decide) rfl (fun ls hl => ?_)
          refine lv_goto (tgt := 71) hx hb d_Pt_once_118 (by decide) ?_
          exact ih1 _ _ _ _ (by omega) ⟨k + 1, rfl, hP, hD, hS, lv_sub hl [0, 1, 2, 3, 4, 5, 6] rfl, by omega, fun j hj => by
                rcases Nat.lt_or_ge j k with q | q
                · exact hv1_2 j q
                · rw [show j = k by omega]; exact ub_inj.mp h4⟩
        · refine lv_iconst (v := -1) hx hb d_Pt_once_113 (by decide) ?_
          exact y_iret hx hb hr hlocks hK () hP hD hS (Or.inr ⟨fun q => by
                rcases q with ⟨q, -⟩ | ⟨-, -, q⟩
                · exact q h1
                · exact h4 (ub_inj.mpr (q k h3)), rfl⟩) d_Pt_once_114
    · refine lv_iconst (v := -1) hx hb d_Pt_once_66 (by decide) ?_
      exact y_iret hx hb hr hlocks hK () hP hD hS (Or.inr ⟨fun q => by
            rcases q with ⟨q, -⟩ | ⟨-, q, -⟩
            · exact q h1
            · omega, rfl⟩) d_Pt_once_67
  · refine lv_iload hx hb d_Pt_once_16 (lv_at hl 5 rfl) ?_
    refine lv_iload hx hb d_Pt_once_18 (lv_at hl 0 rfl) ?_
    refine y_icmp_ge (tgt := 50) hx hb (by omega) (by omega) d_Pt_once_20 (by decide) (fun h2 => ?_) (fun h2 => ?_)
    · refine lv_iconst (v := -1) hx hb d_Pt_once_50 (by decide) ?_
      exact y_iret hx hb hr hlocks hK () hP hD hS (Or.inr ⟨fun q => by
            rcases q with ⟨-, q, -⟩ | ⟨q, -⟩
            · omega
            · exact h1 q, rfl⟩) d_Pt_once_51
    · refine lv_aload_n hx hb d_Pt_once_23 rfl (lv_at hl 3 rfl) ?_
      refine lv_iload_n hx hb d_Pt_once_24 rfl (lv_at hl 4 rfl) ?_
      refine lv_iload hx hb d_Pt_once_25 (lv_at hl 5 rfl) ?_
      refine y_i (w0 := (wPi cB a z tx)) (wr := [_, _, _, _, _, _, _, _, _, _]) hP hD hS hA [10, 11] [0, 1, 2, 3, 4, 5, 6, 7, 8, 9] rfl rfl (by decide) (by decide) (y_runV (n := 2) (rm := { frames := 0, cells := 0, slots := 0, locals := 0 }) (w0 := (wPi cB a z tx)) (q0 := 10) (b := a 10) (As := [.int sl, .int (nI i)]) (rest := []) hx hb hml hown hT hN hK hP hD (c_Pi_get l D cI cB cZ a z tx sl i (by omega) _) ⟨tw_k159, tw_k8, tw_k156, by decide +kernel⟩ ⟨tw_k157, tw_k158⟩ [10, 11] rfl (by decide) rfl rfl ⟨Nat.le_of_ble_eq_true rfl, Nat.le_of_ble_eq_true rfl⟩ rfl hl.1 rfl (Nat.le_of_ble_eq_true rfl) d_Pt_once_27 ⟨Nat.le_of_ble_eq_true rfl, Nat.le_of_ble_eq_true rfl⟩) (fun r v_ H locs hp hP hD hS => ?_)
      have hP : va_P D classes (wC cI cB cZ a c u L M C F S li no th ro z tx) H := hP
      have hD : va_D A (wC cI cB cZ a c u L M C F S li no th ro z tx) := hD
      subst hp
      refine y_i (w0 := ([] : va_W)) (wr := [_, _, _, _, _, _, _, _, _, _, _, _]) hP hD hS hA [] [0, 1, 2, 3, 4, 5, 6, 7, 8, 9, 10, 11] rfl rfl (by decide) (by decide) (y_runS (n := 1) (rm := { frames := 1, cells := 0, slots := 0, locals := 20 }) (w0 := ([] : va_W)) (As := [.int (nI (ub (tx i)))]) (rest := []) hx hb hml hown hT hN hK hP hD (c_Pt_classOf l D cI cB cZ (ub (tx i)) (ub_lt _) _) ⟨tw_k162, tw_k9, tw_k160, by decide +kernel⟩ tw_k161 [] rfl (by decide) ⟨Nat.le_of_ble_eq_true rfl, Nat.le_of_ble_eq_true rfl⟩ rfl hl.1 rfl (Nat.le_of_ble_eq_true rfl) d_Pt_once_30 ⟨Nat.le_of_ble_eq_true rfl, Nat.le_of_ble_eq_true rfl⟩) (fun r v_ H locs hp hP hD hS => ?_)
      have hP : va_P D classes (wC cI cB cZ a c u L M C F S li no th ro z tx) H := hP
      have hD : va_D A (wC cI cB cZ a c u L M C F S li no th ro z tx) := hD
      subst hp
      refine lv_aload_n hx hb d_Pt_once_33 rfl (lv_at hl 1 rfl) ?_
      refine va_get (D := D) (ci := 1) (v := .ref (a 3)) (C := R_Pt) (T := F_Pt) (N := 11) hx hb hT i_Pt hown hK hP 0 rfl rfl 2 (by decide) (hT _ tw_k44) (fun _ h9 => h9) rfl d_Pt_once_34 ?_
      refine lv_iload_n hx hb d_Pt_once_37 rfl (lv_at hl 2 rfl) ?_
      refine y_iald hx hb hK hP 3 0 rfl rfl (by omega) (by decide) d_Pt_once_38 ?_
      refine y_iand hx hb d_Pt_once_39 ?_
      refine y_if_eq (tgt := 50) hx hb (Nat.lt_of_le_of_lt Nat.and_le_right (by omega)) d_Pt_once_40 (by decide) (fun h3 => ?_) (fun h3 => ?_)
      · refine lv_iconst (v := -1) hx hb d_Pt_once_50 (by decide) ?_
        exact y_iret hx hb hr hlocks hK () hP hD hS (Or.inr ⟨fun q => by
              rcases q with ⟨-, -, q⟩ | ⟨q, -⟩
              · exact q h3
              · exact h1 q, rfl⟩) d_Pt_once_51
      · refine lv_iload hx hb d_Pt_once_43 (lv_at hl 5 rfl) ?_
        refine lv_iconst (v := nI 1) hx hb d_Pt_once_45 (by decide) ?_
        refine y_iadd hx hb d_Pt_once_46 ?_
        refine lv_goto (tgt := 51) hx hb d_Pt_once_47 (by decide) ?_
        exact y_iret hx hb hr hlocks hK () hP hD hS (Or.inl ⟨Or.inl ⟨h1, h2, h3⟩, by unfold len1; rw [if_neg h1]⟩) d_Pt_once_51
end
section
/-! sets of places, moved on time by time -/
def rset (st : Nat → Prop) (len : Nat) (X : Nat → Prop) : Nat → Nat → Prop
  | 0, k => X k
  | t + 1, k => ∃ j, rset st len X t j ∧ st j ∧ k = j + len
theorem rset_le {st : Nat → Prop} {len n : Nat} {X : Nat → Prop} (hX : ∀ k, X k → k ≤ n) (hs : ∀ k, st k → k + len ≤ n) : ∀ t k, rset st len X t k → k ≤ n
  | 0, k, h => hX k h
  | t + 1, k, ⟨j, _, h2, h3⟩ => by rw [h3]; exact hs j h2
theorem rset_none {st : Nat → Prop} {len : Nat} {X : Nat → Prop} {t : Nat} (h : ∀ j, rset st len X t j → ¬ st j) : ∀ d k, ¬ rset st len X (t + 1 + d) k
  | 0, k, ⟨j, h1, h2, _⟩ => h j h1 h2
  | d + 1, k, ⟨j, h1, _, _⟩ => rset_none h d j h1
/-- those that were moved from q on -/
def mv (st : Nat → Prop) (len : Nat) (Y : Nat → Prop) (q k : Nat) : Prop := ∃ j, q ≤ j ∧ Y j ∧ st j ∧ k = j + len
theorem mv_s {st : Nat → Prop} {len : Nat} {Y : Nat → Prop} {j k : Nat} : mv st len Y j k ↔ mv st len Y (j + 1) k ∨ (Y j ∧ st j ∧ k = j + len) := by
  constructor
  · rintro ⟨i, h1, h2, h3, h4⟩
    rcases Nat.eq_or_lt_of_le h1 with q | q
    · subst q; exact Or.inr ⟨h2, h3, h4⟩
    · exact Or.inl ⟨i, q, h2, h3, h4⟩
  · rintro (⟨i, h1, h2⟩ | ⟨h1, h2, h3⟩)
    · exact ⟨i, by omega, h2⟩
    · exact ⟨j, Nat.le_refl j, h1, h2, h3⟩
theorem mv_ge {st : Nat → Prop} {len : Nat} {Y : Nat → Prop} {j k : Nat} (h : mv st len Y (j + 1) k) : j < k := by
  obtain ⟨i, h1, -, -, h4⟩ := h
  omega
theorem mv_out {st : Nat → Prop} {len : Nat} {Y : Nat → Prop} {n q k : Nat} (hq : n < q) (hY : ∀ k, Y k → k ≤ n) : ¬ mv st len Y q k := by
  rintro ⟨i, h1, h2, -⟩
  have := hY i h2
  omega
/-- the round in the midst of it: places below q not yet moved, those from q on moved -/
def rd (st : Nat → Prop) (len : Nat) (Y : Nat → Prop) (q k : Nat) : Prop := (k < q ∧ Y k) ∨ mv st len Y q k
theorem rd_at {st : Nat → Prop} {len : Nat} {Y : Nat → Prop} {j : Nat} : rd st len Y (j + 1) j ↔ Y j := by
  constructor
  · rintro (⟨-, h⟩ | h)
    · exact h
    · exact absurd (mv_ge h) (Nat.lt_irrefl j)
  · exact fun h => Or.inl ⟨Nat.lt_succ_self j, h⟩
theorem rd_start {st : Nat → Prop} {len : Nat} {Y : Nat → Prop} {n k : Nat} (hY : ∀ k, Y k → k ≤ n) (hk : k ≤ n) : rd st len Y (n + 1) k ↔ Y k := by
  constructor
  · rintro (⟨-, h⟩ | h)
    · exact h
    · exact absurd h (mv_out (Nat.lt_succ_self n) hY)
  · exact fun h => Or.inl ⟨by omega, h⟩
theorem rd_A {st : Nat → Prop} {len : Nat} {Y : Nat → Prop} {j k : Nat} (h : ¬ Y j) : rd st len Y (j + 1) k ↔ rd st len Y j k := by
  unfold rd
  rw [mv_s (j := j)]
  constructor
  · rintro (⟨h1, h2⟩ | h1)
    · rcases Nat.eq_or_lt_of_le (Nat.le_of_lt_succ h1) with q | q
      · subst q; exact absurd h2 h
      · exact Or.inl ⟨q, h2⟩
    · exact Or.inr (Or.inl h1)
  · rintro (⟨h1, h2⟩ | h1 | ⟨h1, -⟩)
    · exact Or.inl ⟨by omega, h2⟩
    · exact Or.inr h1
    · exact absurd h1 h
theorem rd_B {st : Nat → Prop} {len : Nat} {Y : Nat → Prop} {j k : Nat} (h : ¬ st j) : rd st len Y j k ↔ (k ≠ j ∧ rd st len Y (j + 1) k) := by
  unfold rd
  rw [mv_s (j := j)]
  constructor
  · rintro (⟨h1, h2⟩ | h1 | ⟨-, h1, -⟩)
    · exact ⟨by omega, Or.inl ⟨by omega, h2⟩⟩
    · have := mv_ge h1; exact ⟨by omega, Or.inr h1⟩
    · exact absurd h1 h
  · rintro ⟨h0, ⟨h1, h2⟩ | h1⟩
    · exact Or.inl ⟨by omega, h2⟩
    · exact Or.inr (Or.inl h1)
theorem rd_C {st : Nat → Prop} {len : Nat} {Y : Nat → Prop} {j k : Nat} (hY : Y j) (h : st j) : rd st len Y j k ↔ (k = j + len ∨ (k ≠ j ∧ rd st len Y (j + 1) k)) := by
  unfold rd
  rw [mv_s (j := j)]
  constructor
  · rintro (⟨h1, h2⟩ | h1 | ⟨-, -, h1⟩)
    · exact Or.inr ⟨by omega, Or.inl ⟨by omega, h2⟩⟩
    · have := mv_ge h1; exact Or.inr ⟨by omega, Or.inr h1⟩
    · exact Or.inl h1
  · rintro (h1 | ⟨h0, ⟨h1, h2⟩ | h1⟩)
    · exact Or.inr (Or.inr ⟨hY, h, h1⟩)
    · exact Or.inl ⟨by omega, h2⟩
    · exact Or.inr (Or.inl h1)
theorem rd_0 {st : Nat → Prop} {len : Nat} {X : Nat → Prop} {t k : Nat} : rd st len (rset st len X t) 0 k ↔ rset st len X (t + 1) k := by
  unfold rd mv
  constructor
  · rintro (⟨h, -⟩ | ⟨j, -, h⟩)
    · omega
    · exact ⟨j, h⟩
  · rintro ⟨j, h⟩
    exact Or.inr ⟨j, Nat.zero_le j, h⟩
theorem mv_0 {st : Nat → Prop} {len : Nat} {X : Nat → Prop} {t k : Nat} : mv st len (rset st len X t) 0 k ↔ rset st len X (t + 1) k := by
  constructor
  · rintro ⟨j, -, h⟩
    exact ⟨j, h⟩
  · rintro ⟨j, h⟩
    exact ⟨j, Nat.zero_le j, h⟩
theorem up_iff {P : Nat → Prop} {k j : Nat} {v : Prop} : va_up P k v j ↔ (j = k ∧ v) ∨ (j ≠ k ∧ P j) := by
  unfold va_up
  by_cases h : j = k
  · rw [if_pos h]; simp [h]
  · rw [if_neg h]; simp [h]
end
section
set_option maxHeartbeats 4000000 in
set_option maxRecDepth 100000 in
/-- Pattern.times -/
theorem c_Pt_times (l : Launch) (D : va_G) (cI cB cZ : ClassId) (a : Nat → Nat) (c u : Nat) (L M C F S : Nat → Nat) (li : Nat → Int8) (no th ro : Nat → Prop) (z : Nat) (tx : Nat → Int8) (pp : Nat) (sl : Int32) (X : Nat → Prop) (hp : pp < 128) (hz : z ≤ 255) (hC : C pp < 128) (hFS : F pp + S pp ≤ 255) (hL : L pp ≤ 255) (hM : M pp ≤ 255) (hX : ∀ k, X k → k ≤ z) (hro : ∀ k, k ≤ z → (ro k ↔ X k)) (hth : ∀ k, k ≤ z → (th k ↔ (L pp = 0 ∧ X k))) (sz : Nat) : Met l y_Pt_times cw_Pt_times ({ frames := 3, cells := 0, slots := 0, locals := 66 }) (va_Pc [.ref (a 0), .int (nI pp), .ref (a 10), .int sl, .int (nI z)] (Bp D cI cB cZ (wC cI cB cZ a c u L M C F S li no th ro z tx) sz)) (va_Qv (S := (Nat → Prop) × (Nat → Prop)) (fun v_ => ∀ k, k ≤ z → (v_.1 k ↔ ∃ t, L pp ≤ t ∧ t ≤ M pp ∧ rset (st1 (C pp) (S pp) (F pp) li tx z) (len1 (C pp) (S pp)) X t k)) (fun v_ => Bq D cI cB cZ (va_A (wC cI cB cZ a c u L M C F S li no th ro z tx) sz) ((wC cI cB cZ a c u L M C F S li no v_.1 v_.2 z tx))) (va_A (wC cI cB cZ a c u L M C F S li no th ro z tx) sz)) 0 0 (va_A (wC cI cB cZ a c u L M C F S li no th ro z tx) sz) := by
  refine Met.ofW (cc := b_Pt_times) (maxL := 9) (ret := none) (by decide) rfl ?_
  intro p e s m args below meth c1 s₁ B hml hv
  obtain ⟨rfl, hsz, hP, hK, hD0, hN⟩ := hv
  subst hsz
  have hx := B.exec
  have hb := B.bytes
  have hr := B.returns
  have hT : ∀ w ∈ tw_, w.before _ s = true := fun w h => atoms_spec (ws := cw_Pt_times) B.pre w (List.mem_cons_of_mem _ h)
  have hown : s.vm.findClass R_Pt = some m.cls := findClass_of_methodNamed B.named
  have hlocks := B.notSynchronized
  have hD := hD0.self (sz := s.heap.size)
  generalize hAe : va_A (wC cI cB cZ a c u L M C F S li no th ro z tx) s.heap.size = A at hD ⊢
  have hA : ∀ q : Nat, s.heap.size ≤ q → A q := fun q h => by rw [← hAe]; exact Or.inr h
  have hS : va_S A s.heap s.heap [] := va_S.rf
  have hl := lv_entry ([.ref (a 0), .int (nI pp), .ref (a 10), .int sl, .int (nI z)]) (n := 9) (Nat.le_of_ble_eq_true rfl)
  rw [lg_entry_eq]
  generalize (lg_sl ([.ref (a 0), .int (nI pp), .ref (a 10), .int sl, .int (nI z)]) ++ List.replicate (9 - (lg_sl ([.ref (a 0), .int (nI pp), .ref (a 10), .int sl, .int (nI z)])).length) Slot.unset).toArray = ls at hl ⊢
  have hl : lv_has ls 9 [(0, .ref (a 0)), (1, .int (nI pp)), (2, .ref (a 10)), (3, .int sl), (4, .int (nI z))] := hl
  refine lv_iconst (v := nI 1) hx hb d_Pt_times_0 (by decide) ?_
  refine lv_istore (lv' := [(5, .int (nI 1)), (0, .ref (a 0)), (1, .int (nI pp)), (2, .ref (a 10)), (3, .int sl), (4, .int (nI z))]) hx hb d_Pt_times_1 hl (by decide) rfl (fun ls hl => ?_)
  have hl : lv_has ls 9 [(5, .int (nI (0 + 1))), (0, .ref (a 0)), (1, .int (nI pp)), (2, .ref (a 10)), (3, .int sl), (4, .int (nI z))] := hl
  have hXr : ∀ t k, rset (st1 (C pp) (S pp) (F pp) li tx z) (len1 (C pp) (S pp)) X t k → k ≤ z := rset_le hX (fun _ h => st1_end h)
  refine y_loop (fun n_ H locs ls => ∃ (t : Nat) (th0 ro0 : Nat → Prop), n_ = M pp - t ∧ va_P D classes (wC cI cB cZ a c u L M C F S li no th0 ro0 z tx) H ∧ va_D A (wC cI cB cZ a c u L M C F S li no th0 ro0 z tx) ∧ va_S A s.heap H locs ∧ lv_has ls 9 [(5, .int (nI (t + 1))), (0, .ref (a 0)), (1, .int (nI pp)), (2, .ref (a 10)), (3, .int sl), (4, .int (nI z))] ∧ (t ≤ M pp) ∧ (∀ k, k ≤ z → (ro0 k ↔ rset (st1 (C pp) (S pp) (F pp) li tx z) (len1 (C pp) (S pp)) X t k)) ∧ (∀ k, k ≤ z → (th0 k ↔ ∃ t2, t2 ≤ t ∧ L pp ≤ t2 ∧ rset (st1 (C pp) (S pp) (F pp) li tx z) (len1 (C pp) (S pp)) X t2 k))) (M pp - 0) ⟨0, th, ro, rfl, hP, hD, hS, lv_sub hl [0, 1, 2, 3, 4, 5] rfl, Nat.zero_le _, hro, fun k hk => (hth k hk).trans ⟨fun ⟨g1, g2⟩ => ⟨0, Nat.le_refl 0, by omega, g2⟩, fun ⟨t2, g1, g2, g3⟩ => by
    have e : t2 = 0 := by omega
    subst e
    exact ⟨by omega, g3⟩⟩⟩ (fun n_ H locs ls hI1 ih1 => ?_)
  obtain ⟨t, th0, ro0, hn1, hP, hD, hS, hl, hv1_1, hv1_2, hv1_3⟩ := hI1
  refine lv_iload hx hb d_Pt_times_3 (lv_at hl 0 rfl) ?_
  refine lv_aload_n hx hb d_Pt_times_5 rfl (lv_at hl 1 rfl) ?_
  refine va_get (D := D) (ci := 1) (v := .ref (a 2)) (C := R_Pt) (T := F_Pt) (N := 11) hx hb hT i_Pt hown hK hP 0 rfl rfl 1 (by decide) (hT _ tw_k43) (fun _ h9 => h9) rfl d_Pt_times_6 ?_
  refine lv_iload_n hx hb d_Pt_times_9 rfl (lv_at hl 2 rfl) ?_
  refine y_iald hx hb hK hP 2 0 rfl rfl (by omega) (by decide) d_Pt_times_10 ?_
  refine y_icmp_gt (tgt := 122) hx hb (by omega) (by omega) d_Pt_times_11 (by decide) (fun h1 => ?_) (fun h1 => ?_)
  · exact y_vret hx hb hr hlocks hK (th0, ro0) hP hD hS (by
      intro k hk
      show th0 k ↔ _
      rw [hv1_3 k hk]
      constructor
      · rintro ⟨t2, h2, h3, h4⟩; exact ⟨t2, h3, by omega, h4⟩
      · rintro ⟨t2, h2, h3, h4⟩; exact ⟨t2, by omega, h2, h4⟩) d_Pt_times_122
  · refine lv_iconst (v := nI 0) hx hb d_Pt_times_14 (by decide) ?_
    refine y_to (z0 (P := False) not_false) ?_
    refine lv_istore (lv' := [(6, .int (zb False)), (5, .int (nI (t + 1))), (0, .ref (a 0)), (1, .int (nI pp)), (2, .ref (a 10)), (3, .int sl), (4, .int (nI z))]) hx hb d_Pt_times_15 hl (by decide) rfl (fun ls hl => ?_)
    refine lv_iload hx hb d_Pt_times_17 (lv_at hl 6 rfl) ?_
    refine lv_istore (lv' := [(7, .int (nI z)), (6, .int (zb False)), (5, .int (nI (t + 1))), (0, .ref (a 0)), (1, .int (nI pp)), (2, .ref (a 10)), (3, .int sl), (4, .int (nI z))]) hx hb d_Pt_times_19 hl (by decide) rfl (fun ls hl => ?_)
    have hl : lv_has ls 9 [(7, .int (dn (z + 1))), (6, .int (zb False)), (5, .int (nI (t + 1))), (0, .ref (a 0)), (1, .int (nI pp)), (2, .ref (a 10)), (3, .int sl), (4, .int (nI z))] := by rw [dn_s]; exact hl
    refine y_loop (fun n_ H locs ls => ∃ (q : Nat) (th ro : Nat → Prop) (an : Prop), n_ = q ∧ va_P D classes (wC cI cB cZ a c u L M C F S li no th ro z tx) H ∧ va_D A (wC cI cB cZ a c u L M C F S li no th ro z tx) ∧ va_S A s.heap H locs ∧ lv_has ls 9 [(7, .int (dn q)), (6, .int (zb an)), (5, .int (nI (t + 1))), (0, .ref (a 0)), (1, .int (nI pp)), (2, .ref (a 10)), (3, .int sl), (4, .int (nI z))] ∧ (q ≤ z + 1) ∧ (∀ k, k ≤ z → (ro k ↔ rd (st1 (C pp) (S pp) (F pp) li tx z) (len1 (C pp) (S pp)) (rset (st1 (C pp) (S pp) (F pp) li tx z) (len1 (C pp) (S pp)) X t) q k)) ∧ (∀ k, k ≤ z → (th k ↔ th0 k ∨ (L pp ≤ t + 1 ∧ mv (st1 (C pp) (S pp) (F pp) li tx z) (len1 (C pp) (S pp)) (rset (st1 (C pp) (S pp) (F pp) li tx z) (len1 (C pp) (S pp)) X t) q k))) ∧ (an ↔ ∃ j, q ≤ j ∧ (rset (st1 (C pp) (S pp) (F pp) li tx z) (len1 (C pp) (S pp)) X t) j ∧ (st1 (C pp) (S pp) (F pp) li tx z) j)) (z + 1) ⟨z + 1, th0, ro0, False, rfl, hP, hD, hS, lv_sub hl [0, 1, 2, 3, 4, 5, 6, 7] rfl, Nat.le_refl _, fun k hk => (hv1_2 k hk).trans (rd_start (hXr t) hk).symm, fun k hk => ⟨Or.inl, fun g => g.elim id (fun g => absurd g.2 (mv_out (Nat.lt_succ_self z) (hXr t)))⟩, ⟨fun g => g.elim, fun ⟨j, g1, g2, _⟩ => absurd (hXr t j g2) (by omega)⟩⟩ (fun n_ H locs ls hI2 ih2 => ?_)
    obtain ⟨q, th, ro, an, hn2, hP, hD, hS, hl, hv2_1, hv2_2, hv2_3, hv2_4⟩ := hI2
    refine lv_iload hx hb d_Pt_times_21 (lv_at hl 0 rfl) ?_
    refine y_dn (tgt := 110) hx hb (by omega) d_Pt_times_23 (by decide) (fun hq => ?_) (fun j hq => ?_)
    · subst hq
      refine lv_iload hx hb d_Pt_times_110 (lv_at hl 1 rfl) ?_
      refine y_ifne (tgt := 116) hx hb d_Pt_times_112 (by decide) (fun h6 => ?_) (fun h6 => ?_)
      · refine lv_iinc (v := (nI (t + 1 + 1))) (lv' := [(5, .int (nI (t + 1 + 1))), (7, .int (dn 0)), (6, .int (zb an)), (0, .ref (a 0)), (1, .int (nI pp)), (2, .ref (a 10)), (3, .int sl), (4, .int (nI z))]) hx hb d_Pt_times_116 hl (k := 2) rfl (nI_add _ 1) (by decide) rfl (fun ls hl => ?_)
        refine lv_goto (tgt := 3) hx hb d_Pt_times_119 (by decide) ?_
        exact ih1 _ _ _ _ (by omega) ⟨t + 1, th, ro, rfl, hP, hD, hS, lv_sub hl [0, 3, 4, 5, 6, 7] rfl, h1, fun k hk => (hv2_2 k hk).trans rd_0, fun k hk => by
          rw [hv2_3 k hk, hv1_3 k hk, mv_0]
          constructor
          · rintro (⟨t2, g1, g2, g3⟩ | ⟨g1, g2⟩)
            · exact ⟨t2, by omega, g2, g3⟩
            · exact ⟨t + 1, Nat.le_refl _, g1, g2⟩
          · rintro ⟨t2, g1, g2, g3⟩
            rcases Nat.eq_or_lt_of_le g1 with e | e
            · subst e; exact Or.inr ⟨g2, g3⟩
            · exact Or.inl ⟨t2, by omega, g2, g3⟩⟩
      · exact y_vret hx hb hr hlocks hK (th, ro) hP hD hS (by
          have hno : ∀ j, rset (st1 (C pp) (S pp) (F pp) li tx z) (len1 (C pp) (S pp)) X t j → ¬ (st1 (C pp) (S pp) (F pp) li tx z) j := fun j g1 g2 => h6 (hv2_4.mpr ⟨j, Nat.zero_le j, g1, g2⟩)
          have hno2 := rset_none hno
          intro k hk
          show th k ↔ _
          rw [hv2_3 k hk, hv1_3 k hk, mv_0]
          constructor
          · rintro (⟨t2, g1, g2, g3⟩ | ⟨g1, g2⟩)
            · exact ⟨t2, g2, by omega, g3⟩
            · exact absurd g2 (hno2 0 k)
          · rintro ⟨t2, g1, g2, g3⟩
            rcases Nat.lt_or_ge t t2 with e | e
            · exact absurd (show rset (st1 (C pp) (S pp) (F pp) li tx z) (len1 (C pp) (S pp)) X (t + 1 + (t2 - (t + 1))) k by rw [show t + 1 + (t2 - (t + 1)) = t2 by omega]; exact g3) (hno2 _ k)
            · exact Or.inl ⟨t2, e, g1, g3⟩) d_Pt_times_115
    · subst hq
      rw [dn_s] at hl
      refine lv_aload_n hx hb d_Pt_times_26 rfl (lv_at hl 3 rfl) ?_
      refine va_get (D := D) (ci := 1) (v := .ref (a 9)) (C := R_Pt) (T := F_Pt) (N := 11) hx hb hT i_Pt hown hK hP 0 rfl rfl 8 (by decide) (hT _ tw_k53) (fun _ h9 => h9) rfl d_Pt_times_27 ?_
      refine lv_iload hx hb d_Pt_times_30 (lv_at hl 0 rfl) ?_
      refine y_zald hx hb hK hP 9 2 rfl rfl (by omega) (by decide) d_Pt_times_32 ?_
      refine y_ifne (tgt := 39) hx hb d_Pt_times_33 (by decide) (fun h3 => ?_) (fun h3 => ?_)
      · have hYj : (rset (st1 (C pp) (S pp) (F pp) li tx z) (len1 (C pp) (S pp)) X t) j := rd_at.mp ((hv2_2 j (by omega)).mp h3)
        refine lv_aload_n hx hb d_Pt_times_39 rfl (lv_at hl 3 rfl) ?_
        refine lv_iload_n hx hb d_Pt_times_40 rfl (lv_at hl 4 rfl) ?_
        refine lv_aload_n hx hb d_Pt_times_41 rfl (lv_at hl 5 rfl) ?_
        refine lv_iload_n hx hb d_Pt_times_42 rfl (lv_at hl 6 rfl) ?_
        refine lv_iload hx hb d_Pt_times_43 (lv_at hl 0 rfl) ?_
        refine y_i (w0 := (wC cI cB cZ a c u L M C F S li no th ro z tx)) (wr := []) hP hD hS hA [0, 1, 2, 3, 4, 5, 6, 7, 8, 9, 10, 11] [] rfl rfl (by decide) (by decide) (y_runV (n := 4) (rm := { frames := 2, cells := 0, slots := 0, locals := 40 }) (w0 := (wC cI cB cZ a c u L M C F S li no th ro z tx)) (q0 := 0) (b := a 0) (As := [.int (nI pp), .ref (a 10), .int sl, .int (nI j)]) (rest := []) hx hb hml hown hT hN hK hP hD (c_Pt_once l D cI cB cZ a c u L M C F S li no th ro z tx pp sl j hp hz (by omega) hC hFS _) ⟨tw_k155, tw_k9, tw_k152, by decide +kernel⟩ ⟨tw_k154, tw_k1⟩ [0, 1, 2, 3, 4, 5, 6, 7, 8, 9, 10, 11] rfl (by decide) rfl rfl ⟨Nat.le_of_ble_eq_true rfl, Nat.le_of_ble_eq_true rfl⟩ rfl hl.1 rfl (Nat.le_of_ble_eq_true rfl) d_Pt_times_45 ⟨Nat.le_of_ble_eq_true rfl, Nat.le_of_ble_eq_true rfl⟩) (fun r v_ H locs ho hP hD hS => ?_)
        have hP : va_P D classes (wC cI cB cZ a c u L M C F S li no th ro z tx) H := hP
        have hD : va_D A (wC cI cB cZ a c u L M C F S li no th ro z tx) := hD
        rcases ho with ⟨hst, rfl⟩ | ⟨hst, rfl⟩
        · have hje := st1_end hst
          refine lv_istore (lv' := [(8, .int (nI (j + (len1 (C pp) (S pp))))), (7, .int (nI j)), (6, .int (zb an)), (5, .int (nI (t + 1))), (0, .ref (a 0)), (1, .int (nI pp)), (2, .ref (a 10)), (3, .int sl), (4, .int (nI z))]) hx hb d_Pt_times_48 hl (by decide) rfl (fun ls hl => ?_)
          refine lv_aload_n hx hb d_Pt_times_50 rfl (lv_at hl 4 rfl) ?_
          refine va_get (D := D) (ci := 1) (v := .ref (a 9)) (C := R_Pt) (T := F_Pt) (N := 11) hx hb hT i_Pt hown hK hP 0 rfl rfl 8 (by decide) (hT _ tw_k53) (fun _ h9 => h9) rfl d_Pt_times_51 ?_
          refine lv_iload hx hb d_Pt_times_54 (lv_at hl 1 rfl) ?_
          refine lv_iconst (v := nI 0) hx hb d_Pt_times_56 (by decide) ?_
          refine y_to (z0 (P := False) not_false) ?_
          refine y_zast hx hb hK hP hD hS 9 2 rfl rfl (by omega) (by decide) d_Pt_times_57 (fun H locs hP hD hS => ?_)
          have hP : va_P D classes (wC cI cB cZ a c u L M C F S li no th (va_up ro j False) z tx) H := hP
          have hD : va_D A (wC cI cB cZ a c u L M C F S li no th (va_up ro j False) z tx) := hD
          refine lv_iload hx hb d_Pt_times_58 (lv_at hl 0 rfl) ?_
          refine lv_iconst (v := -1) hx hb d_Pt_times_60 (by decide) ?_
          refine lv_icmp_ne (tgt := 67) hx hb d_Pt_times_61 (by decide) (fun h4 => ?_) (fun h4 => ?_)
          · refine lv_aload_n hx hb d_Pt_times_67 rfl (lv_at hl 4 rfl) ?_
            refine va_get (D := D) (ci := 1) (v := .ref (a 9)) (C := R_Pt) (T := F_Pt) (N := 11) hx hb hT i_Pt hown hK hP 0 rfl rfl 8 (by decide) (hT _ tw_k53) (fun _ h9 => h9) rfl d_Pt_times_68 ?_
            refine lv_iload hx hb d_Pt_times_71 (lv_at hl 0 rfl) ?_
            refine lv_iconst (v := nI 1) hx hb d_Pt_times_73 (by decide) ?_
            refine y_to (z1 (P := True) trivial) ?_
            refine y_zast hx hb hK hP hD hS 9 2 rfl rfl (by omega) (by decide) d_Pt_times_74 (fun H locs hP hD hS => ?_)
            have hP : va_P D classes (wC cI cB cZ a c u L M C F S li no th (va_up (va_up ro j False) (j + (len1 (C pp) (S pp))) True) z tx) H := hP
            have hD : va_D A (wC cI cB cZ a c u L M C F S li no th (va_up (va_up ro j False) (j + (len1 (C pp) (S pp))) True) z tx) := hD
            refine lv_iconst (v := nI 1) hx hb d_Pt_times_75 (by decide) ?_
            refine y_to (z1 (P := True) trivial) ?_
            refine lv_istore (lv' := [(6, .int (zb True)), (8, .int (nI (j + (len1 (C pp) (S pp))))), (7, .int (nI j)), (5, .int (nI (t + 1))), (0, .ref (a 0)), (1, .int (nI pp)), (2, .ref (a 10)), (3, .int sl), (4, .int (nI z))]) hx hb d_Pt_times_76 hl (by decide) rfl (fun ls hl => ?_)
            refine lv_aload_n hx hb d_Pt_times_78 rfl (lv_at hl 4 rfl) ?_
            refine va_get (D := D) (ci := 1) (v := .ref (a 8)) (C := R_Pt) (T := F_Pt) (N := 11) hx hb hT i_Pt hown hK hP 0 rfl rfl 7 (by decide) (hT _ tw_k52) (fun _ h9 => h9) rfl d_Pt_times_79 ?_
            refine lv_iload hx hb d_Pt_times_82 (lv_at hl 1 rfl) ?_
            refine lv_dup2_11 hx hb d_Pt_times_84 rfl rfl ?_
            refine y_zald hx hb hK hP 8 2 rfl rfl (by omega) (by decide) d_Pt_times_85 ?_
            refine y_join (pcj := 102) (stj := [.int (zb (L pp ≤ t + 1)), .int (zb (th (j + (len1 (C pp) (S pp))))), .int (nI (j + (len1 (C pp) (S pp)))), .ref (a 8)]) ?_ (fun hj => ?_)
            · refine y_iorZ hx hb d_Pt_times_102 ?_
              refine y_zast hx hb hK hP hD hS 8 2 rfl rfl (by omega) (by decide) d_Pt_times_103 (fun H locs hP hD hS => ?_)
              have hP : va_P D classes (wC cI cB cZ a c u L M C F S li no (va_up th (j + (len1 (C pp) (S pp))) ((th (j + (len1 (C pp) (S pp)))) ∨ (L pp ≤ t + 1))) (va_up (va_up ro j False) (j + (len1 (C pp) (S pp))) True) z tx) H := hP
              have hD : va_D A (wC cI cB cZ a c u L M C F S li no (va_up th (j + (len1 (C pp) (S pp))) ((th (j + (len1 (C pp) (S pp)))) ∨ (L pp ≤ t + 1))) (va_up (va_up ro j False) (j + (len1 (C pp) (S pp))) True) z tx) := hD
              refine lv_iinc (v := (dn j)) (lv' := [(7, .int (dn j)), (6, .int (zb True)), (8, .int (nI (j + (len1 (C pp) (S pp))))), (5, .int (nI (t + 1))), (0, .ref (a 0)), (1, .int (nI pp)), (2, .ref (a 10)), (3, .int sl), (4, .int (nI z))]) hx hb d_Pt_times_104 hl (k := 2) rfl (dn_i _) (by decide) rfl (fun ls hl => ?_)
              refine lv_goto (tgt := 21) hx hb d_Pt_times_107 (by decide) ?_
              exact ih2 _ _ _ _ (by omega) ⟨j, va_up th (j + (len1 (C pp) (S pp))) ((th (j + (len1 (C pp) (S pp)))) ∨ (L pp ≤ t + 1)), va_up (va_up ro j False) (j + (len1 (C pp) (S pp))) True, True, rfl, hP, hD, hS, lv_sub hl [0, 1, 3, 4, 5, 6, 7, 8] rfl, by omega, fun k hk => by
                rw [up_iff, up_iff, rd_C hYj hst, ← hv2_2 k hk]
                constructor
                · rintro (⟨g1, -⟩ | ⟨g1, ⟨-, g2⟩ | ⟨g2, g3⟩⟩)
                  · exact Or.inl g1
                  · exact g2.elim
                  · exact Or.inr ⟨g2, g3⟩
                · rintro (g1 | ⟨g1, g2⟩)
                  · exact Or.inl ⟨g1, trivial⟩
                  · by_cases e : k = j + (len1 (C pp) (S pp))
                    · exact Or.inl ⟨e, trivial⟩
                    · exact Or.inr ⟨e, Or.inr ⟨g1, g2⟩⟩, fun k hk => by
                rw [up_iff, hv2_3 _ hje, mv_s (j := j)]
                constructor
                · rintro (⟨rfl, (g | ⟨g1, g2⟩) | g⟩ | ⟨g1, g2⟩)
                  · exact Or.inl g
                  · exact Or.inr ⟨g1, Or.inl g2⟩
                  · exact Or.inr ⟨g, Or.inr ⟨hYj, hst, rfl⟩⟩
                  · rcases (hv2_3 k hk).mp g2 with g | ⟨g3, g4⟩
                    · exact Or.inl g
                    · exact Or.inr ⟨g3, Or.inl g4⟩
                · intro g
                  by_cases e : k = j + (len1 (C pp) (S pp))
                  · subst e
                    refine Or.inl ⟨rfl, ?_⟩
                    rcases g with g | ⟨g1, g2 | ⟨-, -, -⟩⟩
                    · exact Or.inl (Or.inl g)
                    · exact Or.inl (Or.inr ⟨g1, g2⟩)
                    · exact Or.inr g1
                  · refine Or.inr ⟨e, (hv2_3 k hk).mpr ?_⟩
                    rcases g with g | ⟨g1, g2 | ⟨-, -, g2⟩⟩
                    · exact Or.inl g
                    · exact Or.inr ⟨g1, g2⟩
                    · exact absurd g2 e, ⟨fun _ => ⟨j, Nat.le_refl j, hYj, hst⟩, fun _ => trivial⟩⟩
            · refine lv_iload hx hb d_Pt_times_86 (lv_at hl 3 rfl) ?_
              refine lv_aload_n hx hb d_Pt_times_88 rfl (lv_at hl 4 rfl) ?_
              refine va_get (D := D) (ci := 1) (v := .ref (a 1)) (C := R_Pt) (T := F_Pt) (N := 11) hx hb hT i_Pt hown hK hP 0 rfl rfl 0 (by decide) (hT _ tw_k42) (fun _ h9 => h9) rfl d_Pt_times_89 ?_
              refine lv_iload_n hx hb d_Pt_times_92 rfl (lv_at hl 5 rfl) ?_
              refine y_iald hx hb hK hP 1 0 rfl rfl (by omega) (by decide) d_Pt_times_93 ?_
              refine y_icmp_lt (tgt := 101) hx hb (by omega) (by omega) d_Pt_times_94 (by decide) (fun h5 => ?_) (fun h5 => ?_)
              · refine lv_iconst (v := nI 0) hx hb d_Pt_times_101 (by decide) ?_
                exact y_to (z0 (Nat.not_le.mpr h5)) hj
              · refine lv_iconst (v := nI 1) hx hb d_Pt_times_97 (by decide) ?_
                refine lv_goto (tgt := 102) hx hb d_Pt_times_98 (by decide) ?_
                exact y_to (z1 h5) hj
          · exact absurd (show nI (j + (len1 (C pp) (S pp))) < 0 by rw [h4]; decide) (nI_pos (by omega))
        · refine lv_istore (lv' := [(8, .int (-1)), (7, .int (nI j)), (6, .int (zb an)), (5, .int (nI (t + 1))), (0, .ref (a 0)), (1, .int (nI pp)), (2, .ref (a 10)), (3, .int sl), (4, .int (nI z))]) hx hb d_Pt_times_48 hl (by decide) rfl (fun ls hl => ?_)
          refine lv_aload_n hx hb d_Pt_times_50 rfl (lv_at hl 4 rfl) ?_
          refine va_get (D := D) (ci := 1) (v := .ref (a 9)) (C := R_Pt) (T := F_Pt) (N := 11) hx hb hT i_Pt hown hK hP 0 rfl rfl 8 (by decide) (hT _ tw_k53) (fun _ h9 => h9) rfl d_Pt_times_51 ?_
          refine lv_iload hx hb d_Pt_times_54 (lv_at hl 1 rfl) ?_
          refine lv_iconst (v := nI 0) hx hb d_Pt_times_56 (by decide) ?_
          refine y_to (z0 (P := False) not_false) ?_
          refine y_zast hx hb hK hP hD hS 9 2 rfl rfl (by omega) (by decide) d_Pt_times_57 (fun H locs hP hD hS => ?_)
          have hP : va_P D classes (wC cI cB cZ a c u L M C F S li no th (va_up ro j False) z tx) H := hP
          have hD : va_D A (wC cI cB cZ a c u L M C F S li no th (va_up ro j False) z tx) := hD
          refine lv_iload hx hb d_Pt_times_58 (lv_at hl 0 rfl) ?_
          refine lv_iconst (v := -1) hx hb d_Pt_times_60 (by decide) ?_
          refine lv_icmp_ne (tgt := 67) hx hb d_Pt_times_61 (by decide) (fun h4 => ?_) (fun h4 => ?_)
          · exact absurd rfl h4
          · refine lv_goto (tgt := 104) hx hb d_Pt_times_64 (by decide) ?_
            refine lv_iinc (v := (dn j)) (lv' := [(7, .int (dn j)), (8, .int (-1)), (6, .int (zb an)), (5, .int (nI (t + 1))), (0, .ref (a 0)), (1, .int (nI pp)), (2, .ref (a 10)), (3, .int sl), (4, .int (nI z))]) hx hb d_Pt_times_104 hl (k := 1) rfl (dn_i _) (by decide) rfl (fun ls hl => ?_)
            refine lv_goto (tgt := 21) hx hb d_Pt_times_107 (by decide) ?_
            exact ih2 _ _ _ _ (by omega) ⟨j, th, va_up ro j False, an, rfl, hP, hD, hS, lv_sub hl [0, 2, 3, 4, 5, 6, 7, 8] rfl, by omega, fun k hk => by
              rw [up_iff, rd_B hst, ← hv2_2 k hk]
              constructor
              · rintro (⟨-, g⟩ | g)
                · exact g.elim
                · exact g
              · exact Or.inr, fun k hk => by
              rw [hv2_3 k hk, mv_s (j := j)]
              constructor
              · rintro (g | ⟨g1, g2⟩)
                · exact Or.inl g
                · exact Or.inr ⟨g1, Or.inl g2⟩
              · rintro (g | ⟨g1, g2 | ⟨-, g2, -⟩⟩)
                · exact Or.inl g
                · exact Or.inr ⟨g1, g2⟩
                · exact absurd g2 hst, hv2_4.trans ⟨fun ⟨i, g1, g2⟩ => ⟨i, by omega, g2⟩, fun ⟨i, g1, g2, g3⟩ => ⟨i, by
              rcases Nat.eq_or_lt_of_le g1 with e | e
              · subst e; exact absurd g3 hst
              · exact e, g2, g3⟩⟩⟩
      · have hYj : ¬ (rset (st1 (C pp) (S pp) (F pp) li tx z) (len1 (C pp) (S pp)) X t) j := fun g => h3 ((hv2_2 j (by omega)).mpr (rd_at.mpr g))
        refine lv_goto (tgt := 104) hx hb d_Pt_times_36 (by decide) ?_
        refine lv_iinc (v := (dn j)) (lv' := [(7, .int (dn j)), (6, .int (zb an)), (5, .int (nI (t + 1))), (0, .ref (a 0)), (1, .int (nI pp)), (2, .ref (a 10)), (3, .int sl), (4, .int (nI z))]) hx hb d_Pt_times_104 hl (k := 0) rfl (dn_i _) (by decide) rfl (fun ls hl => ?_)
        refine lv_goto (tgt := 21) hx hb d_Pt_times_107 (by decide) ?_
        exact ih2 _ _ _ _ (by omega) ⟨j, th, ro, an, rfl, hP, hD, hS, lv_sub hl [0, 1, 2, 3, 4, 5, 6, 7] rfl, by omega, fun k hk => (hv2_2 k hk).trans (rd_A hYj), fun k hk => by
          rw [hv2_3 k hk, mv_s (j := j)]
          constructor
          · rintro (g | ⟨g1, g2⟩)
            · exact Or.inl g
            · exact Or.inr ⟨g1, Or.inl g2⟩
          · rintro (g | ⟨g1, g2 | ⟨g2, -⟩⟩)
            · exact Or.inl g
            · exact Or.inr ⟨g1, g2⟩
            · exact absurd g2 hYj, hv2_4.trans ⟨fun ⟨i, g1, g2⟩ => ⟨i, by omega, g2⟩, fun ⟨i, g1, g2, g3⟩ => ⟨i, by
          rcases Nat.eq_or_lt_of_le g1 with e | e
          · subst e; exact absurd g2 hYj
          · exact e, g2, g3⟩⟩⟩
end
section
/-- the places that p parts lead to, one behind the other, within n bytes -/
def Rc (L M C F S : Nat → Nat) (li tx : Nat → Int8) (n : Nat) : Nat → Nat → Prop
  | 0, k => k = 0
  | p + 1, k => ∃ t, L p ≤ t ∧ t ≤ M p ∧ rset (st1 (C p) (S p) (F p) li tx n) (len1 (C p) (S p)) (Rc L M C F S li tx n p) t k
theorem Rc_le {L M C F S : Nat → Nat} {li tx : Nat → Int8} {n : Nat} : ∀ p k, Rc L M C F S li tx n p k → k ≤ n
  | 0, k, h => by rw [show k = 0 from h]; exact Nat.zero_le n
  | p + 1, k, ⟨_, _, _, h⟩ => rset_le (fun k h => Rc_le p k h) (fun _ h => st1_end h) _ _ h
theorem up_ext {P Q : Nat → Prop} {k : Nat} {v : Prop} (h : ∀ j, j < k → (P j ↔ Q j)) (hv : v ↔ Q k) : ∀ j, j < k + 1 → (va_up P k v j ↔ Q j) := by
  intro j hj
  rw [up_iff]
  by_cases e : j = k
  · subst e
    exact ⟨fun g => g.elim (fun g => hv.mp g.2) (fun g => absurd rfl g.1), fun g => Or.inl ⟨rfl, hv.mpr g⟩⟩
  · exact ⟨fun g => g.elim (fun g => absurd g.1 e) (fun g => (h j (by omega)).mp g.2), fun g => Or.inr ⟨e, (h j (by omega)).mpr g⟩⟩
end
section
set_option maxHeartbeats 4000000 in
set_option maxRecDepth 100000 in
/-- Pattern.fits -/
theorem c_Pt_fits (l : Launch) (D : va_G) (cI cB cZ : ClassId) (a : Nat → Nat) (c u : Nat) (L M C F S : Nat → Nat) (li : Nat → Int8) (no th ro : Nat → Prop) (z : Nat) (tx : Nat → Int8) (sl : Int32) (hc : c ≤ 60) (hz : z ≤ 255) (hL : ∀ k, L k ≤ 255) (hM : ∀ k, M k ≤ 255) (hC : ∀ k, C k < 128) (hFS : ∀ k, k < c → F k + S k ≤ 255) (sz : Nat) : Met l y_Pt_fits cw_Pt_fits ({ frames := 4, cells := 0, slots := 0, locals := 94 }) (va_Pc [.ref (a 0), .ref (a 10), .int sl] (Bp D cI cB cZ (wC cI cB cZ a c u L M C F S li no th ro z tx) sz)) (va_Qi (S := (Nat → Prop) × (Nat → Prop) × (Nat → Prop)) (fun r v_ => r = zb (v_.1 z) ∧ ∀ k, k ≤ z → (v_.1 k ↔ Rc L M C F S li tx z c k)) (fun v_ => Bq D cI cB cZ (va_A (wC cI cB cZ a c u L M C F S li no th ro z tx) sz) ((wC cI cB cZ a c u L M C F S li v_.1 v_.2.1 v_.2.2 z tx))) (va_A (wC cI cB cZ a c u L M C F S li no th ro z tx) sz)) 0 0 (va_A (wC cI cB cZ a c u L M C F S li no th ro z tx) sz) := by
  refine Met.ofW (cc := b_Pt_fits) (maxL := 6) (ret := (some FieldType.boolean)) (by decide) rfl ?_
  intro p e s m args below meth c1 s₁ B hml hv
  obtain ⟨rfl, hsz, hP, hK, hD0, hN⟩ := hv
  subst hsz
  have hx := B.exec
  have hb := B.bytes
  have hr := B.returns
  have hT : ∀ w ∈ tw_, w.before _ s = true := fun w h => atoms_spec (ws := cw_Pt_fits) B.pre w (List.mem_cons_of_mem _ h)
  have hown : s.vm.findClass R_Pt = some m.cls := findClass_of_methodNamed B.named
  have hlocks := B.notSynchronized
  have hD := hD0.self (sz := s.heap.size)
  generalize hAe : va_A (wC cI cB cZ a c u L M C F S li no th ro z tx) s.heap.size = A at hD ⊢
  have hA : ∀ q : Nat, s.heap.size ≤ q → A q := fun q h => by rw [← hAe]; exact Or.inr h
  have hS : va_S A s.heap s.heap [] := va_S.rf
  have hl := lv_entry ([.ref (a 0), .ref (a 10), .int sl]) (n := 6) (Nat.le_of_ble_eq_true rfl)
  rw [lg_entry_eq]
  generalize (lg_sl ([.ref (a 0), .ref (a 10), .int sl]) ++ List.replicate (6 - (lg_sl ([.ref (a 0), .ref (a 10), .int sl])).length) Slot.unset).toArray = ls at hl ⊢
  have hl : lv_has ls 6 [(0, .ref (a 0)), (1, .ref (a 10)), (2, .int sl)] := hl
  refine lv_aload_n hx hb d_Pt_fits_0 rfl (lv_at hl 1 rfl) ?_
  refine lv_iload_n hx hb d_Pt_fits_1 rfl (lv_at hl 2 rfl) ?_
  refine y_i (w0 := (wPi cB a z tx)) (wr := [_, _, _, _, _, _, _, _, _, _]) hP hD hS hA [10, 11] [0, 1, 2, 3, 4, 5, 6, 7, 8, 9] rfl rfl (by decide) (by decide) (y_runV (n := 1) (rm := { frames := 0, cells := 0, slots := 0, locals := 0 }) (w0 := (wPi cB a z tx)) (q0 := 10) (b := a 10) (As := [.int sl]) (rest := []) hx hb hml hown hT hN hK hP hD (c_Pi_size l D cI cB cZ a z tx sl _) ⟨tw_k147, tw_k8, tw_k144, by decide +kernel⟩ ⟨tw_k145, tw_k146⟩ [10, 11] rfl (by decide) rfl rfl ⟨Nat.le_of_ble_eq_true rfl, Nat.le_of_ble_eq_true rfl⟩ rfl hl.1 rfl (Nat.le_of_ble_eq_true rfl) d_Pt_fits_2 ⟨Nat.le_of_ble_eq_true rfl, Nat.le_of_ble_eq_true rfl⟩) (fun r v_ H locs hp hP hD hS => ?_)
  have hP : va_P D classes (wC cI cB cZ a c u L M C F S li no th ro z tx) H := hP
  have hD : va_D A (wC cI cB cZ a c u L M C F S li no th ro z tx) := hD
  subst hp
  refine lv_istore_n (lv' := [(3, .int (nI z)), (0, .ref (a 0)), (1, .ref (a 10)), (2, .int sl)]) hx hb d_Pt_fits_5 rfl hl (by decide) rfl (fun ls hl => ?_)
  refine lv_iconst (v := nI 0) hx hb d_Pt_fits_6 (by decide) ?_
  refine lv_istore (lv' := [(4, .int (nI 0)), (3, .int (nI z)), (0, .ref (a 0)), (1, .ref (a 10)), (2, .int sl)]) hx hb d_Pt_fits_7 hl (by decide) rfl (fun ls hl => ?_)
  refine y_loop (fun n_ H locs ls => ∃ (k : Nat) (no : Nat → Prop), n_ = z + 1 - k ∧ va_P D classes (wC cI cB cZ a c u L M C F S li no th ro z tx) H ∧ va_D A (wC cI cB cZ a c u L M C F S li no th ro z tx) ∧ va_S A s.heap H locs ∧ lv_has ls 6 [(4, .int (nI k)), (0, .ref (a 0)), (1, .ref (a 10)), (2, .int sl), (3, .int (nI z))] ∧ (k ≤ z + 1) ∧ (∀ j, j < k → (no j ↔ j = 0))) (z + 1 - 0) ⟨0, no, rfl, hP, hD, hS, lv_sub hl [0, 2, 3, 4, 1] rfl, Nat.zero_le _, fun j hj => absurd hj (Nat.not_lt_zero j)⟩ (fun n_ H locs ls hI1 ih1 => ?_)
  obtain ⟨k, no, hn1, hP, hD, hS, hl, hv1_1, hv1_2⟩ := hI1
  refine lv_iload hx hb d_Pt_fits_9 (lv_at hl 0 rfl) ?_
  refine lv_iload_n hx hb d_Pt_fits_11 rfl (lv_at hl 4 rfl) ?_
  refine y_icmp_gt (tgt := 38) hx hb (by omega) (by omega) d_Pt_fits_12 (by decide) (fun h1 => ?_) (fun h1 => ?_)
  · refine lv_iconst (v := nI 0) hx hb d_Pt_fits_38 (by decide) ?_
    refine lv_istore (lv' := [(4, .int (nI 0)), (0, .ref (a 0)), (1, .ref (a 10)), (2, .int sl), (3, .int (nI z))]) hx hb d_Pt_fits_39 hl (by decide) rfl (fun ls hl => ?_)
    refine y_loop (fun n_ H locs ls => ∃ (pp : Nat) (no th ro : Nat → Prop), n_ = c - pp ∧ va_P D classes (wC cI cB cZ a c u L M C F S li no th ro z tx) H ∧ va_D A (wC cI cB cZ a c u L M C F S li no th ro z tx) ∧ va_S A s.heap H locs ∧ lv_has ls 6 [(4, .int (nI pp)), (0, .ref (a 0)), (1, .ref (a 10)), (2, .int sl), (3, .int (nI z))] ∧ (pp ≤ c) ∧ (∀ j, j ≤ z → (no j ↔ Rc L M C F S li tx z pp j))) (c - 0) ⟨0, no, th, ro, rfl, hP, hD, hS, lv_sub hl [0, 1, 2, 3, 4] rfl, Nat.zero_le _, fun j hj => hv1_2 j (by omega)⟩ (fun n_ H locs ls hI2 ih2 => ?_)
    obtain ⟨pp, no, th, ro, hn2, hP, hD, hS, hl, hv2_1, hv2_2⟩ := hI2
    refine lv_iload hx hb d_Pt_fits_41 (lv_at hl 0 rfl) ?_
    refine lv_aload_n hx hb d_Pt_fits_43 rfl (lv_at hl 1 rfl) ?_
    refine va_get (D := D) (ci := 1) (v := .int (nI c)) (C := R_Pt) (T := F_Pt) (N := 11) hx hb hT i_Pt hown hK hP 0 rfl rfl 9 (by decide) (hT _ tw_k54) (fun _ h9 => h9) rfl d_Pt_fits_44 ?_
    refine y_icmp_ge (tgt := 155) hx hb (by omega) (by omega) d_Pt_fits_47 (by decide) (fun h2 => ?_) (fun h2 => ?_)
    · have hpe : pp = c := by omega
      subst hpe
      refine lv_aload_n hx hb d_Pt_fits_155 rfl (lv_at hl 1 rfl) ?_
      refine va_get (D := D) (ci := 1) (v := .ref (a 7)) (C := R_Pt) (T := F_Pt) (N := 11) hx hb hT i_Pt hown hK hP 0 rfl rfl 6 (by decide) (hT _ tw_k50) (fun _ h9 => h9) rfl d_Pt_fits_156 ?_
      refine lv_iload_n hx hb d_Pt_fits_159 rfl (lv_at hl 4 rfl) ?_
      refine y_zald hx hb hK hP 7 2 rfl rfl (by omega) (by decide) d_Pt_fits_160 ?_
      exact y_zret hx hb hr hlocks hK (no, th, ro) hP hD hS (⟨rfl, hv2_2⟩) d_Pt_fits_161
    · refine lv_iconst (v := nI 0) hx hb d_Pt_fits_50 (by decide) ?_
      refine lv_istore (lv' := [(5, .int (nI 0)), (4, .int (nI pp)), (0, .ref (a 0)), (1, .ref (a 10)), (2, .int sl), (3, .int (nI z))]) hx hb d_Pt_fits_51 hl (by decide) rfl (fun ls hl => ?_)
      refine y_loop (fun n_ H locs ls => ∃ (k : Nat) (th ro : Nat → Prop), n_ = z + 1 - k ∧ va_P D classes (wC cI cB cZ a c u L M C F S li no th ro z tx) H ∧ va_D A (wC cI cB cZ a c u L M C F S li no th ro z tx) ∧ va_S A s.heap H locs ∧ lv_has ls 6 [(5, .int (nI k)), (4, .int (nI pp)), (0, .ref (a 0)), (1, .ref (a 10)), (2, .int sl), (3, .int (nI z))] ∧ (k ≤ z + 1) ∧ (∀ j, j < k → (th j ↔ (L pp = 0 ∧ no j))) ∧ (∀ j, j < k → (ro j ↔ no j))) (z + 1 - 0) ⟨0, th, ro, rfl, hP, hD, hS, lv_sub hl [0, 1, 2, 3, 4, 5] rfl, Nat.zero_le _, fun j hj => absurd hj (Nat.not_lt_zero j), fun j hj => absurd hj (Nat.not_lt_zero j)⟩ (fun n_ H locs ls hI3 ih3 => ?_)
      obtain ⟨k, th, ro, hn3, hP, hD, hS, hl, hv3_1, hv3_2, hv3_3⟩ := hI3
      refine lv_iload hx hb d_Pt_fits_53 (lv_at hl 0 rfl) ?_
      refine lv_iload_n hx hb d_Pt_fits_55 rfl (lv_at hl 5 rfl) ?_
      refine y_icmp_gt (tgt := 111) hx hb (by omega) (by omega) d_Pt_fits_56 (by decide) (fun h3 => ?_) (fun h3 => ?_)
      · refine lv_aload_n hx hb d_Pt_fits_111 rfl (lv_at hl 2 rfl) ?_
        refine lv_iload hx hb d_Pt_fits_112 (lv_at hl 1 rfl) ?_
        refine lv_aload_n hx hb d_Pt_fits_114 rfl (lv_at hl 3 rfl) ?_
        refine lv_iload_n hx hb d_Pt_fits_115 rfl (lv_at hl 4 rfl) ?_
        refine lv_iload_n hx hb d_Pt_fits_116 rfl (lv_at hl 5 rfl) ?_
        refine y_v (w0 := (wC cI cB cZ a c u L M C F S li no th ro z tx)) (wr := []) hP hD hS hA [0, 1, 2, 3, 4, 5, 6, 7, 8, 9, 10, 11] [] rfl rfl (by decide) (by decide) (y_runV (n := 4) (rm := { frames := 3, cells := 0, slots := 0, locals := 66 }) (w0 := (wC cI cB cZ a c u L M C F S li no th ro z tx)) (q0 := 0) (b := a 0) (As := [.int (nI pp), .ref (a 10), .int sl, .int (nI z)]) (rest := []) hx hb hml hown hT hN hK hP hD (c_Pt_times l D cI cB cZ a c u L M C F S li no th ro z tx pp sl (Rc L M C F S li tx z pp) (by omega) hz (hC pp) (hFS pp h2) (hL pp) (hM pp) (fun k h => Rc_le pp k h) (fun k hk => (hv3_3 k (by omega)).trans (hv2_2 k hk)) (fun k hk => (hv3_2 k (by omega)).trans (and_congr Iff.rfl (hv2_2 k hk))) _) ⟨tw_k151, tw_k9, tw_k148, by decide +kernel⟩ ⟨tw_k150, tw_k0⟩ [0, 1, 2, 3, 4, 5, 6, 7, 8, 9, 10, 11] rfl (by decide) rfl rfl ⟨Nat.le_of_ble_eq_true rfl, Nat.le_of_ble_eq_true rfl⟩ rfl hl.1 rfl (Nat.le_of_ble_eq_true rfl) d_Pt_fits_117 ⟨Nat.le_of_ble_eq_true rfl, Nat.le_of_ble_eq_true rfl⟩) (fun v_ H locs hp hP hD hS => ?_)
        obtain ⟨th, ro⟩ := v_
        have hP : va_P D classes (wC cI cB cZ a c u L M C F S li no th ro z tx) H := hP
        have hD : va_D A (wC cI cB cZ a c u L M C F S li no th ro z tx) := hD
        refine lv_iconst (v := nI 0) hx hb d_Pt_fits_120 (by decide) ?_
        refine lv_istore (lv' := [(5, .int (nI 0)), (4, .int (nI pp)), (0, .ref (a 0)), (1, .ref (a 10)), (2, .int sl), (3, .int (nI z))]) hx hb d_Pt_fits_121 hl (by decide) rfl (fun ls hl => ?_)
        refine y_loop (fun n_ H locs ls => ∃ (k : Nat) (no : Nat → Prop), n_ = z + 1 - k ∧ va_P D classes (wC cI cB cZ a c u L M C F S li no th ro z tx) H ∧ va_D A (wC cI cB cZ a c u L M C F S li no th ro z tx) ∧ va_S A s.heap H locs ∧ lv_has ls 6 [(5, .int (nI k)), (4, .int (nI pp)), (0, .ref (a 0)), (1, .ref (a 10)), (2, .int sl), (3, .int (nI z))] ∧ (k ≤ z + 1) ∧ (∀ j, j < k → (no j ↔ th j))) (z + 1 - 0) ⟨0, no, rfl, hP, hD, hS, lv_sub hl [0, 1, 2, 3, 4, 5] rfl, Nat.zero_le _, fun j hj => absurd hj (Nat.not_lt_zero j)⟩ (fun n_ H locs ls hI4 ih4 => ?_)
        obtain ⟨k, no, hn4, hP, hD, hS, hl, hv4_1, hv4_2⟩ := hI4
        refine lv_iload hx hb d_Pt_fits_123 (lv_at hl 0 rfl) ?_
        refine lv_iload_n hx hb d_Pt_fits_125 rfl (lv_at hl 5 rfl) ?_
        refine y_icmp_gt (tgt := 149) hx hb (by omega) (by omega) d_Pt_fits_126 (by decide) (fun h6 => ?_) (fun h6 => ?_)
        · refine lv_iinc (v := (nI (pp + 1))) (lv' := [(4, .int (nI (pp + 1))), (5, .int (nI k)), (0, .ref (a 0)), (1, .ref (a 10)), (2, .int sl), (3, .int (nI z))]) hx hb d_Pt_fits_149 hl (k := 1) rfl (nI_add _ 1) (by decide) rfl (fun ls hl => ?_)
          refine lv_goto (tgt := 41) hx hb d_Pt_fits_152 (by decide) ?_
          exact ih2 _ _ _ _ (by omega) ⟨pp + 1, no, th, ro, rfl, hP, hD, hS, lv_sub hl [0, 2, 3, 4, 5] rfl, by omega, fun k hk => (hv4_2 k (by omega)).trans (hp k hk)⟩
        · refine lv_aload_n hx hb d_Pt_fits_129 rfl (lv_at hl 2 rfl) ?_
          refine va_get (D := D) (ci := 1) (v := .ref (a 7)) (C := R_Pt) (T := F_Pt) (N := 11) hx hb hT i_Pt hown hK hP 0 rfl rfl 6 (by decide) (hT _ tw_k50) (fun _ h9 => h9) rfl d_Pt_fits_130 ?_
          refine lv_iload hx hb d_Pt_fits_133 (lv_at hl 0 rfl) ?_
          refine lv_aload_n hx hb d_Pt_fits_135 rfl (lv_at hl 2 rfl) ?_
          refine va_get (D := D) (ci := 1) (v := .ref (a 8)) (C := R_Pt) (T := F_Pt) (N := 11) hx hb hT i_Pt hown hK hP 0 rfl rfl 7 (by decide) (hT _ tw_k52) (fun _ h9 => h9) rfl d_Pt_fits_136 ?_
          refine lv_iload hx hb d_Pt_fits_139 (lv_at hl 0 rfl) ?_
          refine y_zald hx hb hK hP 8 2 rfl rfl (by omega) (by decide) d_Pt_fits_141 ?_
          refine y_zast hx hb hK hP hD hS 7 2 rfl rfl (by omega) (by decide) d_Pt_fits_142 (fun H locs hP hD hS => ?_)
          have hP : va_P D classes (wC cI cB cZ a c u L M C F S li (va_up no k (th k)) th ro z tx) H := hP
          have hD : va_D A (wC cI cB cZ a c u L M C F S li (va_up no k (th k)) th ro z tx) := hD
          refine lv_iinc (v := (nI (k + 1))) (lv' := [(5, .int (nI (k + 1))), (4, .int (nI pp)), (0, .ref (a 0)), (1, .ref (a 10)), (2, .int sl), (3, .int (nI z))]) hx hb d_Pt_fits_143 hl (k := 0) rfl (nI_add _ 1) (by decide) rfl (fun ls hl => ?_)
          refine lv_goto (tgt := 123) hx hb d_Pt_fits_146 (by decide) ?_
          exact ih4 _ _ _ _ (by omega) ⟨k + 1, va_up no k (th k), rfl, hP, hD, hS, lv_sub hl [0, 1, 2, 3, 4, 5] rfl, by omega, up_ext hv4_2 Iff.rfl⟩
      · refine lv_aload_n hx hb d_Pt_fits_59 rfl (lv_at hl 2 rfl) ?_
        refine va_get (D := D) (ci := 1) (v := .ref (a 8)) (C := R_Pt) (T := F_Pt) (N := 11) hx hb hT i_Pt hown hK hP 0 rfl rfl 7 (by decide) (hT _ tw_k52) (fun _ h9 => h9) rfl d_Pt_fits_60 ?_
        refine lv_iload hx hb d_Pt_fits_63 (lv_at hl 0 rfl) ?_
        refine y_join (pcj := 90) (stj := [.int (zb (L pp = 0 ∧ no k)), .int (nI k), .ref (a 8)]) ?_ (fun hj => ?_)
        · refine y_zast hx hb hK hP hD hS 8 2 rfl rfl (by omega) (by decide) d_Pt_fits_90 (fun H locs hP hD hS => ?_)
          have hP : va_P D classes (wC cI cB cZ a c u L M C F S li no (va_up th k (L pp = 0 ∧ no k)) ro z tx) H := hP
          have hD : va_D A (wC cI cB cZ a c u L M C F S li no (va_up th k (L pp = 0 ∧ no k)) ro z tx) := hD
          refine lv_aload_n hx hb d_Pt_fits_91 rfl (lv_at hl 2 rfl) ?_
          refine va_get (D := D) (ci := 1) (v := .ref (a 9)) (C := R_Pt) (T := F_Pt) (N := 11) hx hb hT i_Pt hown hK hP 0 rfl rfl 8 (by decide) (hT _ tw_k53) (fun _ h9 => h9) rfl d_Pt_fits_92 ?_
          refine lv_iload hx hb d_Pt_fits_95 (lv_at hl 0 rfl) ?_
          refine lv_aload_n hx hb d_Pt_fits_97 rfl (lv_at hl 2 rfl) ?_
          refine va_get (D := D) (ci := 1) (v := .ref (a 7)) (C := R_Pt) (T := F_Pt) (N := 11) hx hb hT i_Pt hown hK hP 0 rfl rfl 6 (by decide) (hT _ tw_k50) (fun _ h9 => h9) rfl d_Pt_fits_98 ?_
          refine lv_iload hx hb d_Pt_fits_101 (lv_at hl 0 rfl) ?_
          refine y_zald hx hb hK hP 7 2 rfl rfl (by omega) (by decide) d_Pt_fits_103 ?_
          refine y_zast hx hb hK hP hD hS 9 2 rfl rfl (by omega) (by decide) d_Pt_fits_104 (fun H locs hP hD hS => ?_)
          have hP : va_P D classes (wC cI cB cZ a c u L M C F S li no (va_up th k (L pp = 0 ∧ no k)) (va_up ro k (no k)) z tx) H := hP
          have hD : va_D A (wC cI cB cZ a c u L M C F S li no (va_up th k (L pp = 0 ∧ no k)) (va_up ro k (no k)) z tx) := hD
          refine lv_iinc (v := (nI (k + 1))) (lv' := [(5, .int (nI (k + 1))), (4, .int (nI pp)), (0, .ref (a 0)), (1, .ref (a 10)), (2, .int sl), (3, .int (nI z))]) hx hb d_Pt_fits_105 hl (k := 0) rfl (nI_add _ 1) (by decide) rfl (fun ls hl => ?_)
          refine lv_goto (tgt := 53) hx hb d_Pt_fits_108 (by decide) ?_
          exact ih3 _ _ _ _ (by omega) ⟨k + 1, va_up th k (L pp = 0 ∧ no k), va_up ro k (no k), rfl, hP, hD, hS, lv_sub hl [0, 1, 2, 3, 4, 5] rfl, by omega, up_ext hv3_2 Iff.rfl, up_ext hv3_3 Iff.rfl⟩
        · refine lv_aload_n hx hb d_Pt_fits_65 rfl (lv_at hl 2 rfl) ?_
          refine va_get (D := D) (ci := 1) (v := .ref (a 1)) (C := R_Pt) (T := F_Pt) (N := 11) hx hb hT i_Pt hown hK hP 0 rfl rfl 0 (by decide) (hT _ tw_k42) (fun _ h9 => h9) rfl d_Pt_fits_66 ?_
          refine lv_iload hx hb d_Pt_fits_69 (lv_at hl 1 rfl) ?_
          refine y_iald hx hb hK hP 1 0 rfl rfl (by omega) (by decide) d_Pt_fits_71 ?_
          refine y_if_ne (tgt := 89) hx hb (by have := hL pp; omega) d_Pt_fits_72 (by decide) (fun h4 => ?_) (fun h4 => ?_)
          · refine lv_iconst (v := nI 0) hx hb d_Pt_fits_89 (by decide) ?_
            exact y_to (z0 (fun g => h4 g.1)) hj
          · refine lv_aload_n hx hb d_Pt_fits_75 rfl (lv_at hl 2 rfl) ?_
            refine va_get (D := D) (ci := 1) (v := .ref (a 7)) (C := R_Pt) (T := F_Pt) (N := 11) hx hb hT i_Pt hown hK hP 0 rfl rfl 6 (by decide) (hT _ tw_k50) (fun _ h9 => h9) rfl d_Pt_fits_76 ?_
            refine lv_iload hx hb d_Pt_fits_79 (lv_at hl 0 rfl) ?_
            refine y_zald hx hb hK hP 7 2 rfl rfl (by omega) (by decide) d_Pt_fits_81 ?_
            refine y_ifeq (tgt := 89) hx hb d_Pt_fits_82 (by decide) (fun h5 => ?_) (fun h5 => ?_)
            · refine lv_iconst (v := nI 0) hx hb d_Pt_fits_89 (by decide) ?_
              exact y_to (z0 (fun g => h5 g.2)) hj
            · refine lv_iconst (v := nI 1) hx hb d_Pt_fits_85 (by decide) ?_
              refine lv_goto (tgt := 90) hx hb d_Pt_fits_86 (by decide) ?_
              exact y_to (z1 (⟨h4, h5⟩)) hj
  · refine lv_aload_n hx hb d_Pt_fits_15 rfl (lv_at hl 1 rfl) ?_
    refine va_get (D := D) (ci := 1) (v := .ref (a 7)) (C := R_Pt) (T := F_Pt) (N := 11) hx hb hT i_Pt hown hK hP 0 rfl rfl 6 (by decide) (hT _ tw_k50) (fun _ h9 => h9) rfl d_Pt_fits_16 ?_
    refine lv_iload hx hb d_Pt_fits_19 (lv_at hl 0 rfl) ?_
    refine y_join (pcj := 31) (stj := [.int (zb (k = 0)), .int (nI k), .ref (a 7)]) ?_ (fun hj => ?_)
    · refine y_zast hx hb hK hP hD hS 7 2 rfl rfl (by omega) (by decide) d_Pt_fits_31 (fun H locs hP hD hS => ?_)
      have hP : va_P D classes (wC cI cB cZ a c u L M C F S li (va_up no k (k = 0)) th ro z tx) H := hP
      have hD : va_D A (wC cI cB cZ a c u L M C F S li (va_up no k (k = 0)) th ro z tx) := hD
      refine lv_iinc (v := (nI (k + 1))) (lv' := [(4, .int (nI (k + 1))), (0, .ref (a 0)), (1, .ref (a 10)), (2, .int sl), (3, .int (nI z))]) hx hb d_Pt_fits_32 hl (k := 0) rfl (nI_add _ 1) (by decide) rfl (fun ls hl => ?_)
      refine lv_goto (tgt := 9) hx hb d_Pt_fits_35 (by decide) ?_
      exact ih1 _ _ _ _ (by omega) ⟨k + 1, va_up no k (k = 0), rfl, hP, hD, hS, lv_sub hl [0, 1, 2, 3, 4] rfl, by omega, up_ext hv1_2 Iff.rfl⟩
    · refine lv_iload hx hb d_Pt_fits_21 (lv_at hl 0 rfl) ?_
      refine y_if_ne (tgt := 30) hx hb (by omega) d_Pt_fits_23 (by decide) (fun h2 => ?_) (fun h2 => ?_)
      · refine lv_iconst (v := nI 0) hx hb d_Pt_fits_30 (by decide) ?_
        exact y_to (z0 h2) hj
      · refine lv_iconst (v := nI 1) hx hb d_Pt_fits_26 (by decide) ?_
        refine lv_goto (tgt := 31) hx hb d_Pt_fits_27 (by decide) ?_
        exact y_to (z1 h2) hj
end
section
/-! the operations on the abstract state: what they answer, what they make of it -/
/-- parts, bytes of literals used; least, most, classes, from, sizes; literals -/
abbrev PS : Type := Nat × Nat × (Nat → Nat) × (Nat → Nat) × (Nat → Nat) × (Nat → Nat) × (Nat → Nat) × (Nat → Int8)
abbrev TS : Type := Nat × (Nat → Int8)
noncomputable def iff_ {α : Type} (P : Prop) (x y : α) : α := @ite α P (Classical.propDecidable P) x y
theorem iff_t {α : Type} {P : Prop} {x y : α} (h : P) : iff_ P x y = x := if_pos h
theorem iff_f {α : Type} {P : Prop} {x y : α} (h : ¬ P) : iff_ P x y = y := if_neg h
def okP (c : Nat) (x y : Int32) : Prop := c ≠ 60 ∧ isT x ∧ isT y
noncomputable def stP (c u : Nat) (L M C F S : Nat → Nat) (li : Nat → Int8) (x y : Int32) : PS := iff_ (okP c x y) (c + 1, u, va_up L c x.toNatClampNeg, va_up M c y.toNatClampNeg, va_up C c 0, va_up F c u, va_up S c 0, li) (c, u, L, M, C, F, S, li)
def okL (c : Nat) (S : Nat → Nat) (x : Int32) : Prop := c ≠ 0 ∧ S (c - 1) = 0 ∧ bitN x ≠ 0
noncomputable def stL (c u : Nat) (L M C F S : Nat → Nat) (li : Nat → Int8) (x : Int32) : PS := iff_ (okL c S x) (c, u, L, M, va_up C (c - 1) (C (c - 1) ||| bitN x), F, S, li) (c, u, L, M, C, F, S, li)
def okT (c u : Nat) (C : Nat → Nat) : Prop := c ≠ 0 ∧ C (c - 1) = 0 ∧ u ≠ 255
noncomputable def stT (c u : Nat) (L M C F S : Nat → Nat) (li : Nat → Int8) (x : Int32) : PS := iff_ (okT c u C) (c, u + 1, L, M, C, F, va_up S (c - 1) (S (c - 1) + 1), va_up li u x.toInt8) (c, u, L, M, C, F, S, li)
noncomputable def stA (z : Nat) (tx : Nat → Int8) (x : Int32) : TS := iff_ (z ≠ 255) (z + 1, va_up tx z x.toInt8) (z, tx)
noncomputable def cntV (c z : Nat) (x : Int32) : Int32 := iff_ (x = 0) (nI c) (iff_ (x = nI 1) (nI z) (-1))
noncomputable abbrev wSv (cI cB cZ' : ClassId) (a : Nat → Nat) (v : PS) (no th ro : Nat → Prop) (z : Nat) (tx : Nat → Int8) : va_W := wS cI cB cZ' a v.1 v.2.1 v.2.2.1 v.2.2.2.1 v.2.2.2.2.1 v.2.2.2.2.2.1 v.2.2.2.2.2.2.1 v.2.2.2.2.2.2.2 no th ro z tx
noncomputable abbrev wMo (cI cB cZ' : ClassId) (b : Nat → Nat) (v : PS) (z : Nat) (tx : Nat → Int8) (gd nx : Nat → Prop) (tm : Nat → Nat) : va_W := wM cI cB cZ' b v.1 v.2.1 z v.2.2.1 v.2.2.2.1 v.2.2.2.2.1 v.2.2.2.2.2.2.1 v.2.2.2.2.2.1 v.2.2.2.2.2.2.2 tx gd nx tm
theorem stP_t {c u p q : Nat} {L M C F S : Nat → Nat} {li : Nat → Int8} (h : okP c (nI p) (nI q)) (hp : p ≤ 255) (hq : q ≤ 255) : (c + 1, u, va_up L c p, va_up M c q, va_up C c 0, va_up F c u, va_up S c 0, li) = stP c u L M C F S li (nI p) (nI q) := by
  unfold stP; rw [iff_t h, nI_clamp (by omega), nI_clamp (by omega)]
end
section
set_option maxHeartbeats 4000000 in
set_option maxRecDepth 100000 in
/-- PatternSieve.clear -/
theorem c_Sv_clear (l : Launch) (D : va_G) (cI cB cZ : ClassId) (a : Nat → Nat) (c u : Nat) (L M C F S : Nat → Nat) (li : Nat → Int8) (no th ro : Nat → Prop) (z : Nat) (tx : Nat → Int8) (sz : Nat) : Met l y_Sv_clear cw_Sv_clear ({ frames := 1, cells := 0, slots := 0, locals := 20 }) (va_Pc [.ref (a 12)] (Bp D cI cB cZ (wS cI cB cZ a c u L M C F S li no th ro z tx) sz)) (va_Qv (S := Unit) (fun _ => True) (fun v_ => Bq D cI cB cZ (va_A (wS cI cB cZ a c u L M C F S li no th ro z tx) sz) ((wS cI cB cZ a 0 0 L M C F S li no th ro z tx))) (va_A (wS cI cB cZ a c u L M C F S li no th ro z tx) sz)) 0 0 (va_A (wS cI cB cZ a c u L M C F S li no th ro z tx) sz) := by
  refine Met.ofW (cc := b_Sv_clear) (maxL := 1) (ret := none) (by decide) rfl ?_
  intro p e s m args below meth c1 s₁ B hml hv
  obtain ⟨rfl, hsz, hP, hK, hD0, hN⟩ := hv
  subst hsz
  have hx := B.exec
  have hb := B.bytes
  have hr := B.returns
  have hT : ∀ w ∈ tw_, w.before _ s = true := fun w h => atoms_spec (ws := cw_Sv_clear) B.pre w (List.mem_cons_of_mem _ h)
  have hown : s.vm.findClass R_Sv = some m.cls := findClass_of_methodNamed B.named
  have hlocks := B.notSynchronized
  have hD := hD0.self (sz := s.heap.size)
  generalize hAe : va_A (wS cI cB cZ a c u L M C F S li no th ro z tx) s.heap.size = A at hD ⊢
  have hA : ∀ q : Nat, s.heap.size ≤ q → A q := fun q h => by rw [← hAe]; exact Or.inr h
  have hS : va_S A s.heap s.heap [] := va_S.rf
  have hl := lv_entry ([.ref (a 12)]) (n := 1) (Nat.le_of_ble_eq_true rfl)
  rw [lg_entry_eq]
  generalize (lg_sl ([.ref (a 12)]) ++ List.replicate (1 - (lg_sl ([.ref (a 12)])).length) Slot.unset).toArray = ls at hl ⊢
  have hl : lv_has ls 1 [(0, .ref (a 12))] := hl
  refine lv_aload_n hx hb d_Sv_clear_0 rfl (lv_at hl 0 rfl) ?_
  refine va_get (D := D) (ci := 0) (v := .ref (a 0)) (C := R_Sv) (T := F_Sv) (N := 2) hx hb hT i_Sv hown hK hP 0 rfl rfl 1 (by decide) (hT _ tw_k84) (fun _ h9 => h9) rfl d_Sv_clear_1 ?_
  refine y_v (w0 := (wPt cI cB cZ a c u L M C F S li no th ro)) (wr := [_, _, _]) hP hD hS hA [1, 2, 3, 4, 5, 6, 7, 8, 9, 10] [0, 11, 12] rfl rfl (by decide) (by decide) (y_runV (n := 0) (rm := { frames := 0, cells := 0, slots := 0, locals := 0 }) (w0 := (wPt cI cB cZ a c u L M C F S li no th ro)) (q0 := 1) (b := a 0) (As := []) (rest := []) hx hb hml hown hT hN hK hP hD (c_Pt_clear l D cI cB cZ a c u L M C F S li no th ro _) ⟨tw_k97, tw_k9, tw_k94, by decide +kernel⟩ ⟨tw_k95, tw_k96⟩ [1, 2, 3, 4, 5, 6, 7, 8, 9, 10] rfl (by decide) rfl rfl ⟨Nat.le_of_ble_eq_true rfl, Nat.le_of_ble_eq_true rfl⟩ rfl hl.1 rfl (Nat.le_of_ble_eq_true rfl) d_Sv_clear_4 ⟨Nat.le_of_ble_eq_true rfl, Nat.le_of_ble_eq_true rfl⟩) (fun v_ H locs hp hP hD hS => ?_)
  have hP := hP.sub (ws' := (wS cI cB cZ a 0 0 L M C F S li no th ro z tx)) [0, 3, 4, 5, 6, 7, 8, 9, 10, 11, 12, 1, 2] rfl
  have hD := hD.sub (ws' := (wS cI cB cZ a 0 0 L M C F S li no th ro z tx)) [0, 3, 4, 5, 6, 7, 8, 9, 10, 11, 12, 1, 2] (by decide) rfl
  exact y_vret hx hb hr hlocks hK () hP hD hS trivial d_Sv_clear_7

set_option maxHeartbeats 4000000 in
set_option maxRecDepth 100000 in
/-- PatternSieveModel.clear -/
theorem c_Mo_clear (l : Launch) (D : va_G) (cI cB cZ : ClassId) (b : Nat → Nat) (c u z : Nat) (L M C S F : Nat → Nat) (li tx : Nat → Int8) (gd nx : Nat → Prop) (tm : Nat → Nat) (sz : Nat) : Met l y_Mo_clear cw_Mo_clear ({ frames := 0, cells := 0, slots := 0, locals := 0 }) (va_Pc [.ref (b 0)] (Bp D cI cB cZ (wM cI cB cZ b c u z L M C S F li tx gd nx tm) sz)) (va_Qv (S := Unit) (fun _ => True) (fun v_ => Bq D cI cB cZ (va_A (wM cI cB cZ b c u z L M C S F li tx gd nx tm) sz) ((wM cI cB cZ b 0 0 z L M C S F li tx gd nx tm))) (va_A (wM cI cB cZ b c u z L M C S F li tx gd nx tm) sz)) 0 0 (va_A (wM cI cB cZ b c u z L M C S F li tx gd nx tm) sz) := by
  refine Met.ofW (cc := b_Mo_clear) (maxL := 1) (ret := none) (by decide) rfl ?_
  intro p e s m args below meth c1 s₁ B hml hv
  obtain ⟨rfl, hsz, hP, hK, hD0, hN⟩ := hv
  subst hsz
  have hx := B.exec
  have hb := B.bytes
  have hr := B.returns
  have hT : ∀ w ∈ tw_, w.before _ s = true := fun w h => atoms_spec (ws := cw_Mo_clear) B.pre w (List.mem_cons_of_mem _ h)
  have hown : s.vm.findClass R_Mo = some m.cls := findClass_of_methodNamed B.named
  have hlocks := B.notSynchronized
  have hD := hD0.self (sz := s.heap.size)
  generalize hAe : va_A (wM cI cB cZ b c u z L M C S F li tx gd nx tm) s.heap.size = A at hD ⊢
  have hA : ∀ q : Nat, s.heap.size ≤ q → A q := fun q h => by rw [← hAe]; exact Or.inr h
  have hS : va_S A s.heap s.heap [] := va_S.rf
  have hl := lv_entry ([.ref (b 0)]) (n := 1) (Nat.le_of_ble_eq_true rfl)
  rw [lg_entry_eq]
  generalize (lg_sl ([.ref (b 0)]) ++ List.replicate (1 - (lg_sl ([.ref (b 0)])).length) Slot.unset).toArray = ls at hl ⊢
  have hl : lv_has ls 1 [(0, .ref (b 0))] := hl
  refine lv_aload_n hx hb d_Mo_clear_0 rfl (lv_at hl 0 rfl) ?_
  refine lv_iconst (v := nI 0) hx hb d_Mo_clear_1 (by decide) ?_
  refine va_put (D := D) (ci := 3) (v := .int (nI 0)) (ty := .int) (C := R_Mo) (T := F_Mo) (N := 13) hx hb hT i_Mo t_Mo t_Mo_ok n_Mo hown hK hP hD hS 0 rfl rfl 0 (by decide) (hT _ tw_k180) (fun _ h9 => h9) rfl (by decide +kernel) rfl rfl (Nat.le_of_ble_eq_true rfl) d_Mo_clear_2 (fun H locs hP hD hS => ?_)
  have hP : va_P D classes (wM cI cB cZ b 0 u z L M C S F li tx gd nx tm) H := hP
  have hD : va_D A (wM cI cB cZ b 0 u z L M C S F li tx gd nx tm) := hD
  refine lv_aload_n hx hb d_Mo_clear_5 rfl (lv_at hl 0 rfl) ?_
  refine lv_iconst (v := nI 0) hx hb d_Mo_clear_6 (by decide) ?_
  refine va_put (D := D) (ci := 3) (v := .int (nI 0)) (ty := .int) (C := R_Mo) (T := F_Mo) (N := 13) hx hb hT i_Mo t_Mo t_Mo_ok n_Mo hown hK hP hD hS 0 rfl rfl 7 (by decide) (hT _ tw_k187) (fun _ h9 => h9) rfl (by decide +kernel) rfl rfl (Nat.le_of_ble_eq_true rfl) d_Mo_clear_7 (fun H locs hP hD hS => ?_)
  have hP : va_P D classes (wM cI cB cZ b 0 0 z L M C S F li tx gd nx tm) H := hP
  have hD : va_D A (wM cI cB cZ b 0 0 z L M C S F li tx gd nx tm) := hD
  exact y_vret hx hb hr hlocks hK () hP hD hS trivial d_Mo_clear_10

set_option maxHeartbeats 4000000 in
set_option maxRecDepth 100000 in
/-- PatternSieve.part -/
theorem c_Sv_part (l : Launch) (D : va_G) (cI cB cZ : ClassId) (a : Nat → Nat) (c u : Nat) (L M C F S : Nat → Nat) (li : Nat → Int8) (no th ro : Nat → Prop) (z : Nat) (tx : Nat → Int8) (x y : Int32) (hc : c ≤ 60) (sz : Nat) : Met l y_Sv_part cw_Sv_part ({ frames := 1, cells := 0, slots := 0, locals := 22 }) (va_Pc [.ref (a 12), .int x, .int y] (Bp D cI cB cZ (wS cI cB cZ a c u L M C F S li no th ro z tx) sz)) (va_Qi (S := PS) (fun r v_ => r = zb (okP c x y) ∧ v_ = stP c u L M C F S li x y) (fun v_ => Bq D cI cB cZ (va_A (wS cI cB cZ a c u L M C F S li no th ro z tx) sz) (wSv cI cB cZ a v_ no th ro z tx)) (va_A (wS cI cB cZ a c u L M C F S li no th ro z tx) sz)) 0 0 (va_A (wS cI cB cZ a c u L M C F S li no th ro z tx) sz) := by
  refine Met.ofW (cc := b_Sv_part) (maxL := 3) (ret := (some FieldType.boolean)) (by decide) rfl ?_
  intro p e s m args below meth c1 s₁ B hml hv
  obtain ⟨rfl, hsz, hP, hK, hD0, hN⟩ := hv
  subst hsz
  have hx := B.exec
  have hb := B.bytes
  have hr := B.returns
  have hT : ∀ w ∈ tw_, w.before _ s = true := fun w h => atoms_spec (ws := cw_Sv_part) B.pre w (List.mem_cons_of_mem _ h)
  have hown : s.vm.findClass R_Sv = some m.cls := findClass_of_methodNamed B.named
  have hlocks := B.notSynchronized
  have hD := hD0.self (sz := s.heap.size)
  generalize hAe : va_A (wS cI cB cZ a c u L M C F S li no th ro z tx) s.heap.size = A at hD ⊢
  have hA : ∀ q : Nat, s.heap.size ≤ q → A q := fun q h => by rw [← hAe]; exact Or.inr h
  have hS : va_S A s.heap s.heap [] := va_S.rf
  have hl := lv_entry ([.ref (a 12), .int x, .int y]) (n := 3) (Nat.le_of_ble_eq_true rfl)
  rw [lg_entry_eq]
  generalize (lg_sl ([.ref (a 12), .int x, .int y]) ++ List.replicate (3 - (lg_sl ([.ref (a 12), .int x, .int y])).length) Slot.unset).toArray = ls at hl ⊢
  have hl : lv_has ls 3 [(0, .ref (a 12)), (1, .int x), (2, .int y)] := hl
  refine lv_aload_n hx hb d_Sv_part_0 rfl (lv_at hl 0 rfl) ?_
  refine va_get (D := D) (ci := 0) (v := .ref (a 0)) (C := R_Sv) (T := F_Sv) (N := 2) hx hb hT i_Sv hown hK hP 0 rfl rfl 1 (by decide) (hT _ tw_k84) (fun _ h9 => h9) rfl d_Sv_part_1 ?_
  refine va_getN (D := D) (ci := 1) (v := .int (nI c)) (C := R_Pt) (T := F_Pt) (N := 11) hx hb hT i_Pt hown hK hP 1 rfl rfl 9 (by decide) (Nst.k55 hN) (fun _ h9 => h9) rfl d_Sv_part_4 ?_
  refine lv_bipush (v := nI 60) hx hb d_Sv_part_7 (by decide) ?_
  refine y_icmp_eq (tgt := 26) hx hb (by omega) (by omega) d_Sv_part_9 (by decide) (fun h1 => ?_) (fun h1 => ?_)
  · refine lv_iconst (v := nI 0) hx hb d_Sv_part_26 (by decide) ?_
    refine y_to (z0 (P := False) not_false) ?_
    exact y_zret hx hb hr hlocks hK (c, u, L, M, C, F, S, li) hP hD hS (⟨zb_iff ⟨False.elim, fun q => q.1 h1⟩, (iff_f (fun q => q.1 h1)).symm⟩) d_Sv_part_27
  · refine lv_iload_n hx hb d_Sv_part_12 rfl (lv_at hl 1 rfl) ?_
    refine y_i (w0 := ([] : va_W)) (wr := [_, _, _, _, _, _, _, _, _, _, _, _, _]) hP hD hS hA [] [0, 1, 2, 3, 4, 5, 6, 7, 8, 9, 10, 11, 12] rfl rfl (by decide) (by decide) (y_runS (n := 1) (rm := { frames := 0, cells := 0, slots := 0, locals := 0 }) (w0 := ([] : va_W)) (As := [.int x]) (rest := []) hx hb hml hown hT hN hK hP hD (c_Sv_isTimes l D cI cB cZ x _) ⟨tw_k104, tw_k7, tw_k102, by decide +kernel⟩ tw_k103 [] rfl (by decide) ⟨Nat.le_of_ble_eq_true rfl, Nat.le_of_ble_eq_true rfl⟩ rfl hl.1 rfl (Nat.le_of_ble_eq_true rfl) d_Sv_part_13 ⟨Nat.le_of_ble_eq_true rfl, Nat.le_of_ble_eq_true rfl⟩) (fun r v_ H locs hp hP hD hS => ?_)
    have hP : va_P D classes (wS cI cB cZ a c u L M C F S li no th ro z tx) H := hP
    have hD : va_D A (wS cI cB cZ a c u L M C F S li no th ro z tx) := hD
    subst hp
    refine y_ifeq (tgt := 26) hx hb d_Sv_part_16 (by decide) (fun h2 => ?_) (fun h2 => ?_)
    · refine lv_iconst (v := nI 0) hx hb d_Sv_part_26 (by decide) ?_
      refine y_to (z0 (P := False) not_false) ?_
      exact y_zret hx hb hr hlocks hK (c, u, L, M, C, F, S, li) hP hD hS (⟨zb_iff ⟨False.elim, fun q => h2 q.2.1⟩, (iff_f (fun q => h2 q.2.1)).symm⟩) d_Sv_part_27
    · refine lv_iload_n hx hb d_Sv_part_19 rfl (lv_at hl 2 rfl) ?_
      refine y_i (w0 := ([] : va_W)) (wr := [_, _, _, _, _, _, _, _, _, _, _, _, _]) hP hD hS hA [] [0, 1, 2, 3, 4, 5, 6, 7, 8, 9, 10, 11, 12] rfl rfl (by decide) (by decide) (y_runS (n := 1) (rm := { frames := 0, cells := 0, slots := 0, locals := 0 }) (w0 := ([] : va_W)) (As := [.int y]) (rest := []) hx hb hml hown hT hN hK hP hD (c_Sv_isTimes l D cI cB cZ y _) ⟨tw_k104, tw_k7, tw_k102, by decide +kernel⟩ tw_k103 [] rfl (by decide) ⟨Nat.le_of_ble_eq_true rfl, Nat.le_of_ble_eq_true rfl⟩ rfl hl.1 rfl (Nat.le_of_ble_eq_true rfl) d_Sv_part_20 ⟨Nat.le_of_ble_eq_true rfl, Nat.le_of_ble_eq_true rfl⟩) (fun r v_ H locs hp hP hD hS => ?_)
      have hP : va_P D classes (wS cI cB cZ a c u L M C F S li no th ro z tx) H := hP
      have hD : va_D A (wS cI cB cZ a c u L M C F S li no th ro z tx) := hD
      subst hp
      refine y_ifne (tgt := 28) hx hb d_Sv_part_23 (by decide) (fun h3 => ?_) (fun h3 => ?_)
      · obtain ⟨p1, hp1, rfl⟩ := h2
        obtain ⟨p2, hp2, rfl⟩ := h3
        have hok : okP c (nI p1) (nI p2) := ⟨h1, ⟨p1, hp1, rfl⟩, ⟨p2, hp2, rfl⟩⟩
        refine lv_aload_n hx hb d_Sv_part_28 rfl (lv_at hl 0 rfl) ?_
        refine va_get (D := D) (ci := 0) (v := .ref (a 0)) (C := R_Sv) (T := F_Sv) (N := 2) hx hb hT i_Sv hown hK hP 0 rfl rfl 1 (by decide) (hT _ tw_k84) (fun _ h9 => h9) rfl d_Sv_part_29 ?_
        refine lv_iload_n hx hb d_Sv_part_32 rfl (lv_at hl 1 rfl) ?_
        refine lv_iload_n hx hb d_Sv_part_33 rfl (lv_at hl 2 rfl) ?_
        refine y_v (w0 := (wPt cI cB cZ a c u L M C F S li no th ro)) (wr := [_, _, _]) hP hD hS hA [1, 2, 3, 4, 5, 6, 7, 8, 9, 10] [0, 11, 12] rfl rfl (by decide) (by decide) (y_runV (n := 2) (rm := { frames := 0, cells := 0, slots := 0, locals := 0 }) (w0 := (wPt cI cB cZ a c u L M C F S li no th ro)) (q0 := 1) (b := a 0) (As := [.int (nI p1), .int (nI p2)]) (rest := []) hx hb hml hown hT hN hK hP hD (c_Pt_part l D cI cB cZ a c u L M C F S li no th ro p1 p2 (by omega) _) ⟨tw_k108, tw_k9, tw_k105, by decide +kernel⟩ ⟨tw_k106, tw_k107⟩ [1, 2, 3, 4, 5, 6, 7, 8, 9, 10] rfl (by decide) rfl rfl ⟨Nat.le_of_ble_eq_true rfl, Nat.le_of_ble_eq_true rfl⟩ rfl hl.1 rfl (Nat.le_of_ble_eq_true rfl) d_Sv_part_34 ⟨Nat.le_of_ble_eq_true rfl, Nat.le_of_ble_eq_true rfl⟩) (fun v_ H locs hp hP hD hS => ?_)
        have hP := hP.sub (ws' := (wS cI cB cZ a (c + 1) u (va_up L c p1) (va_up M c p2) (va_up C c 0) (va_up F c u) (va_up S c 0) li no th ro z tx)) [0, 3, 4, 5, 6, 7, 8, 9, 10, 11, 12, 1, 2] rfl
        have hD := hD.sub (ws' := (wS cI cB cZ a (c + 1) u (va_up L c p1) (va_up M c p2) (va_up C c 0) (va_up F c u) (va_up S c 0) li no th ro z tx)) [0, 3, 4, 5, 6, 7, 8, 9, 10, 11, 12, 1, 2] (by decide) rfl
        refine lv_iconst (v := nI 1) hx hb d_Sv_part_37 (by decide) ?_
        refine y_to (z1 (P := True) trivial) ?_
        exact y_zret hx hb hr hlocks hK (c + 1, u, va_up L c p1, va_up M c p2, va_up C c 0, va_up F c u, va_up S c 0, li) hP hD hS (⟨zb_iff ⟨fun _ => hok, fun _ => trivial⟩, stP_t hok hp1 hp2⟩) d_Sv_part_38
      · refine lv_iconst (v := nI 0) hx hb d_Sv_part_26 (by decide) ?_
        refine y_to (z0 (P := False) not_false) ?_
        exact y_zret hx hb hr hlocks hK (c, u, L, M, C, F, S, li) hP hD hS (⟨zb_iff ⟨False.elim, fun q => h3 q.2.2⟩, (iff_f (fun q => h3 q.2.2)).symm⟩) d_Sv_part_27

set_option maxHeartbeats 4000000 in
set_option maxRecDepth 100000 in
/-- PatternSieveModel.part -/
theorem c_Mo_part (l : Launch) (D : va_G) (cI cB cZ : ClassId) (b : Nat → Nat) (c u z : Nat) (L M C S F : Nat → Nat) (li tx : Nat → Int8) (gd nx : Nat → Prop) (tm : Nat → Nat) (x y : Int32) (hc : c ≤ 60) (sz : Nat) : Met l y_Mo_part cw_Mo_part ({ frames := 1, cells := 0, slots := 0, locals := 20 }) (va_Pc [.ref (b 0), .int x, .int y] (Bp D cI cB cZ (wM cI cB cZ b c u z L M C S F li tx gd nx tm) sz)) (va_Qi (S := PS) (fun r v_ => r = zb (okP c x y) ∧ v_ = stP c u L M C F S li x y) (fun v_ => Bq D cI cB cZ (va_A (wM cI cB cZ b c u z L M C S F li tx gd nx tm) sz) (wMo cI cB cZ b v_ z tx gd nx tm)) (va_A (wM cI cB cZ b c u z L M C S F li tx gd nx tm) sz)) 0 0 (va_A (wM cI cB cZ b c u z L M C S F li tx gd nx tm) sz) := by
  refine Met.ofW (cc := b_Mo_part) (maxL := 3) (ret := (some FieldType.boolean)) (by decide) rfl ?_
  intro p e s m args below meth c1 s₁ B hml hv
  obtain ⟨rfl, hsz, hP, hK, hD0, hN⟩ := hv
  subst hsz
  have hx := B.exec
  have hb := B.bytes
  have hr := B.returns
  have hT : ∀ w ∈ tw_, w.before _ s = true := fun w h => atoms_spec (ws := cw_Mo_part) B.pre w (List.mem_cons_of_mem _ h)
  have hown : s.vm.findClass R_Mo = some m.cls := findClass_of_methodNamed B.named
  have hlocks := B.notSynchronized
  have hD := hD0.self (sz := s.heap.size)
  generalize hAe : va_A (wM cI cB cZ b c u z L M C S F li tx gd nx tm) s.heap.size = A at hD ⊢
  have hA : ∀ q : Nat, s.heap.size ≤ q → A q := fun q h => by rw [← hAe]; exact Or.inr h
  have hS : va_S A s.heap s.heap [] := va_S.rf
  have hl := lv_entry ([.ref (b 0), .int x, .int y]) (n := 3) (Nat.le_of_ble_eq_true rfl)
  rw [lg_entry_eq]
  generalize (lg_sl ([.ref (b 0), .int x, .int y]) ++ List.replicate (3 - (lg_sl ([.ref (b 0), .int x, .int y])).length) Slot.unset).toArray = ls at hl ⊢
  have hl : lv_has ls 3 [(0, .ref (b 0)), (1, .int x), (2, .int y)] := hl
  refine lv_aload_n hx hb d_Mo_part_0 rfl (lv_at hl 0 rfl) ?_
  refine va_get (D := D) (ci := 3) (v := .int (nI c)) (C := R_Mo) (T := F_Mo) (N := 13) hx hb hT i_Mo hown hK hP 0 rfl rfl 0 (by decide) (hT _ tw_k180) (fun _ h9 => h9) rfl d_Mo_part_1 ?_
  refine lv_bipush (v := nI 60) hx hb d_Mo_part_4 (by decide) ?_
  refine y_icmp_eq (tgt := 23) hx hb (by omega) (by omega) d_Mo_part_6 (by decide) (fun h1 => ?_) (fun h1 => ?_)
  · refine lv_iconst (v := nI 0) hx hb d_Mo_part_23 (by decide) ?_
    refine y_to (z0 (P := False) not_false) ?_
    exact y_zret hx hb hr hlocks hK (c, u, L, M, C, F, S, li) hP hD hS (⟨zb_iff ⟨False.elim, fun q => q.1 h1⟩, (iff_f (fun q => q.1 h1)).symm⟩) d_Mo_part_24
  · refine lv_iload_n hx hb d_Mo_part_9 rfl (lv_at hl 1 rfl) ?_
    refine y_i (w0 := ([] : va_W)) (wr := [_, _, _, _, _, _, _, _, _, _, _]) hP hD hS hA [] [0, 1, 2, 3, 4, 5, 6, 7, 8, 9, 10] rfl rfl (by decide) (by decide) (y_runS (n := 1) (rm := { frames := 0, cells := 0, slots := 0, locals := 0 }) (w0 := ([] : va_W)) (As := [.int x]) (rest := []) hx hb hml hown hT hN hK hP hD (c_Mo_isNumber l D cI cB cZ x _) ⟨tw_k230, tw_k10, tw_k228, by decide +kernel⟩ tw_k229 [] rfl (by decide) ⟨Nat.le_of_ble_eq_true rfl, Nat.le_of_ble_eq_true rfl⟩ rfl hl.1 rfl (Nat.le_of_ble_eq_true rfl) d_Mo_part_10 ⟨Nat.le_of_ble_eq_true rfl, Nat.le_of_ble_eq_true rfl⟩) (fun r v_ H locs hp hP hD hS => ?_)
    have hP : va_P D classes (wM cI cB cZ b c u z L M C S F li tx gd nx tm) H := hP
    have hD : va_D A (wM cI cB cZ b c u z L M C S F li tx gd nx tm) := hD
    subst hp
    refine y_ifeq (tgt := 23) hx hb d_Mo_part_13 (by decide) (fun h2 => ?_) (fun h2 => ?_)
    · refine lv_iconst (v := nI 0) hx hb d_Mo_part_23 (by decide) ?_
      refine y_to (z0 (P := False) not_false) ?_
      exact y_zret hx hb hr hlocks hK (c, u, L, M, C, F, S, li) hP hD hS (⟨zb_iff ⟨False.elim, fun q => h2 q.2.1⟩, (iff_f (fun q => h2 q.2.1)).symm⟩) d_Mo_part_24
    · refine lv_iload_n hx hb d_Mo_part_16 rfl (lv_at hl 2 rfl) ?_
      refine y_i (w0 := ([] : va_W)) (wr := [_, _, _, _, _, _, _, _, _, _, _]) hP hD hS hA [] [0, 1, 2, 3, 4, 5, 6, 7, 8, 9, 10] rfl rfl (by decide) (by decide) (y_runS (n := 1) (rm := { frames := 0, cells := 0, slots := 0, locals := 0 }) (w0 := ([] : va_W)) (As := [.int y]) (rest := []) hx hb hml hown hT hN hK hP hD (c_Mo_isNumber l D cI cB cZ y _) ⟨tw_k230, tw_k10, tw_k228, by decide +kernel⟩ tw_k229 [] rfl (by decide) ⟨Nat.le_of_ble_eq_true rfl, Nat.le_of_ble_eq_true rfl⟩ rfl hl.1 rfl (Nat.le_of_ble_eq_true rfl) d_Mo_part_17 ⟨Nat.le_of_ble_eq_true rfl, Nat.le_of_ble_eq_true rfl⟩) (fun r v_ H locs hp hP hD hS => ?_)
      have hP : va_P D classes (wM cI cB cZ b c u z L M C S F li tx gd nx tm) H := hP
      have hD : va_D A (wM cI cB cZ b c u z L M C S F li tx gd nx tm) := hD
      subst hp
      refine y_ifne (tgt := 25) hx hb d_Mo_part_20 (by decide) (fun h3 => ?_) (fun h3 => ?_)
      · obtain ⟨p1, hp1, rfl⟩ := h2
        obtain ⟨p2, hp2, rfl⟩ := h3
        have hok : okP c (nI p1) (nI p2) := ⟨h1, ⟨p1, hp1, rfl⟩, ⟨p2, hp2, rfl⟩⟩
        refine lv_aload_n hx hb d_Mo_part_25 rfl (lv_at hl 0 rfl) ?_
        refine va_get (D := D) (ci := 3) (v := .ref (b 1)) (C := R_Mo) (T := F_Mo) (N := 13) hx hb hT i_Mo hown hK hP 0 rfl rfl 1 (by decide) (hT _ tw_k181) (fun _ h9 => h9) rfl d_Mo_part_26 ?_
        refine lv_aload_n hx hb d_Mo_part_29 rfl (lv_at hl 0 rfl) ?_
        refine va_get (D := D) (ci := 3) (v := .int (nI c)) (C := R_Mo) (T := F_Mo) (N := 13) hx hb hT i_Mo hown hK hP 0 rfl rfl 0 (by decide) (hT _ tw_k180) (fun _ h9 => h9) rfl d_Mo_part_30 ?_
        refine lv_iload_n hx hb d_Mo_part_33 rfl (lv_at hl 1 rfl) ?_
        refine y_iast hx hb hK hP hD hS 1 0 rfl rfl (by omega) (by decide) d_Mo_part_34 (fun H locs hP hD hS => ?_)
        have hP : va_P D classes (wM cI cB cZ b c u z (va_up L c p1) M C S F li tx gd nx tm) H := hP
        have hD : va_D A (wM cI cB cZ b c u z (va_up L c p1) M C S F li tx gd nx tm) := hD
        refine lv_aload_n hx hb d_Mo_part_35 rfl (lv_at hl 0 rfl) ?_
        refine va_get (D := D) (ci := 3) (v := .ref (b 2)) (C := R_Mo) (T := F_Mo) (N := 13) hx hb hT i_Mo hown hK hP 0 rfl rfl 2 (by decide) (hT _ tw_k182) (fun _ h9 => h9) rfl d_Mo_part_36 ?_
        refine lv_aload_n hx hb d_Mo_part_39 rfl (lv_at hl 0 rfl) ?_
        refine va_get (D := D) (ci := 3) (v := .int (nI c)) (C := R_Mo) (T := F_Mo) (N := 13) hx hb hT i_Mo hown hK hP 0 rfl rfl 0 (by decide) (hT _ tw_k180) (fun _ h9 => h9) rfl d_Mo_part_40 ?_
        refine lv_iload_n hx hb d_Mo_part_43 rfl (lv_at hl 2 rfl) ?_
        refine y_iast hx hb hK hP hD hS 2 0 rfl rfl (by omega) (by decide) d_Mo_part_44 (fun H locs hP hD hS => ?_)
        have hP : va_P D classes (wM cI cB cZ b c u z (va_up L c p1) (va_up M c p2) C S F li tx gd nx tm) H := hP
        have hD : va_D A (wM cI cB cZ b c u z (va_up L c p1) (va_up M c p2) C S F li tx gd nx tm) := hD
        refine lv_aload_n hx hb d_Mo_part_45 rfl (lv_at hl 0 rfl) ?_
        refine va_get (D := D) (ci := 3) (v := .ref (b 3)) (C := R_Mo) (T := F_Mo) (N := 13) hx hb hT i_Mo hown hK hP 0 rfl rfl 3 (by decide) (hT _ tw_k183) (fun _ h9 => h9) rfl d_Mo_part_46 ?_
        refine lv_aload_n hx hb d_Mo_part_49 rfl (lv_at hl 0 rfl) ?_
        refine va_get (D := D) (ci := 3) (v := .int (nI c)) (C := R_Mo) (T := F_Mo) (N := 13) hx hb hT i_Mo hown hK hP 0 rfl rfl 0 (by decide) (hT _ tw_k180) (fun _ h9 => h9) rfl d_Mo_part_50 ?_
        refine lv_iconst (v := nI 0) hx hb d_Mo_part_53 (by decide) ?_
        refine y_iast hx hb hK hP hD hS 3 0 rfl rfl (by omega) (by decide) d_Mo_part_54 (fun H locs hP hD hS => ?_)
        have hP : va_P D classes (wM cI cB cZ b c u z (va_up L c p1) (va_up M c p2) (va_up C c 0) S F li tx gd nx tm) H := hP
        have hD : va_D A (wM cI cB cZ b c u z (va_up L c p1) (va_up M c p2) (va_up C c 0) S F li tx gd nx tm) := hD
        refine lv_aload_n hx hb d_Mo_part_55 rfl (lv_at hl 0 rfl) ?_
        refine va_get (D := D) (ci := 3) (v := .ref (b 4)) (C := R_Mo) (T := F_Mo) (N := 13) hx hb hT i_Mo hown hK hP 0 rfl rfl 4 (by decide) (hT _ tw_k184) (fun _ h9 => h9) rfl d_Mo_part_56 ?_
        refine lv_aload_n hx hb d_Mo_part_59 rfl (lv_at hl 0 rfl) ?_
        refine va_get (D := D) (ci := 3) (v := .int (nI c)) (C := R_Mo) (T := F_Mo) (N := 13) hx hb hT i_Mo hown hK hP 0 rfl rfl 0 (by decide) (hT _ tw_k180) (fun _ h9 => h9) rfl d_Mo_part_60 ?_
        refine lv_iconst (v := nI 0) hx hb d_Mo_part_63 (by decide) ?_
        refine y_iast hx hb hK hP hD hS 4 0 rfl rfl (by omega) (by decide) d_Mo_part_64 (fun H locs hP hD hS => ?_)
        have hP : va_P D classes (wM cI cB cZ b c u z (va_up L c p1) (va_up M c p2) (va_up C c 0) (va_up S c 0) F li tx gd nx tm) H := hP
        have hD : va_D A (wM cI cB cZ b c u z (va_up L c p1) (va_up M c p2) (va_up C c 0) (va_up S c 0) F li tx gd nx tm) := hD
        refine lv_aload_n hx hb d_Mo_part_65 rfl (lv_at hl 0 rfl) ?_
        refine va_get (D := D) (ci := 3) (v := .ref (b 5)) (C := R_Mo) (T := F_Mo) (N := 13) hx hb hT i_Mo hown hK hP 0 rfl rfl 5 (by decide) (hT _ tw_k185) (fun _ h9 => h9) rfl d_Mo_part_66 ?_
        refine lv_aload_n hx hb d_Mo_part_69 rfl (lv_at hl 0 rfl) ?_
        refine va_get (D := D) (ci := 3) (v := .int (nI c)) (C := R_Mo) (T := F_Mo) (N := 13) hx hb hT i_Mo hown hK hP 0 rfl rfl 0 (by decide) (hT _ tw_k180) (fun _ h9 => h9) rfl d_Mo_part_70 ?_
        refine lv_aload_n hx hb d_Mo_part_73 rfl (lv_at hl 0 rfl) ?_
        refine va_get (D := D) (ci := 3) (v := .int (nI u)) (C := R_Mo) (T := F_Mo) (N := 13) hx hb hT i_Mo hown hK hP 0 rfl rfl 7 (by decide) (hT _ tw_k187) (fun _ h9 => h9) rfl d_Mo_part_74 ?_
        refine y_iast hx hb hK hP hD hS 5 0 rfl rfl (by omega) (by decide) d_Mo_part_77 (fun H locs hP hD hS => ?_)
        have hP : va_P D classes (wM cI cB cZ b c u z (va_up L c p1) (va_up M c p2) (va_up C c 0) (va_up S c 0) (va_up F c u) li tx gd nx tm) H := hP
        have hD : va_D A (wM cI cB cZ b c u z (va_up L c p1) (va_up M c p2) (va_up C c 0) (va_up S c 0) (va_up F c u) li tx gd nx tm) := hD
        refine lv_aload_n hx hb d_Mo_part_78 rfl (lv_at hl 0 rfl) ?_
        refine lv_dup hx hb d_Mo_part_79 rfl ?_
        refine va_get (D := D) (ci := 3) (v := .int (nI c)) (C := R_Mo) (T := F_Mo) (N := 13) hx hb hT i_Mo hown hK hP 0 rfl rfl 0 (by decide) (hT _ tw_k180) (fun _ h9 => h9) rfl d_Mo_part_80 ?_
        refine lv_iconst (v := nI 1) hx hb d_Mo_part_83 (by decide) ?_
        refine y_iadd hx hb d_Mo_part_84 ?_
        refine va_put (D := D) (ci := 3) (v := .int (nI (c + 1))) (ty := .int) (C := R_Mo) (T := F_Mo) (N := 13) hx hb hT i_Mo t_Mo t_Mo_ok n_Mo hown hK hP hD hS 0 rfl rfl 0 (by decide) (hT _ tw_k180) (fun _ h9 => h9) rfl (by decide +kernel) rfl rfl (Nat.le_of_ble_eq_true rfl) d_Mo_part_85 (fun H locs hP hD hS => ?_)
        have hP : va_P D classes (wM cI cB cZ b (c + 1) u z (va_up L c p1) (va_up M c p2) (va_up C c 0) (va_up S c 0) (va_up F c u) li tx gd nx tm) H := hP
        have hD : va_D A (wM cI cB cZ b (c + 1) u z (va_up L c p1) (va_up M c p2) (va_up C c 0) (va_up S c 0) (va_up F c u) li tx gd nx tm) := hD
        refine lv_iconst (v := nI 1) hx hb d_Mo_part_88 (by decide) ?_
        refine y_to (z1 (P := True) trivial) ?_
        exact y_zret hx hb hr hlocks hK (c + 1, u, va_up L c p1, va_up M c p2, va_up C c 0, va_up F c u, va_up S c 0, li) hP hD hS (⟨zb_iff ⟨fun _ => hok, fun _ => trivial⟩, stP_t hok hp1 hp2⟩) d_Mo_part_89
      · refine lv_iconst (v := nI 0) hx hb d_Mo_part_23 (by decide) ?_
        refine y_to (z0 (P := False) not_false) ?_
        exact y_zret hx hb hr hlocks hK (c, u, L, M, C, F, S, li) hP hD hS (⟨zb_iff ⟨False.elim, fun q => h3 q.2.2⟩, (iff_f (fun q => h3 q.2.2)).symm⟩) d_Mo_part_24

set_option maxHeartbeats 4000000 in
set_option maxRecDepth 100000 in
/-- PatternSieve.letter -/
theorem c_Sv_letter (l : Launch) (D : va_G) (cI cB cZ : ClassId) (a : Nat → Nat) (c u : Nat) (L M C F S : Nat → Nat) (li : Nat → Int8) (no th ro : Nat → Prop) (z : Nat) (tx : Nat → Int8) (x : Int32) (hc : c ≤ 60) (hSz : ∀ k, S k ≤ 255) (sz : Nat) : Met l y_Sv_letter cw_Sv_letter ({ frames := 1, cells := 0, slots := 0, locals := 22 }) (va_Pc [.ref (a 12), .int x] (Bp D cI cB cZ (wS cI cB cZ a c u L M C F S li no th ro z tx) sz)) (va_Qi (S := PS) (fun r v_ => r = zb (okL c S x) ∧ v_ = stL c u L M C F S li x) (fun v_ => Bq D cI cB cZ (va_A (wS cI cB cZ a c u L M C F S li no th ro z tx) sz) (wSv cI cB cZ a v_ no th ro z tx)) (va_A (wS cI cB cZ a c u L M C F S li no th ro z tx) sz)) 0 0 (va_A (wS cI cB cZ a c u L M C F S li no th ro z tx) sz) := by
  refine Met.ofW (cc := b_Sv_letter) (maxL := 2) (ret := (some FieldType.boolean)) (by decide) rfl ?_
  intro p e s m args below meth c1 s₁ B hml hv
  obtain ⟨rfl, hsz, hP, hK, hD0, hN⟩ := hv
  subst hsz
  have hx := B.exec
  have hb := B.bytes
  have hr := B.returns
  have hT : ∀ w ∈ tw_, w.before _ s = true := fun w h => atoms_spec (ws := cw_Sv_letter) B.pre w (List.mem_cons_of_mem _ h)
  have hown : s.vm.findClass R_Sv = some m.cls := findClass_of_methodNamed B.named
  have hlocks := B.notSynchronized
  have hD := hD0.self (sz := s.heap.size)
  generalize hAe : va_A (wS cI cB cZ a c u L M C F S li no th ro z tx) s.heap.size = A at hD ⊢
  have hA : ∀ q : Nat, s.heap.size ≤ q → A q := fun q h => by rw [← hAe]; exact Or.inr h
  have hS : va_S A s.heap s.heap [] := va_S.rf
  have hl := lv_entry ([.ref (a 12), .int x]) (n := 2) (Nat.le_of_ble_eq_true rfl)
  rw [lg_entry_eq]
  generalize (lg_sl ([.ref (a 12), .int x]) ++ List.replicate (2 - (lg_sl ([.ref (a 12), .int x])).length) Slot.unset).toArray = ls at hl ⊢
  have hl : lv_has ls 2 [(0, .ref (a 12)), (1, .int x)] := hl
  refine lv_aload_n hx hb d_Sv_letter_0 rfl (lv_at hl 0 rfl) ?_
  refine va_get (D := D) (ci := 0) (v := .ref (a 0)) (C := R_Sv) (T := F_Sv) (N := 2) hx hb hT i_Sv hown hK hP 0 rfl rfl 1 (by decide) (hT _ tw_k84) (fun _ h9 => h9) rfl d_Sv_letter_1 ?_
  refine va_getN (D := D) (ci := 1) (v := .int (nI c)) (C := R_Pt) (T := F_Pt) (N := 11) hx hb hT i_Pt hown hK hP 1 rfl rfl 9 (by decide) (Nst.k55 hN) (fun _ h9 => h9) rfl d_Sv_letter_4 ?_
  refine y_if_eq (tgt := 37) hx hb (by omega) d_Sv_letter_7 (by decide) (fun h1 => ?_) (fun h1 => ?_)
  · refine lv_iconst (v := nI 0) hx hb d_Sv_letter_37 (by decide) ?_
    refine y_to (z0 (P := False) not_false) ?_
    exact y_zret hx hb hr hlocks hK (c, u, L, M, C, F, S, li) hP hD hS (⟨zb_iff ⟨False.elim, fun q => q.1 h1⟩, (iff_f (fun q => q.1 h1)).symm⟩) d_Sv_letter_38
  · refine lv_aload_n hx hb d_Sv_letter_10 rfl (lv_at hl 0 rfl) ?_
    refine va_get (D := D) (ci := 0) (v := .ref (a 0)) (C := R_Sv) (T := F_Sv) (N := 2) hx hb hT i_Sv hown hK hP 0 rfl rfl 1 (by decide) (hT _ tw_k84) (fun _ h9 => h9) rfl d_Sv_letter_11 ?_
    refine va_getN (D := D) (ci := 1) (v := .ref (a 5)) (C := R_Pt) (T := F_Pt) (N := 11) hx hb hT i_Pt hown hK hP 1 rfl rfl 4 (by decide) (Nst.k48 hN) (fun _ h9 => h9) rfl d_Sv_letter_14 ?_
    refine lv_aload_n hx hb d_Sv_letter_17 rfl (lv_at hl 0 rfl) ?_
    refine va_get (D := D) (ci := 0) (v := .ref (a 0)) (C := R_Sv) (T := F_Sv) (N := 2) hx hb hT i_Sv hown hK hP 0 rfl rfl 1 (by decide) (hT _ tw_k84) (fun _ h9 => h9) rfl d_Sv_letter_18 ?_
    refine va_getN (D := D) (ci := 1) (v := .int (nI c)) (C := R_Pt) (T := F_Pt) (N := 11) hx hb hT i_Pt hown hK hP 1 rfl rfl 9 (by decide) (Nst.k55 hN) (fun _ h9 => h9) rfl d_Sv_letter_21 ?_
    refine lv_iconst (v := nI 1) hx hb d_Sv_letter_24 (by decide) ?_
    refine y_isub hx hb (by omega) d_Sv_letter_25 ?_
    refine y_iald hx hb hK hP 6 0 rfl rfl (by omega) (by decide) d_Sv_letter_26 ?_
    refine y_if_gt (tgt := 37) hx hb (by have := hSz (c - 1); omega) d_Sv_letter_27 (by decide) (fun h2 => ?_) (fun h2 => ?_)
    · refine lv_iconst (v := nI 0) hx hb d_Sv_letter_37 (by decide) ?_
      refine y_to (z0 (P := False) not_false) ?_
      exact y_zret hx hb hr hlocks hK (c, u, L, M, C, F, S, li) hP hD hS (⟨zb_iff ⟨False.elim, fun q => absurd q.2.1 (by omega)⟩, (iff_f (fun q => absurd q.2.1 (by omega))).symm⟩) d_Sv_letter_38
    · refine lv_iload_n hx hb d_Sv_letter_30 rfl (lv_at hl 1 rfl) ?_
      refine y_i (w0 := ([] : va_W)) (wr := [_, _, _, _, _, _, _, _, _, _, _, _, _]) hP hD hS hA [] [0, 1, 2, 3, 4, 5, 6, 7, 8, 9, 10, 11, 12] rfl rfl (by decide) (by decide) (y_runS (n := 1) (rm := { frames := 0, cells := 0, slots := 0, locals := 0 }) (w0 := ([] : va_W)) (As := [.int x]) (rest := []) hx hb hml hown hT hN hK hP hD (c_Pt_isClass l D cI cB cZ x _) ⟨tw_k115, tw_k9, tw_k113, by decide +kernel⟩ tw_k114 [] rfl (by decide) ⟨Nat.le_of_ble_eq_true rfl, Nat.le_of_ble_eq_true rfl⟩ rfl hl.1 rfl (Nat.le_of_ble_eq_true rfl) d_Sv_letter_31 ⟨Nat.le_of_ble_eq_true rfl, Nat.le_of_ble_eq_true rfl⟩) (fun r v_ H locs hp hP hD hS => ?_)
      have hP : va_P D classes (wS cI cB cZ a c u L M C F S li no th ro z tx) H := hP
      have hD : va_D A (wS cI cB cZ a c u L M C F S li no th ro z tx) := hD
      subst hp
      refine y_ifne (tgt := 39) hx hb d_Sv_letter_34 (by decide) (fun h3 => ?_) (fun h3 => ?_)
      · have hok : okL c S x := ⟨h1, h2, h3⟩
        refine lv_aload_n hx hb d_Sv_letter_39 rfl (lv_at hl 0 rfl) ?_
        refine va_get (D := D) (ci := 0) (v := .ref (a 0)) (C := R_Sv) (T := F_Sv) (N := 2) hx hb hT i_Sv hown hK hP 0 rfl rfl 1 (by decide) (hT _ tw_k84) (fun _ h9 => h9) rfl d_Sv_letter_40 ?_
        refine lv_iload_n hx hb d_Sv_letter_43 rfl (lv_at hl 1 rfl) ?_
        refine y_v (w0 := (wPt cI cB cZ a c u L M C F S li no th ro)) (wr := [_, _, _]) hP hD hS hA [1, 2, 3, 4, 5, 6, 7, 8, 9, 10] [0, 11, 12] rfl rfl (by decide) (by decide) (y_runV (n := 1) (rm := { frames := 0, cells := 0, slots := 0, locals := 0 }) (w0 := (wPt cI cB cZ a c u L M C F S li no th ro)) (q0 := 1) (b := a 0) (As := [.int x]) (rest := []) hx hb hml hown hT hN hK hP hD (c_Pt_letter l D cI cB cZ a c u L M C F S li no th ro x (by omega) hc h3 _) ⟨tw_k119, tw_k9, tw_k116, by decide +kernel⟩ ⟨tw_k117, tw_k118⟩ [1, 2, 3, 4, 5, 6, 7, 8, 9, 10] rfl (by decide) rfl rfl ⟨Nat.le_of_ble_eq_true rfl, Nat.le_of_ble_eq_true rfl⟩ rfl hl.1 rfl (Nat.le_of_ble_eq_true rfl) d_Sv_letter_44 ⟨Nat.le_of_ble_eq_true rfl, Nat.le_of_ble_eq_true rfl⟩) (fun v_ H locs hp hP hD hS => ?_)
        have hP := hP.sub (ws' := (wS cI cB cZ a c u L M (va_up C (c - 1) (C (c - 1) ||| bitN x)) F S li no th ro z tx)) [0, 3, 4, 5, 6, 7, 8, 9, 10, 11, 12, 1, 2] rfl
        have hD := hD.sub (ws' := (wS cI cB cZ a c u L M (va_up C (c - 1) (C (c - 1) ||| bitN x)) F S li no th ro z tx)) [0, 3, 4, 5, 6, 7, 8, 9, 10, 11, 12, 1, 2] (by decide) rfl
        refine lv_iconst (v := nI 1) hx hb d_Sv_letter_47 (by decide) ?_
        refine y_to (z1 (P := True) trivial) ?_
        exact y_zret hx hb hr hlocks hK (c, u, L, M, va_up C (c - 1) (C (c - 1) ||| bitN x), F, S, li) hP hD hS (⟨zb_iff ⟨fun _ => hok, fun _ => trivial⟩, (iff_t hok).symm⟩) d_Sv_letter_48
      · refine lv_iconst (v := nI 0) hx hb d_Sv_letter_37 (by decide) ?_
        refine y_to (z0 (P := False) not_false) ?_
        exact y_zret hx hb hr hlocks hK (c, u, L, M, C, F, S, li) hP hD hS (⟨zb_iff ⟨False.elim, fun q => h3 q.2.2⟩, (iff_f (fun q => h3 q.2.2)).symm⟩) d_Sv_letter_38

set_option maxHeartbeats 4000000 in
set_option maxRecDepth 100000 in
/-- PatternSieveModel.letter -/
theorem c_Mo_letter (l : Launch) (D : va_G) (cI cB cZ : ClassId) (b : Nat → Nat) (c u z : Nat) (L M C S F : Nat → Nat) (li tx : Nat → Int8) (gd nx : Nat → Prop) (tm : Nat → Nat) (x : Int32) (hc : c ≤ 60) (hSz : ∀ k, S k ≤ 255) (sz : Nat) : Met l y_Mo_letter cw_Mo_letter ({ frames := 1, cells := 0, slots := 0, locals := 20 }) (va_Pc [.ref (b 0), .int x] (Bp D cI cB cZ (wM cI cB cZ b c u z L M C S F li tx gd nx tm) sz)) (va_Qi (S := PS) (fun r v_ => r = zb (okL c S x) ∧ v_ = stL c u L M C F S li x) (fun v_ => Bq D cI cB cZ (va_A (wM cI cB cZ b c u z L M C S F li tx gd nx tm) sz) (wMo cI cB cZ b v_ z tx gd nx tm)) (va_A (wM cI cB cZ b c u z L M C S F li tx gd nx tm) sz)) 0 0 (va_A (wM cI cB cZ b c u z L M C S F li tx gd nx tm) sz) := by
  refine Met.ofW (cc := b_Mo_letter) (maxL := 2) (ret := (some FieldType.boolean)) (by decide) rfl ?_
  intro p e s m args below meth c1 s₁ B hml hv
  obtain ⟨rfl, hsz, hP, hK, hD0, hN⟩ := hv
  subst hsz
  have hx := B.exec
  have hb := B.bytes
  have hr := B.returns
  have hT : ∀ w ∈ tw_, w.before _ s = true := fun w h => atoms_spec (ws := cw_Mo_letter) B.pre w (List.mem_cons_of_mem _ h)
  have hown : s.vm.findClass R_Mo = some m.cls := findClass_of_methodNamed B.named
  have hlocks := B.notSynchronized
  have hD := hD0.self (sz := s.heap.size)
  generalize hAe : va_A (wM cI cB cZ b c u z L M C S F li tx gd nx tm) s.heap.size = A at hD ⊢
  have hA : ∀ q : Nat, s.heap.size ≤ q → A q := fun q h => by rw [← hAe]; exact Or.inr h
  have hS : va_S A s.heap s.heap [] := va_S.rf
  have hl := lv_entry ([.ref (b 0), .int x]) (n := 2) (Nat.le_of_ble_eq_true rfl)
  rw [lg_entry_eq]
  generalize (lg_sl ([.ref (b 0), .int x]) ++ List.replicate (2 - (lg_sl ([.ref (b 0), .int x])).length) Slot.unset).toArray = ls at hl ⊢
  have hl : lv_has ls 2 [(0, .ref (b 0)), (1, .int x)] := hl
  refine lv_aload_n hx hb d_Mo_letter_0 rfl (lv_at hl 0 rfl) ?_
  refine va_get (D := D) (ci := 3) (v := .int (nI c)) (C := R_Mo) (T := F_Mo) (N := 13) hx hb hT i_Mo hown hK hP 0 rfl rfl 0 (by decide) (hT _ tw_k180) (fun _ h9 => h9) rfl d_Mo_letter_1 ?_
  refine y_if_eq (tgt := 28) hx hb (by omega) d_Mo_letter_4 (by decide) (fun h1 => ?_) (fun h1 => ?_)
  · refine lv_iconst (v := nI 0) hx hb d_Mo_letter_28 (by decide) ?_
    refine y_to (z0 (P := False) not_false) ?_
    exact y_zret hx hb hr hlocks hK (c, u, L, M, C, F, S, li) hP hD hS (⟨zb_iff ⟨False.elim, fun q => q.1 h1⟩, (iff_f (fun q => q.1 h1)).symm⟩) d_Mo_letter_29
  · refine lv_aload_n hx hb d_Mo_letter_7 rfl (lv_at hl 0 rfl) ?_
    refine va_get (D := D) (ci := 3) (v := .ref (b 4)) (C := R_Mo) (T := F_Mo) (N := 13) hx hb hT i_Mo hown hK hP 0 rfl rfl 4 (by decide) (hT _ tw_k184) (fun _ h9 => h9) rfl d_Mo_letter_8 ?_
    refine lv_aload_n hx hb d_Mo_letter_11 rfl (lv_at hl 0 rfl) ?_
    refine va_get (D := D) (ci := 3) (v := .int (nI c)) (C := R_Mo) (T := F_Mo) (N := 13) hx hb hT i_Mo hown hK hP 0 rfl rfl 0 (by decide) (hT _ tw_k180) (fun _ h9 => h9) rfl d_Mo_letter_12 ?_
    refine lv_iconst (v := nI 1) hx hb d_Mo_letter_15 (by decide) ?_
    refine y_isub hx hb (by omega) d_Mo_letter_16 ?_
    refine y_iald hx hb hK hP 4 0 rfl rfl (by omega) (by decide) d_Mo_letter_17 ?_
    refine y_if_gt (tgt := 28) hx hb (by have := hSz (c - 1); omega) d_Mo_letter_18 (by decide) (fun h2 => ?_) (fun h2 => ?_)
    · refine lv_iconst (v := nI 0) hx hb d_Mo_letter_28 (by decide) ?_
      refine y_to (z0 (P := False) not_false) ?_
      exact y_zret hx hb hr hlocks hK (c, u, L, M, C, F, S, li) hP hD hS (⟨zb_iff ⟨False.elim, fun q => absurd q.2.1 (by omega)⟩, (iff_f (fun q => absurd q.2.1 (by omega))).symm⟩) d_Mo_letter_29
    · refine lv_iload_n hx hb d_Mo_letter_21 rfl (lv_at hl 1 rfl) ?_
      refine y_i (w0 := ([] : va_W)) (wr := [_, _, _, _, _, _, _, _, _, _, _]) hP hD hS hA [] [0, 1, 2, 3, 4, 5, 6, 7, 8, 9, 10] rfl rfl (by decide) (by decide) (y_runS (n := 1) (rm := { frames := 0, cells := 0, slots := 0, locals := 0 }) (w0 := ([] : va_W)) (As := [.int x]) (rest := []) hx hb hml hown hT hN hK hP hD (c_Mo_bitOf l D cI cB cZ x _) ⟨tw_k237, tw_k10, tw_k235, by decide +kernel⟩ tw_k236 [] rfl (by decide) ⟨Nat.le_of_ble_eq_true rfl, Nat.le_of_ble_eq_true rfl⟩ rfl hl.1 rfl (Nat.le_of_ble_eq_true rfl) d_Mo_letter_22 ⟨Nat.le_of_ble_eq_true rfl, Nat.le_of_ble_eq_true rfl⟩) (fun r v_ H locs hp hP hD hS => ?_)
      have hP : va_P D classes (wM cI cB cZ b c u z L M C S F li tx gd nx tm) H := hP
      have hD : va_D A (wM cI cB cZ b c u z L M C S F li tx gd nx tm) := hD
      subst hp
      refine y_if_ne (tgt := 30) hx hb (by have := bitN_lt x; omega) d_Mo_letter_25 (by decide) (fun h3 => ?_) (fun h3 => ?_)
      · have hok : okL c S x := ⟨h1, h2, h3⟩
        refine lv_aload_n hx hb d_Mo_letter_30 rfl (lv_at hl 0 rfl) ?_
        refine va_get (D := D) (ci := 3) (v := .ref (b 3)) (C := R_Mo) (T := F_Mo) (N := 13) hx hb hT i_Mo hown hK hP 0 rfl rfl 3 (by decide) (hT _ tw_k183) (fun _ h9 => h9) rfl d_Mo_letter_31 ?_
        refine lv_aload_n hx hb d_Mo_letter_34 rfl (lv_at hl 0 rfl) ?_
        refine va_get (D := D) (ci := 3) (v := .int (nI c)) (C := R_Mo) (T := F_Mo) (N := 13) hx hb hT i_Mo hown hK hP 0 rfl rfl 0 (by decide) (hT _ tw_k180) (fun _ h9 => h9) rfl d_Mo_letter_35 ?_
        refine lv_iconst (v := nI 1) hx hb d_Mo_letter_38 (by decide) ?_
        refine y_isub hx hb (by omega) d_Mo_letter_39 ?_
        refine lv_dup2_11 hx hb d_Mo_letter_40 rfl rfl ?_
        refine y_iald hx hb hK hP 3 0 rfl rfl (by omega) (by decide) d_Mo_letter_41 ?_
        refine lv_iload_n hx hb d_Mo_letter_42 rfl (lv_at hl 1 rfl) ?_
        refine y_i (w0 := ([] : va_W)) (wr := [_, _, _, _, _, _, _, _, _, _, _]) hP hD hS hA [] [0, 1, 2, 3, 4, 5, 6, 7, 8, 9, 10] rfl rfl (by decide) (by decide) (y_runS (n := 1) (rm := { frames := 0, cells := 0, slots := 0, locals := 0 }) (w0 := ([] : va_W)) (As := [.int x]) (rest := [.int (nI (C (c - 1))), .int (nI (c - 1)), .ref (b 3)]) hx hb hml hown hT hN hK hP hD (c_Mo_bitOf l D cI cB cZ x _) ⟨tw_k237, tw_k10, tw_k235, by decide +kernel⟩ tw_k236 [] rfl (by decide) ⟨Nat.le_of_ble_eq_true rfl, Nat.le_of_ble_eq_true rfl⟩ rfl hl.1 rfl (Nat.le_of_ble_eq_true rfl) d_Mo_letter_43 ⟨Nat.le_of_ble_eq_true rfl, Nat.le_of_ble_eq_true rfl⟩) (fun r v_ H locs hp hP hD hS => ?_)
        have hP : va_P D classes (wM cI cB cZ b c u z L M C S F li tx gd nx tm) H := hP
        have hD : va_D A (wM cI cB cZ b c u z L M C S F li tx gd nx tm) := hD
        subst hp
        refine y_ior hx hb d_Mo_letter_46 ?_
        refine y_iast hx hb hK hP hD hS 3 0 rfl rfl (by omega) (by decide) d_Mo_letter_47 (fun H locs hP hD hS => ?_)
        have hP : va_P D classes (wM cI cB cZ b c u z L M (va_up C (c - 1) ((C (c - 1)) ||| (bitN x))) S F li tx gd nx tm) H := hP
        have hD : va_D A (wM cI cB cZ b c u z L M (va_up C (c - 1) ((C (c - 1)) ||| (bitN x))) S F li tx gd nx tm) := hD
        refine lv_iconst (v := nI 1) hx hb d_Mo_letter_48 (by decide) ?_
        refine y_to (z1 (P := True) trivial) ?_
        exact y_zret hx hb hr hlocks hK (c, u, L, M, va_up C (c - 1) (C (c - 1) ||| bitN x), F, S, li) hP hD hS (⟨zb_iff ⟨fun _ => hok, fun _ => trivial⟩, (iff_t hok).symm⟩) d_Mo_letter_49
      · refine lv_iconst (v := nI 0) hx hb d_Mo_letter_28 (by decide) ?_
        refine y_to (z0 (P := False) not_false) ?_
        exact y_zret hx hb hr hlocks hK (c, u, L, M, C, F, S, li) hP hD hS (⟨zb_iff ⟨False.elim, fun q => q.2.2 h3⟩, (iff_f (fun q => q.2.2 h3)).symm⟩) d_Mo_letter_29

set_option maxHeartbeats 4000000 in
set_option maxRecDepth 100000 in
/-- PatternSieve.literal -/
theorem c_Sv_literal (l : Launch) (D : va_G) (cI cB cZ : ClassId) (a : Nat → Nat) (c u : Nat) (L M C F S : Nat → Nat) (li : Nat → Int8) (no th ro : Nat → Prop) (z : Nat) (tx : Nat → Int8) (x : Int32) (hc : c ≤ 60) (hu : u ≤ 255) (hC : ∀ k, C k < 128) (sz : Nat) : Met l y_Sv_literal cw_Sv_literal ({ frames := 1, cells := 0, slots := 0, locals := 21 }) (va_Pc [.ref (a 12), .int x] (Bp D cI cB cZ (wS cI cB cZ a c u L M C F S li no th ro z tx) sz)) (va_Qi (S := PS) (fun r v_ => r = zb (okT c u C) ∧ v_ = stT c u L M C F S li x) (fun v_ => Bq D cI cB cZ (va_A (wS cI cB cZ a c u L M C F S li no th ro z tx) sz) (wSv cI cB cZ a v_ no th ro z tx)) (va_A (wS cI cB cZ a c u L M C F S li no th ro z tx) sz)) 0 0 (va_A (wS cI cB cZ a c u L M C F S li no th ro z tx) sz) := by
  refine Met.ofW (cc := b_Sv_literal) (maxL := 2) (ret := (some FieldType.boolean)) (by decide) rfl ?_
  intro p e s m args below meth c1 s₁ B hml hv
  obtain ⟨rfl, hsz, hP, hK, hD0, hN⟩ := hv
  subst hsz
  have hx := B.exec
  have hb := B.bytes
  have hr := B.returns
  have hT : ∀ w ∈ tw_, w.before _ s = true := fun w h => atoms_spec (ws := cw_Sv_literal) B.pre w (List.mem_cons_of_mem _ h)
  have hown : s.vm.findClass R_Sv = some m.cls := findClass_of_methodNamed B.named
  have hlocks := B.notSynchronized
  have hD := hD0.self (sz := s.heap.size)
  generalize hAe : va_A (wS cI cB cZ a c u L M C F S li no th ro z tx) s.heap.size = A at hD ⊢
  have hA : ∀ q : Nat, s.heap.size ≤ q → A q := fun q h => by rw [← hAe]; exact Or.inr h
  have hS : va_S A s.heap s.heap [] := va_S.rf
  have hl := lv_entry ([.ref (a 12), .int x]) (n := 2) (Nat.le_of_ble_eq_true rfl)
  rw [lg_entry_eq]
  generalize (lg_sl ([.ref (a 12), .int x]) ++ List.replicate (2 - (lg_sl ([.ref (a 12), .int x])).length) Slot.unset).toArray = ls at hl ⊢
  have hl : lv_has ls 2 [(0, .ref (a 12)), (1, .int x)] := hl
  refine lv_aload_n hx hb d_Sv_literal_0 rfl (lv_at hl 0 rfl) ?_
  refine va_get (D := D) (ci := 0) (v := .ref (a 0)) (C := R_Sv) (T := F_Sv) (N := 2) hx hb hT i_Sv hown hK hP 0 rfl rfl 1 (by decide) (hT _ tw_k84) (fun _ h9 => h9) rfl d_Sv_literal_1 ?_
  refine va_getN (D := D) (ci := 1) (v := .int (nI c)) (C := R_Pt) (T := F_Pt) (N := 11) hx hb hT i_Pt hown hK hP 1 rfl rfl 9 (by decide) (Nst.k55 hN) (fun _ h9 => h9) rfl d_Sv_literal_4 ?_
  refine y_if_eq (tgt := 43) hx hb (by omega) d_Sv_literal_7 (by decide) (fun h1 => ?_) (fun h1 => ?_)
  · refine lv_iconst (v := nI 0) hx hb d_Sv_literal_43 (by decide) ?_
    refine y_to (z0 (P := False) not_false) ?_
    exact y_zret hx hb hr hlocks hK (c, u, L, M, C, F, S, li) hP hD hS (⟨zb_iff ⟨False.elim, fun q => q.1 h1⟩, (iff_f (fun q => q.1 h1)).symm⟩) d_Sv_literal_44
  · refine lv_aload_n hx hb d_Sv_literal_10 rfl (lv_at hl 0 rfl) ?_
    refine va_get (D := D) (ci := 0) (v := .ref (a 0)) (C := R_Sv) (T := F_Sv) (N := 2) hx hb hT i_Sv hown hK hP 0 rfl rfl 1 (by decide) (hT _ tw_k84) (fun _ h9 => h9) rfl d_Sv_literal_11 ?_
    refine va_getN (D := D) (ci := 1) (v := .ref (a 3)) (C := R_Pt) (T := F_Pt) (N := 11) hx hb hT i_Pt hown hK hP 1 rfl rfl 2 (by decide) (Nst.k45 hN) (fun _ h9 => h9) rfl d_Sv_literal_14 ?_
    refine lv_aload_n hx hb d_Sv_literal_17 rfl (lv_at hl 0 rfl) ?_
    refine va_get (D := D) (ci := 0) (v := .ref (a 0)) (C := R_Sv) (T := F_Sv) (N := 2) hx hb hT i_Sv hown hK hP 0 rfl rfl 1 (by decide) (hT _ tw_k84) (fun _ h9 => h9) rfl d_Sv_literal_18 ?_
    refine va_getN (D := D) (ci := 1) (v := .int (nI c)) (C := R_Pt) (T := F_Pt) (N := 11) hx hb hT i_Pt hown hK hP 1 rfl rfl 9 (by decide) (Nst.k55 hN) (fun _ h9 => h9) rfl d_Sv_literal_21 ?_
    refine lv_iconst (v := nI 1) hx hb d_Sv_literal_24 (by decide) ?_
    refine y_isub hx hb (by omega) d_Sv_literal_25 ?_
    refine y_iald hx hb hK hP 4 0 rfl rfl (by omega) (by decide) d_Sv_literal_26 ?_
    refine y_if_ne (tgt := 43) hx hb (by have := hC (c - 1); omega) d_Sv_literal_27 (by decide) (fun h2 => ?_) (fun h2 => ?_)
    · refine lv_iconst (v := nI 0) hx hb d_Sv_literal_43 (by decide) ?_
      refine y_to (z0 (P := False) not_false) ?_
      exact y_zret hx hb hr hlocks hK (c, u, L, M, C, F, S, li) hP hD hS (⟨zb_iff ⟨False.elim, fun q => h2 q.2.1⟩, (iff_f (fun q => h2 q.2.1)).symm⟩) d_Sv_literal_44
    · refine lv_aload_n hx hb d_Sv_literal_30 rfl (lv_at hl 0 rfl) ?_
      refine va_get (D := D) (ci := 0) (v := .ref (a 0)) (C := R_Sv) (T := F_Sv) (N := 2) hx hb hT i_Sv hown hK hP 0 rfl rfl 1 (by decide) (hT _ tw_k84) (fun _ h9 => h9) rfl d_Sv_literal_31 ?_
      refine va_getN (D := D) (ci := 1) (v := .int (nI u)) (C := R_Pt) (T := F_Pt) (N := 11) hx hb hT i_Pt hown hK hP 1 rfl rfl 10 (by decide) (Nst.k57 hN) (fun _ h9 => h9) rfl d_Sv_literal_34 ?_
      refine lv_sipush (v := nI 255) hx hb d_Sv_literal_37 (by decide) ?_
      refine y_icmp_ne (tgt := 45) hx hb (by omega) (by omega) d_Sv_literal_40 (by decide) (fun h3 => ?_) (fun h3 => ?_)
      · have hok : okT c u C := ⟨h1, h2, h3⟩
        refine lv_aload_n hx hb d_Sv_literal_45 rfl (lv_at hl 0 rfl) ?_
        refine va_get (D := D) (ci := 0) (v := .ref (a 0)) (C := R_Sv) (T := F_Sv) (N := 2) hx hb hT i_Sv hown hK hP 0 rfl rfl 1 (by decide) (hT _ tw_k84) (fun _ h9 => h9) rfl d_Sv_literal_46 ?_
        refine lv_iload_n hx hb d_Sv_literal_49 rfl (lv_at hl 1 rfl) ?_
        refine y_v (w0 := (wPt cI cB cZ a c u L M C F S li no th ro)) (wr := [_, _, _]) hP hD hS hA [1, 2, 3, 4, 5, 6, 7, 8, 9, 10] [0, 11, 12] rfl rfl (by decide) (by decide) (y_runV (n := 1) (rm := { frames := 0, cells := 0, slots := 0, locals := 0 }) (w0 := (wPt cI cB cZ a c u L M C F S li no th ro)) (q0 := 1) (b := a 0) (As := [.int x]) (rest := []) hx hb hml hown hT hN hK hP hD (c_Pt_literal l D cI cB cZ a c u L M C F S li no th ro x (by omega) hc (by omega) _) ⟨tw_k127, tw_k9, tw_k124, by decide +kernel⟩ ⟨tw_k125, tw_k126⟩ [1, 2, 3, 4, 5, 6, 7, 8, 9, 10] rfl (by decide) rfl rfl ⟨Nat.le_of_ble_eq_true rfl, Nat.le_of_ble_eq_true rfl⟩ rfl hl.1 rfl (Nat.le_of_ble_eq_true rfl) d_Sv_literal_50 ⟨Nat.le_of_ble_eq_true rfl, Nat.le_of_ble_eq_true rfl⟩) (fun v_ H locs hp hP hD hS => ?_)
        have hP := hP.sub (ws' := (wS cI cB cZ a c (u + 1) L M C F (va_up S (c - 1) (S (c - 1) + 1)) (va_up li u x.toInt8) no th ro z tx)) [0, 3, 4, 5, 6, 7, 8, 9, 10, 11, 12, 1, 2] rfl
        have hD := hD.sub (ws' := (wS cI cB cZ a c (u + 1) L M C F (va_up S (c - 1) (S (c - 1) + 1)) (va_up li u x.toInt8) no th ro z tx)) [0, 3, 4, 5, 6, 7, 8, 9, 10, 11, 12, 1, 2] (by decide) rfl
        refine lv_iconst (v := nI 1) hx hb d_Sv_literal_53 (by decide) ?_
        refine y_to (z1 (P := True) trivial) ?_
        exact y_zret hx hb hr hlocks hK (c, u + 1, L, M, C, F, va_up S (c - 1) (S (c - 1) + 1), va_up li u x.toInt8) hP hD hS (⟨zb_iff ⟨fun _ => hok, fun _ => trivial⟩, (iff_t hok).symm⟩) d_Sv_literal_54
      · refine lv_iconst (v := nI 0) hx hb d_Sv_literal_43 (by decide) ?_
        refine y_to (z0 (P := False) not_false) ?_
        exact y_zret hx hb hr hlocks hK (c, u, L, M, C, F, S, li) hP hD hS (⟨zb_iff ⟨False.elim, fun q => q.2.2 h3⟩, (iff_f (fun q => q.2.2 h3)).symm⟩) d_Sv_literal_44

set_option maxHeartbeats 4000000 in
set_option maxRecDepth 100000 in
/-- PatternSieveModel.literal -/
theorem c_Mo_literal (l : Launch) (D : va_G) (cI cB cZ : ClassId) (b : Nat → Nat) (c u z : Nat) (L M C S F : Nat → Nat) (li tx : Nat → Int8) (gd nx : Nat → Prop) (tm : Nat → Nat) (x : Int32) (hc : c ≤ 60) (hu : u ≤ 255) (hC : ∀ k, C k < 128) (sz : Nat) : Met l y_Mo_literal cw_Mo_literal ({ frames := 0, cells := 0, slots := 0, locals := 0 }) (va_Pc [.ref (b 0), .int x] (Bp D cI cB cZ (wM cI cB cZ b c u z L M C S F li tx gd nx tm) sz)) (va_Qi (S := PS) (fun r v_ => r = zb (okT c u C) ∧ v_ = stT c u L M C F S li x) (fun v_ => Bq D cI cB cZ (va_A (wM cI cB cZ b c u z L M C S F li tx gd nx tm) sz) (wMo cI cB cZ b v_ z tx gd nx tm)) (va_A (wM cI cB cZ b c u z L M C S F li tx gd nx tm) sz)) 0 0 (va_A (wM cI cB cZ b c u z L M C S F li tx gd nx tm) sz) := by
  refine Met.ofW (cc := b_Mo_literal) (maxL := 2) (ret := (some FieldType.boolean)) (by decide) rfl ?_
  intro p e s m args below meth c1 s₁ B hml hv
  obtain ⟨rfl, hsz, hP, hK, hD0, hN⟩ := hv
  subst hsz
  have hx := B.exec
  have hb := B.bytes
  have hr := B.returns
  have hT : ∀ w ∈ tw_, w.before _ s = true := fun w h => atoms_spec (ws := cw_Mo_literal) B.pre w (List.mem_cons_of_mem _ h)
  have hown : s.vm.findClass R_Mo = some m.cls := findClass_of_methodNamed B.named
  have hlocks := B.notSynchronized
  have hD := hD0.self (sz := s.heap.size)
  generalize hAe : va_A (wM cI cB cZ b c u z L M C S F li tx gd nx tm) s.heap.size = A at hD ⊢
  have hA : ∀ q : Nat, s.heap.size ≤ q → A q := fun q h => by rw [← hAe]; exact Or.inr h
  have hS : va_S A s.heap s.heap [] := va_S.rf
  have hl := lv_entry ([.ref (b 0), .int x]) (n := 2) (Nat.le_of_ble_eq_true rfl)
  rw [lg_entry_eq]
  generalize (lg_sl ([.ref (b 0), .int x]) ++ List.replicate (2 - (lg_sl ([.ref (b 0), .int x])).length) Slot.unset).toArray = ls at hl ⊢
  have hl : lv_has ls 2 [(0, .ref (b 0)), (1, .int x)] := hl
  refine lv_aload_n hx hb d_Mo_literal_0 rfl (lv_at hl 0 rfl) ?_
  refine va_get (D := D) (ci := 3) (v := .int (nI c)) (C := R_Mo) (T := F_Mo) (N := 13) hx hb hT i_Mo hown hK hP 0 rfl rfl 0 (by decide) (hT _ tw_k180) (fun _ h9 => h9) rfl d_Mo_literal_1 ?_
  refine y_if_eq (tgt := 31) hx hb (by omega) d_Mo_literal_4 (by decide) (fun h1 => ?_) (fun h1 => ?_)
  · refine lv_iconst (v := nI 0) hx hb d_Mo_literal_31 (by decide) ?_
    refine y_to (z0 (P := False) not_false) ?_
    exact y_zret hx hb hr hlocks hK (c, u, L, M, C, F, S, li) hP hD hS (⟨zb_iff ⟨False.elim, fun q => q.1 h1⟩, (iff_f (fun q => q.1 h1)).symm⟩) d_Mo_literal_32
  · refine lv_aload_n hx hb d_Mo_literal_7 rfl (lv_at hl 0 rfl) ?_
    refine va_get (D := D) (ci := 3) (v := .ref (b 3)) (C := R_Mo) (T := F_Mo) (N := 13) hx hb hT i_Mo hown hK hP 0 rfl rfl 3 (by decide) (hT _ tw_k183) (fun _ h9 => h9) rfl d_Mo_literal_8 ?_
    refine lv_aload_n hx hb d_Mo_literal_11 rfl (lv_at hl 0 rfl) ?_
    refine va_get (D := D) (ci := 3) (v := .int (nI c)) (C := R_Mo) (T := F_Mo) (N := 13) hx hb hT i_Mo hown hK hP 0 rfl rfl 0 (by decide) (hT _ tw_k180) (fun _ h9 => h9) rfl d_Mo_literal_12 ?_
    refine lv_iconst (v := nI 1) hx hb d_Mo_literal_15 (by decide) ?_
    refine y_isub hx hb (by omega) d_Mo_literal_16 ?_
    refine y_iald hx hb hK hP 3 0 rfl rfl (by omega) (by decide) d_Mo_literal_17 ?_
    refine y_if_gt (tgt := 31) hx hb (by have := hC (c - 1); omega) d_Mo_literal_18 (by decide) (fun h2 => ?_) (fun h2 => ?_)
    · refine lv_iconst (v := nI 0) hx hb d_Mo_literal_31 (by decide) ?_
      refine y_to (z0 (P := False) not_false) ?_
      exact y_zret hx hb hr hlocks hK (c, u, L, M, C, F, S, li) hP hD hS (⟨zb_iff ⟨False.elim, fun q => absurd q.2.1 (by omega)⟩, (iff_f (fun q => absurd q.2.1 (by omega))).symm⟩) d_Mo_literal_32
    · refine lv_aload_n hx hb d_Mo_literal_21 rfl (lv_at hl 0 rfl) ?_
      refine va_get (D := D) (ci := 3) (v := .int (nI u)) (C := R_Mo) (T := F_Mo) (N := 13) hx hb hT i_Mo hown hK hP 0 rfl rfl 7 (by decide) (hT _ tw_k187) (fun _ h9 => h9) rfl d_Mo_literal_22 ?_
      refine lv_sipush (v := nI 255) hx hb d_Mo_literal_25 (by decide) ?_
      refine y_icmp_ne (tgt := 33) hx hb (by omega) (by omega) d_Mo_literal_28 (by decide) (fun h3 => ?_) (fun h3 => ?_)
      · have hok : okT c u C := ⟨h1, h2, h3⟩
        refine lv_aload_n hx hb d_Mo_literal_33 rfl (lv_at hl 0 rfl) ?_
        refine va_get (D := D) (ci := 3) (v := .ref (b 6)) (C := R_Mo) (T := F_Mo) (N := 13) hx hb hT i_Mo hown hK hP 0 rfl rfl 6 (by decide) (hT _ tw_k186) (fun _ h9 => h9) rfl d_Mo_literal_34 ?_
        refine lv_aload_n hx hb d_Mo_literal_37 rfl (lv_at hl 0 rfl) ?_
        refine va_get (D := D) (ci := 3) (v := .int (nI u)) (C := R_Mo) (T := F_Mo) (N := 13) hx hb hT i_Mo hown hK hP 0 rfl rfl 7 (by decide) (hT _ tw_k187) (fun _ h9 => h9) rfl d_Mo_literal_38 ?_
        refine lv_iload_n hx hb d_Mo_literal_41 rfl (lv_at hl 1 rfl) ?_
        refine lv_i2b (v := x.toInt8.toInt32) hx hb d_Mo_literal_42 rfl ?_
        refine y_bast hx hb hK hP hD hS 6 1 rfl rfl (by omega) (by decide) d_Mo_literal_43 (fun H locs hP hD hS => ?_)
        have hP : va_P D classes (wM cI cB cZ b c u z L M C S F (va_up li u x.toInt8) tx gd nx tm) H := hP
        have hD : va_D A (wM cI cB cZ b c u z L M C S F (va_up li u x.toInt8) tx gd nx tm) := hD
        refine lv_aload_n hx hb d_Mo_literal_44 rfl (lv_at hl 0 rfl) ?_
        refine lv_dup hx hb d_Mo_literal_45 rfl ?_
        refine va_get (D := D) (ci := 3) (v := .int (nI u)) (C := R_Mo) (T := F_Mo) (N := 13) hx hb hT i_Mo hown hK hP 0 rfl rfl 7 (by decide) (hT _ tw_k187) (fun _ h9 => h9) rfl d_Mo_literal_46 ?_
        refine lv_iconst (v := nI 1) hx hb d_Mo_literal_49 (by decide) ?_
        refine y_iadd hx hb d_Mo_literal_50 ?_
        refine va_put (D := D) (ci := 3) (v := .int (nI (u + 1))) (ty := .int) (C := R_Mo) (T := F_Mo) (N := 13) hx hb hT i_Mo t_Mo t_Mo_ok n_Mo hown hK hP hD hS 0 rfl rfl 7 (by decide) (hT _ tw_k187) (fun _ h9 => h9) rfl (by decide +kernel) rfl rfl (Nat.le_of_ble_eq_true rfl) d_Mo_literal_51 (fun H locs hP hD hS => ?_)
        have hP : va_P D classes (wM cI cB cZ b c (u + 1) z L M C S F (va_up li u x.toInt8) tx gd nx tm) H := hP
        have hD : va_D A (wM cI cB cZ b c (u + 1) z L M C S F (va_up li u x.toInt8) tx gd nx tm) := hD
        refine lv_aload_n hx hb d_Mo_literal_54 rfl (lv_at hl 0 rfl) ?_
        refine va_get (D := D) (ci := 3) (v := .ref (b 4)) (C := R_Mo) (T := F_Mo) (N := 13) hx hb hT i_Mo hown hK hP 0 rfl rfl 4 (by decide) (hT _ tw_k184) (fun _ h9 => h9) rfl d_Mo_literal_55 ?_
        refine lv_aload_n hx hb d_Mo_literal_58 rfl (lv_at hl 0 rfl) ?_
        refine va_get (D := D) (ci := 3) (v := .int (nI c)) (C := R_Mo) (T := F_Mo) (N := 13) hx hb hT i_Mo hown hK hP 0 rfl rfl 0 (by decide) (hT _ tw_k180) (fun _ h9 => h9) rfl d_Mo_literal_59 ?_
        refine lv_iconst (v := nI 1) hx hb d_Mo_literal_62 (by decide) ?_
        refine y_isub hx hb (by omega) d_Mo_literal_63 ?_
        refine lv_dup2_11 hx hb d_Mo_literal_64 rfl rfl ?_
        refine y_iald hx hb hK hP 4 0 rfl rfl (by omega) (by decide) d_Mo_literal_65 ?_
        refine lv_iconst (v := nI 1) hx hb d_Mo_literal_66 (by decide) ?_
        refine y_iadd hx hb d_Mo_literal_67 ?_
        refine y_iast hx hb hK hP hD hS 4 0 rfl rfl (by omega) (by decide) d_Mo_literal_68 (fun H locs hP hD hS => ?_)
        have hP : va_P D classes (wM cI cB cZ b c (u + 1) z L M C (va_up S (c - 1) ((S (c - 1)) + 1)) F (va_up li u x.toInt8) tx gd nx tm) H := hP
        have hD : va_D A (wM cI cB cZ b c (u + 1) z L M C (va_up S (c - 1) ((S (c - 1)) + 1)) F (va_up li u x.toInt8) tx gd nx tm) := hD
        refine lv_iconst (v := nI 1) hx hb d_Mo_literal_69 (by decide) ?_
        refine y_to (z1 (P := True) trivial) ?_
        exact y_zret hx hb hr hlocks hK (c, u + 1, L, M, C, F, va_up S (c - 1) (S (c - 1) + 1), va_up li u x.toInt8) hP hD hS (⟨zb_iff ⟨fun _ => hok, fun _ => trivial⟩, (iff_t hok).symm⟩) d_Mo_literal_70
      · refine lv_iconst (v := nI 0) hx hb d_Mo_literal_31 (by decide) ?_
        refine y_to (z0 (P := False) not_false) ?_
        exact y_zret hx hb hr hlocks hK (c, u, L, M, C, F, S, li) hP hD hS (⟨zb_iff ⟨False.elim, fun q => q.2.2 h3⟩, (iff_f (fun q => q.2.2 h3)).symm⟩) d_Mo_literal_32

set_option maxHeartbeats 4000000 in
set_option maxRecDepth 100000 in
/-- PatternSieve.begin -/
theorem c_Sv_begin (l : Launch) (D : va_G) (cI cB cZ : ClassId) (a : Nat → Nat) (c u : Nat) (L M C F S : Nat → Nat) (li : Nat → Int8) (no th ro : Nat → Prop) (z : Nat) (tx : Nat → Int8) (sz : Nat) : Met l y_Sv_begin cw_Sv_begin ({ frames := 0, cells := 0, slots := 0, locals := 0 }) (va_Pc [.ref (a 12)] (Bp D cI cB cZ (wS cI cB cZ a c u L M C F S li no th ro z tx) sz)) (va_Qv (S := Unit) (fun _ => True) (fun v_ => Bq D cI cB cZ (va_A (wS cI cB cZ a c u L M C F S li no th ro z tx) sz) ((wS cI cB cZ a c u L M C F S li no th ro 0 tx))) (va_A (wS cI cB cZ a c u L M C F S li no th ro z tx) sz)) 0 0 (va_A (wS cI cB cZ a c u L M C F S li no th ro z tx) sz) := by
  refine Met.ofW (cc := b_Sv_begin) (maxL := 1) (ret := none) (by decide) rfl ?_
  intro p e s m args below meth c1 s₁ B hml hv
  obtain ⟨rfl, hsz, hP, hK, hD0, hN⟩ := hv
  subst hsz
  have hx := B.exec
  have hb := B.bytes
  have hr := B.returns
  have hT : ∀ w ∈ tw_, w.before _ s = true := fun w h => atoms_spec (ws := cw_Sv_begin) B.pre w (List.mem_cons_of_mem _ h)
  have hown : s.vm.findClass R_Sv = some m.cls := findClass_of_methodNamed B.named
  have hlocks := B.notSynchronized
  have hD := hD0.self (sz := s.heap.size)
  generalize hAe : va_A (wS cI cB cZ a c u L M C F S li no th ro z tx) s.heap.size = A at hD ⊢
  have hA : ∀ q : Nat, s.heap.size ≤ q → A q := fun q h => by rw [← hAe]; exact Or.inr h
  have hS : va_S A s.heap s.heap [] := va_S.rf
  have hl := lv_entry ([.ref (a 12)]) (n := 1) (Nat.le_of_ble_eq_true rfl)
  rw [lg_entry_eq]
  generalize (lg_sl ([.ref (a 12)]) ++ List.replicate (1 - (lg_sl ([.ref (a 12)])).length) Slot.unset).toArray = ls at hl ⊢
  have hl : lv_has ls 1 [(0, .ref (a 12))] := hl
  refine lv_aload_n hx hb d_Sv_begin_0 rfl (lv_at hl 0 rfl) ?_
  refine va_get (D := D) (ci := 0) (v := .ref (a 10)) (C := R_Sv) (T := F_Sv) (N := 2) hx hb hT i_Sv hown hK hP 0 rfl rfl 0 (by decide) (hT _ tw_k83) (fun _ h9 => h9) rfl d_Sv_begin_1 ?_
  refine lv_iconst (v := nI 0) hx hb d_Sv_begin_4 (by decide) ?_
  refine va_putN (D := D) (ci := 2) (v := .int (nI 0)) (ty := .int) (C := R_Pi) (T := F_Pi) (N := 2) hx hb hT i_Pi t_Pi t_Pi_ok n_Pi hown hK hP hD hS 11 rfl rfl 1 (by decide) (Nst.k29 hN) (fun _ h9 => h9) rfl (by decide +kernel) rfl rfl (Nat.le_of_ble_eq_true rfl) d_Sv_begin_5 (fun H locs hP hD hS => ?_)
  have hP : va_P D classes (wS cI cB cZ a c u L M C F S li no th ro 0 tx) H := hP
  have hD : va_D A (wS cI cB cZ a c u L M C F S li no th ro 0 tx) := hD
  exact y_vret hx hb hr hlocks hK () hP hD hS trivial d_Sv_begin_8

set_option maxHeartbeats 4000000 in
set_option maxRecDepth 100000 in
/-- PatternSieveModel.begin -/
theorem c_Mo_begin (l : Launch) (D : va_G) (cI cB cZ : ClassId) (b : Nat → Nat) (c u z : Nat) (L M C S F : Nat → Nat) (li tx : Nat → Int8) (gd nx : Nat → Prop) (tm : Nat → Nat) (sz : Nat) : Met l y_Mo_begin cw_Mo_begin ({ frames := 0, cells := 0, slots := 0, locals := 0 }) (va_Pc [.ref (b 0)] (Bp D cI cB cZ (wM cI cB cZ b c u z L M C S F li tx gd nx tm) sz)) (va_Qv (S := Unit) (fun _ => True) (fun v_ => Bq D cI cB cZ (va_A (wM cI cB cZ b c u z L M C S F li tx gd nx tm) sz) ((wM cI cB cZ b c u 0 L M C S F li tx gd nx tm))) (va_A (wM cI cB cZ b c u z L M C S F li tx gd nx tm) sz)) 0 0 (va_A (wM cI cB cZ b c u z L M C S F li tx gd nx tm) sz) := by
  refine Met.ofW (cc := b_Mo_begin) (maxL := 1) (ret := none) (by decide) rfl ?_
  intro p e s m args below meth c1 s₁ B hml hv
  obtain ⟨rfl, hsz, hP, hK, hD0, hN⟩ := hv
  subst hsz
  have hx := B.exec
  have hb := B.bytes
  have hr := B.returns
  have hT : ∀ w ∈ tw_, w.before _ s = true := fun w h => atoms_spec (ws := cw_Mo_begin) B.pre w (List.mem_cons_of_mem _ h)
  have hown : s.vm.findClass R_Mo = some m.cls := findClass_of_methodNamed B.named
  have hlocks := B.notSynchronized
  have hD := hD0.self (sz := s.heap.size)
  generalize hAe : va_A (wM cI cB cZ b c u z L M C S F li tx gd nx tm) s.heap.size = A at hD ⊢
  have hA : ∀ q : Nat, s.heap.size ≤ q → A q := fun q h => by rw [← hAe]; exact Or.inr h
  have hS : va_S A s.heap s.heap [] := va_S.rf
  have hl := lv_entry ([.ref (b 0)]) (n := 1) (Nat.le_of_ble_eq_true rfl)
  rw [lg_entry_eq]
  generalize (lg_sl ([.ref (b 0)]) ++ List.replicate (1 - (lg_sl ([.ref (b 0)])).length) Slot.unset).toArray = ls at hl ⊢
  have hl : lv_has ls 1 [(0, .ref (b 0))] := hl
  refine lv_aload_n hx hb d_Mo_begin_0 rfl (lv_at hl 0 rfl) ?_
  refine lv_iconst (v := nI 0) hx hb d_Mo_begin_1 (by decide) ?_
  refine va_put (D := D) (ci := 3) (v := .int (nI 0)) (ty := .int) (C := R_Mo) (T := F_Mo) (N := 13) hx hb hT i_Mo t_Mo t_Mo_ok n_Mo hown hK hP hD hS 0 rfl rfl 9 (by decide) (hT _ tw_k189) (fun _ h9 => h9) rfl (by decide +kernel) rfl rfl (Nat.le_of_ble_eq_true rfl) d_Mo_begin_2 (fun H locs hP hD hS => ?_)
  have hP : va_P D classes (wM cI cB cZ b c u 0 L M C S F li tx gd nx tm) H := hP
  have hD : va_D A (wM cI cB cZ b c u 0 L M C S F li tx gd nx tm) := hD
  exact y_vret hx hb hr hlocks hK () hP hD hS trivial d_Mo_begin_5

set_option maxHeartbeats 4000000 in
set_option maxRecDepth 100000 in
/-- PatternSieve.add -/
theorem c_Sv_add (l : Launch) (D : va_G) (cI cB cZ : ClassId) (a : Nat → Nat) (c u : Nat) (L M C F S : Nat → Nat) (li : Nat → Int8) (no th ro : Nat → Prop) (z : Nat) (tx : Nat → Int8) (x : Int32) (hz : z ≤ 255) (sz : Nat) : Met l y_Sv_add cw_Sv_add ({ frames := 0, cells := 0, slots := 0, locals := 0 }) (va_Pc [.ref (a 12), .int x] (Bp D cI cB cZ (wS cI cB cZ a c u L M C F S li no th ro z tx) sz)) (va_Qi (S := TS) (fun r v_ => r = zb (z ≠ 255) ∧ v_ = stA z tx x) (fun v_ => Bq D cI cB cZ (va_A (wS cI cB cZ a c u L M C F S li no th ro z tx) sz) ((wS cI cB cZ a c u L M C F S li no th ro v_.1 v_.2))) (va_A (wS cI cB cZ a c u L M C F S li no th ro z tx) sz)) 0 0 (va_A (wS cI cB cZ a c u L M C F S li no th ro z tx) sz) := by
  refine Met.ofW (cc := b_Sv_add) (maxL := 2) (ret := (some FieldType.boolean)) (by decide) rfl ?_
  intro p e s m args below meth c1 s₁ B hml hv
  obtain ⟨rfl, hsz, hP, hK, hD0, hN⟩ := hv
  subst hsz
  have hx := B.exec
  have hb := B.bytes
  have hr := B.returns
  have hT : ∀ w ∈ tw_, w.before _ s = true := fun w h => atoms_spec (ws := cw_Sv_add) B.pre w (List.mem_cons_of_mem _ h)
  have hown : s.vm.findClass R_Sv = some m.cls := findClass_of_methodNamed B.named
  have hlocks := B.notSynchronized
  have hD := hD0.self (sz := s.heap.size)
  generalize hAe : va_A (wS cI cB cZ a c u L M C F S li no th ro z tx) s.heap.size = A at hD ⊢
  have hA : ∀ q : Nat, s.heap.size ≤ q → A q := fun q h => by rw [← hAe]; exact Or.inr h
  have hS : va_S A s.heap s.heap [] := va_S.rf
  have hl := lv_entry ([.ref (a 12), .int x]) (n := 2) (Nat.le_of_ble_eq_true rfl)
  rw [lg_entry_eq]
  generalize (lg_sl ([.ref (a 12), .int x]) ++ List.replicate (2 - (lg_sl ([.ref (a 12), .int x])).length) Slot.unset).toArray = ls at hl ⊢
  have hl : lv_has ls 2 [(0, .ref (a 12)), (1, .int x)] := hl
  refine lv_aload_n hx hb d_Sv_add_0 rfl (lv_at hl 0 rfl) ?_
  refine va_get (D := D) (ci := 0) (v := .ref (a 10)) (C := R_Sv) (T := F_Sv) (N := 2) hx hb hT i_Sv hown hK hP 0 rfl rfl 0 (by decide) (hT _ tw_k83) (fun _ h9 => h9) rfl d_Sv_add_1 ?_
  refine va_getN (D := D) (ci := 2) (v := .int (nI z)) (C := R_Pi) (T := F_Pi) (N := 2) hx hb hT i_Pi hown hK hP 11 rfl rfl 1 (by decide) (Nst.k29 hN) (fun _ h9 => h9) rfl d_Sv_add_4 ?_
  refine lv_sipush (v := nI 255) hx hb d_Sv_add_7 (by decide) ?_
  refine y_icmp_ne (tgt := 15) hx hb (by omega) (by omega) d_Sv_add_10 (by decide) (fun h1 => ?_) (fun h1 => ?_)
  · refine lv_aload_n hx hb d_Sv_add_15 rfl (lv_at hl 0 rfl) ?_
    refine va_get (D := D) (ci := 0) (v := .ref (a 10)) (C := R_Sv) (T := F_Sv) (N := 2) hx hb hT i_Sv hown hK hP 0 rfl rfl 0 (by decide) (hT _ tw_k83) (fun _ h9 => h9) rfl d_Sv_add_16 ?_
    refine va_getN (D := D) (ci := 2) (v := .ref (a 11)) (C := R_Pi) (T := F_Pi) (N := 2) hx hb hT i_Pi hown hK hP 11 rfl rfl 0 (by decide) (Nst.k27 hN) (fun _ h9 => h9) rfl d_Sv_add_19 ?_
    refine lv_aload_n hx hb d_Sv_add_22 rfl (lv_at hl 0 rfl) ?_
    refine va_get (D := D) (ci := 0) (v := .ref (a 10)) (C := R_Sv) (T := F_Sv) (N := 2) hx hb hT i_Sv hown hK hP 0 rfl rfl 0 (by decide) (hT _ tw_k83) (fun _ h9 => h9) rfl d_Sv_add_23 ?_
    refine va_getN (D := D) (ci := 2) (v := .int (nI z)) (C := R_Pi) (T := F_Pi) (N := 2) hx hb hT i_Pi hown hK hP 11 rfl rfl 1 (by decide) (Nst.k29 hN) (fun _ h9 => h9) rfl d_Sv_add_26 ?_
    refine lv_iload_n hx hb d_Sv_add_29 rfl (lv_at hl 1 rfl) ?_
    refine lv_i2b (v := x.toInt8.toInt32) hx hb d_Sv_add_30 rfl ?_
    refine y_bast hx hb hK hP hD hS 12 1 rfl rfl (by omega) (by decide) d_Sv_add_31 (fun H locs hP hD hS => ?_)
    have hP : va_P D classes (wS cI cB cZ a c u L M C F S li no th ro z (va_up tx z x.toInt8)) H := hP
    have hD : va_D A (wS cI cB cZ a c u L M C F S li no th ro z (va_up tx z x.toInt8)) := hD
    refine lv_aload_n hx hb d_Sv_add_32 rfl (lv_at hl 0 rfl) ?_
    refine va_get (D := D) (ci := 0) (v := .ref (a 10)) (C := R_Sv) (T := F_Sv) (N := 2) hx hb hT i_Sv hown hK hP 0 rfl rfl 0 (by decide) (hT _ tw_k83) (fun _ h9 => h9) rfl d_Sv_add_33 ?_
    refine lv_dup hx hb d_Sv_add_36 rfl ?_
    refine va_getN (D := D) (ci := 2) (v := .int (nI z)) (C := R_Pi) (T := F_Pi) (N := 2) hx hb hT i_Pi hown hK hP 11 rfl rfl 1 (by decide) (Nst.k29 hN) (fun _ h9 => h9) rfl d_Sv_add_37 ?_
    refine lv_iconst (v := nI 1) hx hb d_Sv_add_40 (by decide) ?_
    refine y_iadd hx hb d_Sv_add_41 ?_
    refine va_putN (D := D) (ci := 2) (v := .int (nI (z + 1))) (ty := .int) (C := R_Pi) (T := F_Pi) (N := 2) hx hb hT i_Pi t_Pi t_Pi_ok n_Pi hown hK hP hD hS 11 rfl rfl 1 (by decide) (Nst.k29 hN) (fun _ h9 => h9) rfl (by decide +kernel) rfl rfl (Nat.le_of_ble_eq_true rfl) d_Sv_add_42 (fun H locs hP hD hS => ?_)
    have hP : va_P D classes (wS cI cB cZ a c u L M C F S li no th ro (z + 1) (va_up tx z x.toInt8)) H := hP
    have hD : va_D A (wS cI cB cZ a c u L M C F S li no th ro (z + 1) (va_up tx z x.toInt8)) := hD
    refine lv_iconst (v := nI 1) hx hb d_Sv_add_45 (by decide) ?_
    refine y_to (z1 (P := True) trivial) ?_
    exact y_zret hx hb hr hlocks hK (z + 1, va_up tx z x.toInt8) hP hD hS (⟨zb_iff ⟨fun _ => h1, fun _ => trivial⟩, (iff_t h1).symm⟩) d_Sv_add_46
  · refine lv_iconst (v := nI 0) hx hb d_Sv_add_13 (by decide) ?_
    refine y_to (z0 (P := False) not_false) ?_
    exact y_zret hx hb hr hlocks hK (z, tx) hP hD hS (⟨zb_iff ⟨False.elim, fun q => q h1⟩, (iff_f (fun q => q h1)).symm⟩) d_Sv_add_14

set_option maxHeartbeats 4000000 in
set_option maxRecDepth 100000 in
/-- PatternSieveModel.add -/
theorem c_Mo_add (l : Launch) (D : va_G) (cI cB cZ : ClassId) (b : Nat → Nat) (c u z : Nat) (L M C S F : Nat → Nat) (li tx : Nat → Int8) (gd nx : Nat → Prop) (tm : Nat → Nat) (x : Int32) (hz : z ≤ 255) (sz : Nat) : Met l y_Mo_add cw_Mo_add ({ frames := 0, cells := 0, slots := 0, locals := 0 }) (va_Pc [.ref (b 0), .int x] (Bp D cI cB cZ (wM cI cB cZ b c u z L M C S F li tx gd nx tm) sz)) (va_Qi (S := TS) (fun r v_ => r = zb (z ≠ 255) ∧ v_ = stA z tx x) (fun v_ => Bq D cI cB cZ (va_A (wM cI cB cZ b c u z L M C S F li tx gd nx tm) sz) ((wM cI cB cZ b c u v_.1 L M C S F li v_.2 gd nx tm))) (va_A (wM cI cB cZ b c u z L M C S F li tx gd nx tm) sz)) 0 0 (va_A (wM cI cB cZ b c u z L M C S F li tx gd nx tm) sz) := by
  refine Met.ofW (cc := b_Mo_add) (maxL := 2) (ret := (some FieldType.boolean)) (by decide) rfl ?_
  intro p e s m args below meth c1 s₁ B hml hv
  obtain ⟨rfl, hsz, hP, hK, hD0, hN⟩ := hv
  subst hsz
  have hx := B.exec
  have hb := B.bytes
  have hr := B.returns
  have hT : ∀ w ∈ tw_, w.before _ s = true := fun w h => atoms_spec (ws := cw_Mo_add) B.pre w (List.mem_cons_of_mem _ h)
  have hown : s.vm.findClass R_Mo = some m.cls := findClass_of_methodNamed B.named
  have hlocks := B.notSynchronized
  have hD := hD0.self (sz := s.heap.size)
  generalize hAe : va_A (wM cI cB cZ b c u z L M C S F li tx gd nx tm) s.heap.size = A at hD ⊢
  have hA : ∀ q : Nat, s.heap.size ≤ q → A q := fun q h => by rw [← hAe]; exact Or.inr h
  have hS : va_S A s.heap s.heap [] := va_S.rf
  have hl := lv_entry ([.ref (b 0), .int x]) (n := 2) (Nat.le_of_ble_eq_true rfl)
  rw [lg_entry_eq]
  generalize (lg_sl ([.ref (b 0), .int x]) ++ List.replicate (2 - (lg_sl ([.ref (b 0), .int x])).length) Slot.unset).toArray = ls at hl ⊢
  have hl : lv_has ls 2 [(0, .ref (b 0)), (1, .int x)] := hl
  refine lv_aload_n hx hb d_Mo_add_0 rfl (lv_at hl 0 rfl) ?_
  refine va_get (D := D) (ci := 3) (v := .int (nI z)) (C := R_Mo) (T := F_Mo) (N := 13) hx hb hT i_Mo hown hK hP 0 rfl rfl 9 (by decide) (hT _ tw_k189) (fun _ h9 => h9) rfl d_Mo_add_1 ?_
  refine lv_sipush (v := nI 255) hx hb d_Mo_add_4 (by decide) ?_
  refine y_icmp_ne (tgt := 12) hx hb (by omega) (by omega) d_Mo_add_7 (by decide) (fun h1 => ?_) (fun h1 => ?_)
  · refine lv_aload_n hx hb d_Mo_add_12 rfl (lv_at hl 0 rfl) ?_
    refine va_get (D := D) (ci := 3) (v := .ref (b 7)) (C := R_Mo) (T := F_Mo) (N := 13) hx hb hT i_Mo hown hK hP 0 rfl rfl 8 (by decide) (hT _ tw_k188) (fun _ h9 => h9) rfl d_Mo_add_13 ?_
    refine lv_aload_n hx hb d_Mo_add_16 rfl (lv_at hl 0 rfl) ?_
    refine va_get (D := D) (ci := 3) (v := .int (nI z)) (C := R_Mo) (T := F_Mo) (N := 13) hx hb hT i_Mo hown hK hP 0 rfl rfl 9 (by decide) (hT _ tw_k189) (fun _ h9 => h9) rfl d_Mo_add_17 ?_
    refine lv_iload_n hx hb d_Mo_add_20 rfl (lv_at hl 1 rfl) ?_
    refine lv_i2b (v := x.toInt8.toInt32) hx hb d_Mo_add_21 rfl ?_
    refine y_bast hx hb hK hP hD hS 7 1 rfl rfl (by omega) (by decide) d_Mo_add_22 (fun H locs hP hD hS => ?_)
    have hP : va_P D classes (wM cI cB cZ b c u z L M C S F li (va_up tx z x.toInt8) gd nx tm) H := hP
    have hD : va_D A (wM cI cB cZ b c u z L M C S F li (va_up tx z x.toInt8) gd nx tm) := hD
    refine lv_aload_n hx hb d_Mo_add_23 rfl (lv_at hl 0 rfl) ?_
    refine lv_dup hx hb d_Mo_add_24 rfl ?_
    refine va_get (D := D) (ci := 3) (v := .int (nI z)) (C := R_Mo) (T := F_Mo) (N := 13) hx hb hT i_Mo hown hK hP 0 rfl rfl 9 (by decide) (hT _ tw_k189) (fun _ h9 => h9) rfl d_Mo_add_25 ?_
    refine lv_iconst (v := nI 1) hx hb d_Mo_add_28 (by decide) ?_
    refine y_iadd hx hb d_Mo_add_29 ?_
    refine va_put (D := D) (ci := 3) (v := .int (nI (z + 1))) (ty := .int) (C := R_Mo) (T := F_Mo) (N := 13) hx hb hT i_Mo t_Mo t_Mo_ok n_Mo hown hK hP hD hS 0 rfl rfl 9 (by decide) (hT _ tw_k189) (fun _ h9 => h9) rfl (by decide +kernel) rfl rfl (Nat.le_of_ble_eq_true rfl) d_Mo_add_30 (fun H locs hP hD hS => ?_)
    have hP : va_P D classes (wM cI cB cZ b c u (z + 1) L M C S F li (va_up tx z x.toInt8) gd nx tm) H := hP
    have hD : va_D A (wM cI cB cZ b c u (z + 1) L M C S F li (va_up tx z x.toInt8) gd nx tm) := hD
    refine lv_iconst (v := nI 1) hx hb d_Mo_add_33 (by decide) ?_
    refine y_to (z1 (P := True) trivial) ?_
    exact y_zret hx hb hr hlocks hK (z + 1, va_up tx z x.toInt8) hP hD hS (⟨zb_iff ⟨fun _ => h1, fun _ => trivial⟩, (iff_t h1).symm⟩) d_Mo_add_34
  · refine lv_iconst (v := nI 0) hx hb d_Mo_add_10 (by decide) ?_
    refine y_to (z0 (P := False) not_false) ?_
    exact y_zret hx hb hr hlocks hK (z, tx) hP hD hS (⟨zb_iff ⟨False.elim, fun q => q h1⟩, (iff_f (fun q => q h1)).symm⟩) d_Mo_add_11

set_option maxHeartbeats 4000000 in
set_option maxRecDepth 100000 in
/-- PatternSieve.count -/
theorem c_Sv_count (l : Launch) (D : va_G) (cI cB cZ : ClassId) (a : Nat → Nat) (c u : Nat) (L M C F S : Nat → Nat) (li : Nat → Int8) (no th ro : Nat → Prop) (z : Nat) (tx : Nat → Int8) (x : Int32) (sz : Nat) : Met l y_Sv_count cw_Sv_count ({ frames := 0, cells := 0, slots := 0, locals := 0 }) (va_Pc [.ref (a 12), .int x] (Bp D cI cB cZ (wS cI cB cZ a c u L M C F S li no th ro z tx) sz)) (va_Qi (S := Unit) (fun r _ => r = cntV c z x) (fun v_ => Bq D cI cB cZ (va_A (wS cI cB cZ a c u L M C F S li no th ro z tx) sz) ((wS cI cB cZ a c u L M C F S li no th ro z tx))) (va_A (wS cI cB cZ a c u L M C F S li no th ro z tx) sz)) 0 0 (va_A (wS cI cB cZ a c u L M C F S li no th ro z tx) sz) := by
  refine Met.ofW (cc := b_Sv_count) (maxL := 2) (ret := (some FieldType.int)) (by decide) rfl ?_
  intro p e s m args below meth c1 s₁ B hml hv
  obtain ⟨rfl, hsz, hP, hK, hD0, hN⟩ := hv
  subst hsz
  have hx := B.exec
  have hb := B.bytes
  have hr := B.returns
  have hT : ∀ w ∈ tw_, w.before _ s = true := fun w h => atoms_spec (ws := cw_Sv_count) B.pre w (List.mem_cons_of_mem _ h)
  have hown : s.vm.findClass R_Sv = some m.cls := findClass_of_methodNamed B.named
  have hlocks := B.notSynchronized
  have hD := hD0.self (sz := s.heap.size)
  generalize hAe : va_A (wS cI cB cZ a c u L M C F S li no th ro z tx) s.heap.size = A at hD ⊢
  have hA : ∀ q : Nat, s.heap.size ≤ q → A q := fun q h => by rw [← hAe]; exact Or.inr h
  have hS : va_S A s.heap s.heap [] := va_S.rf
  have hl := lv_entry ([.ref (a 12), .int x]) (n := 2) (Nat.le_of_ble_eq_true rfl)
  rw [lg_entry_eq]
  generalize (lg_sl ([.ref (a 12), .int x]) ++ List.replicate (2 - (lg_sl ([.ref (a 12), .int x])).length) Slot.unset).toArray = ls at hl ⊢
  have hl : lv_has ls 2 [(0, .ref (a 12)), (1, .int x)] := hl
  refine lv_iload_n hx hb d_Sv_count_0 rfl (lv_at hl 1 rfl) ?_
  refine lv_if_ne (tgt := 14) hx hb d_Sv_count_1 (by decide) (fun h1 => ?_) (fun h1 => ?_)
  · refine lv_iload_n hx hb d_Sv_count_14 rfl (lv_at hl 1 rfl) ?_
    refine lv_iconst (v := nI 1) hx hb d_Sv_count_15 (by decide) ?_
    refine lv_icmp_ne (tgt := 29) hx hb d_Sv_count_16 (by decide) (fun h2 => ?_) (fun h2 => ?_)
    · refine lv_iconst (v := -1) hx hb d_Sv_count_29 (by decide) ?_
      exact y_iret hx hb hr hlocks hK () hP hD hS (by unfold cntV; rw [iff_f h1, iff_f h2]) d_Sv_count_30
    · refine lv_aload_n hx hb d_Sv_count_19 rfl (lv_at hl 0 rfl) ?_
      refine va_get (D := D) (ci := 0) (v := .ref (a 10)) (C := R_Sv) (T := F_Sv) (N := 2) hx hb hT i_Sv hown hK hP 0 rfl rfl 0 (by decide) (hT _ tw_k83) (fun _ h9 => h9) rfl d_Sv_count_20 ?_
      refine va_getN (D := D) (ci := 2) (v := .int (nI z)) (C := R_Pi) (T := F_Pi) (N := 2) hx hb hT i_Pi hown hK hP 11 rfl rfl 1 (by decide) (Nst.k29 hN) (fun _ h9 => h9) rfl d_Sv_count_23 ?_
      refine lv_goto (tgt := 30) hx hb d_Sv_count_26 (by decide) ?_
      exact y_iret hx hb hr hlocks hK () hP hD hS (by unfold cntV; rw [iff_f h1, iff_t h2]) d_Sv_count_30
  · refine lv_aload_n hx hb d_Sv_count_4 rfl (lv_at hl 0 rfl) ?_
    refine va_get (D := D) (ci := 0) (v := .ref (a 0)) (C := R_Sv) (T := F_Sv) (N := 2) hx hb hT i_Sv hown hK hP 0 rfl rfl 1 (by decide) (hT _ tw_k84) (fun _ h9 => h9) rfl d_Sv_count_5 ?_
    refine va_getN (D := D) (ci := 1) (v := .int (nI c)) (C := R_Pt) (T := F_Pt) (N := 11) hx hb hT i_Pt hown hK hP 1 rfl rfl 9 (by decide) (Nst.k55 hN) (fun _ h9 => h9) rfl d_Sv_count_8 ?_
    refine lv_goto (tgt := 30) hx hb d_Sv_count_11 (by decide) ?_
    exact y_iret hx hb hr hlocks hK () hP hD hS (by unfold cntV; rw [iff_t h1]) d_Sv_count_30

set_option maxHeartbeats 4000000 in
set_option maxRecDepth 100000 in
/-- PatternSieveModel.count -/
theorem c_Mo_count (l : Launch) (D : va_G) (cI cB cZ : ClassId) (b : Nat → Nat) (c u z : Nat) (L M C S F : Nat → Nat) (li tx : Nat → Int8) (gd nx : Nat → Prop) (tm : Nat → Nat) (x : Int32) (sz : Nat) : Met l y_Mo_count cw_Mo_count ({ frames := 0, cells := 0, slots := 0, locals := 0 }) (va_Pc [.ref (b 0), .int x] (Bp D cI cB cZ (wM cI cB cZ b c u z L M C S F li tx gd nx tm) sz)) (va_Qi (S := Unit) (fun r _ => r = cntV c z x) (fun v_ => Bq D cI cB cZ (va_A (wM cI cB cZ b c u z L M C S F li tx gd nx tm) sz) ((wM cI cB cZ b c u z L M C S F li tx gd nx tm))) (va_A (wM cI cB cZ b c u z L M C S F li tx gd nx tm) sz)) 0 0 (va_A (wM cI cB cZ b c u z L M C S F li tx gd nx tm) sz) := by
  refine Met.ofW (cc := b_Mo_count) (maxL := 2) (ret := (some FieldType.int)) (by decide) rfl ?_
  intro p e s m args below meth c1 s₁ B hml hv
  obtain ⟨rfl, hsz, hP, hK, hD0, hN⟩ := hv
  subst hsz
  have hx := B.exec
  have hb := B.bytes
  have hr := B.returns
  have hT : ∀ w ∈ tw_, w.before _ s = true := fun w h => atoms_spec (ws := cw_Mo_count) B.pre w (List.mem_cons_of_mem _ h)
  have hown : s.vm.findClass R_Mo = some m.cls := findClass_of_methodNamed B.named
  have hlocks := B.notSynchronized
  have hD := hD0.self (sz := s.heap.size)
  generalize hAe : va_A (wM cI cB cZ b c u z L M C S F li tx gd nx tm) s.heap.size = A at hD ⊢
  have hA : ∀ q : Nat, s.heap.size ≤ q → A q := fun q h => by rw [← hAe]; exact Or.inr h
  have hS : va_S A s.heap s.heap [] := va_S.rf
  have hl := lv_entry ([.ref (b 0), .int x]) (n := 2) (Nat.le_of_ble_eq_true rfl)
  rw [lg_entry_eq]
  generalize (lg_sl ([.ref (b 0), .int x]) ++ List.replicate (2 - (lg_sl ([.ref (b 0), .int x])).length) Slot.unset).toArray = ls at hl ⊢
  have hl : lv_has ls 2 [(0, .ref (b 0)), (1, .int x)] := hl
  refine lv_iload_n hx hb d_Mo_count_0 rfl (lv_at hl 1 rfl) ?_
  refine lv_if_ne (tgt := 11) hx hb d_Mo_count_1 (by decide) (fun h1 => ?_) (fun h1 => ?_)
  · refine lv_iload_n hx hb d_Mo_count_11 rfl (lv_at hl 1 rfl) ?_
    refine lv_iconst (v := nI 1) hx hb d_Mo_count_12 (by decide) ?_
    refine lv_icmp_ne (tgt := 23) hx hb d_Mo_count_13 (by decide) (fun h2 => ?_) (fun h2 => ?_)
    · refine lv_iconst (v := -1) hx hb d_Mo_count_23 (by decide) ?_
      exact y_iret hx hb hr hlocks hK () hP hD hS (by unfold cntV; rw [iff_f h1, iff_f h2]) d_Mo_count_24
    · refine lv_aload_n hx hb d_Mo_count_16 rfl (lv_at hl 0 rfl) ?_
      refine va_get (D := D) (ci := 3) (v := .int (nI z)) (C := R_Mo) (T := F_Mo) (N := 13) hx hb hT i_Mo hown hK hP 0 rfl rfl 9 (by decide) (hT _ tw_k189) (fun _ h9 => h9) rfl d_Mo_count_17 ?_
      refine lv_goto (tgt := 24) hx hb d_Mo_count_20 (by decide) ?_
      exact y_iret hx hb hr hlocks hK () hP hD hS (by unfold cntV; rw [iff_f h1, iff_t h2]) d_Mo_count_24
  · refine lv_aload_n hx hb d_Mo_count_4 rfl (lv_at hl 0 rfl) ?_
    refine va_get (D := D) (ci := 3) (v := .int (nI c)) (C := R_Mo) (T := F_Mo) (N := 13) hx hb hT i_Mo hown hK hP 0 rfl rfl 0 (by decide) (hT _ tw_k180) (fun _ h9 => h9) rfl d_Mo_count_5 ?_
    refine lv_goto (tgt := 24) hx hb d_Mo_count_8 (by decide) ?_
    exact y_iret hx hb hr hlocks hK () hP hD hS (by unfold cntV; rw [iff_t h1]) d_Mo_count_24

set_option maxHeartbeats 4000000 in
set_option maxRecDepth 100000 in
/-- PatternSieve.fits -/
theorem c_Sv_fits (l : Launch) (D : va_G) (cI cB cZ : ClassId) (a : Nat → Nat) (c u : Nat) (L M C F S : Nat → Nat) (li : Nat → Int8) (no th ro : Nat → Prop) (z : Nat) (tx : Nat → Int8) (hc : c ≤ 60) (hz : z ≤ 255) (hL : ∀ k, L k ≤ 255) (hM : ∀ k, M k ≤ 255) (hC : ∀ k, C k < 128) (hFS : ∀ k, k < c → F k + S k ≤ 255) (sz : Nat) : Met l y_Sv_fits cw_Sv_fits ({ frames := 5, cells := 0, slots := 0, locals := 119 }) (va_Pc [.ref (a 12)] (Bp D cI cB cZ (wS cI cB cZ a c u L M C F S li no th ro z tx) sz)) (va_Qi (S := (Nat → Prop) × (Nat → Prop) × (Nat → Prop)) (fun r _ => r = zb (Rc L M C F S li tx z c z)) (fun v_ => Bq D cI cB cZ (va_A (wS cI cB cZ a c u L M C F S li no th ro z tx) sz) ((wS cI cB cZ a c u L M C F S li v_.1 v_.2.1 v_.2.2 z tx))) (va_A (wS cI cB cZ a c u L M C F S li no th ro z tx) sz)) 0 0 (va_A (wS cI cB cZ a c u L M C F S li no th ro z tx) sz) := by
  refine Met.ofW (cc := b_Sv_fits) (maxL := 1) (ret := (some FieldType.boolean)) (by decide) rfl ?_
  intro p e s m args below meth c1 s₁ B hml hv
  obtain ⟨rfl, hsz, hP, hK, hD0, hN⟩ := hv
  subst hsz
  have hx := B.exec
  have hb := B.bytes
  have hr := B.returns
  have hT : ∀ w ∈ tw_, w.before _ s = true := fun w h => atoms_spec (ws := cw_Sv_fits) B.pre w (List.mem_cons_of_mem _ h)
  have hown : s.vm.findClass R_Sv = some m.cls := findClass_of_methodNamed B.named
  have hlocks := B.notSynchronized
  have hD := hD0.self (sz := s.heap.size)
  generalize hAe : va_A (wS cI cB cZ a c u L M C F S li no th ro z tx) s.heap.size = A at hD ⊢
  have hA : ∀ q : Nat, s.heap.size ≤ q → A q := fun q h => by rw [← hAe]; exact Or.inr h
  have hS : va_S A s.heap s.heap [] := va_S.rf
  have hl := lv_entry ([.ref (a 12)]) (n := 1) (Nat.le_of_ble_eq_true rfl)
  rw [lg_entry_eq]
  generalize (lg_sl ([.ref (a 12)]) ++ List.replicate (1 - (lg_sl ([.ref (a 12)])).length) Slot.unset).toArray = ls at hl ⊢
  have hl : lv_has ls 1 [(0, .ref (a 12))] := hl
  refine lv_aload_n hx hb d_Sv_fits_0 rfl (lv_at hl 0 rfl) ?_
  refine va_get (D := D) (ci := 0) (v := .ref (a 0)) (C := R_Sv) (T := F_Sv) (N := 2) hx hb hT i_Sv hown hK hP 0 rfl rfl 1 (by decide) (hT _ tw_k84) (fun _ h9 => h9) rfl d_Sv_fits_1 ?_
  refine lv_aload_n hx hb d_Sv_fits_4 rfl (lv_at hl 0 rfl) ?_
  refine va_get (D := D) (ci := 0) (v := .ref (a 10)) (C := R_Sv) (T := F_Sv) (N := 2) hx hb hT i_Sv hown hK hP 0 rfl rfl 0 (by decide) (hT _ tw_k83) (fun _ h9 => h9) rfl d_Sv_fits_5 ?_
  refine lv_iconst (v := nI 0) hx hb d_Sv_fits_8 (by decide) ?_
  refine y_i (w0 := (wC cI cB cZ a c u L M C F S li no th ro z tx)) (wr := [_]) hP hD hS hA [1, 2, 3, 4, 5, 6, 7, 8, 9, 10, 11, 12] [0] rfl rfl (by decide) (by decide) (y_runV (n := 2) (rm := { frames := 4, cells := 0, slots := 0, locals := 94 }) (w0 := (wC cI cB cZ a c u L M C F S li no th ro z tx)) (q0 := 1) (b := a 0) (As := [.ref (a 10), .int (nI 0)]) (rest := []) hx hb hml hown hT hN hK hP hD (c_Pt_fits l D cI cB cZ a c u L M C F S li no th ro z tx (nI 0) hc hz hL hM hC hFS _) ⟨tw_k143, tw_k9, tw_k140, by decide +kernel⟩ ⟨tw_k141, tw_k142⟩ [1, 2, 3, 4, 5, 6, 7, 8, 9, 10, 11, 12] rfl (by decide) rfl rfl ⟨Nat.le_of_ble_eq_true rfl, Nat.le_of_ble_eq_true rfl⟩ rfl hl.1 rfl (Nat.le_of_ble_eq_true rfl) d_Sv_fits_9 ⟨Nat.le_of_ble_eq_true rfl, Nat.le_of_ble_eq_true rfl⟩) (fun r v_ H locs hp hP hD hS => ?_)
  obtain ⟨no, th, ro⟩ := v_
  obtain ⟨rfl, hp⟩ := hp
  have hP : va_P D classes (wS cI cB cZ a c u L M C F S li no th ro z tx) H := hP
  have hD : va_D A (wS cI cB cZ a c u L M C F S li no th ro z tx) := hD
  refine y_to (show zb ((no, th, ro).1 z) = zb (no z) from rfl) ?_
  exact y_zret hx hb hr hlocks hK (no, th, ro) hP hD hS (zb_iff (hp z (Nat.le_refl z))) d_Sv_fits_12

set_option maxHeartbeats 4000000 in
set_option maxRecDepth 100000 in
/-- PatternSieve.prefix -/
theorem c_Sv_prefix (l : Launch) (D : va_G) (cI cB cZ : ClassId) (a : Nat → Nat) (c u : Nat) (L M C F S : Nat → Nat) (li : Nat → Int8) (no th ro : Nat → Prop) (z : Nat) (tx : Nat → Int8) (x : Int32) (hc : c ≤ 60) (hz : z ≤ 255) (hL : ∀ k, L k ≤ 255) (hM : ∀ k, M k ≤ 255) (hC : ∀ k, C k < 128) (hFS : ∀ k, k < c → F k + S k ≤ 255) (sz : Nat) : Met l y_Sv_prefix cw_Sv_prefix ({ frames := 5, cells := 0, slots := 0, locals := 119 }) (va_Pc [.ref (a 12), .int x] (Bp D cI cB cZ (wS cI cB cZ a c u L M C F S li no th ro z tx) sz)) (va_Qi (S := (Nat → Prop) × (Nat → Prop) × (Nat → Prop)) (fun r _ => r = zb (∃ n, n ≤ z ∧ x = nI n ∧ Rc L M C F S li tx z c n)) (fun v_ => Bq D cI cB cZ (va_A (wS cI cB cZ a c u L M C F S li no th ro z tx) sz) ((wS cI cB cZ a c u L M C F S li v_.1 v_.2.1 v_.2.2 z tx))) (va_A (wS cI cB cZ a c u L M C F S li no th ro z tx) sz)) 0 0 (va_A (wS cI cB cZ a c u L M C F S li no th ro z tx) sz) := by
  refine Met.ofW (cc := b_Sv_prefix) (maxL := 3) (ret := (some FieldType.boolean)) (by decide) rfl ?_
  intro p e s m args below meth c1 s₁ B hml hv
  obtain ⟨rfl, hsz, hP, hK, hD0, hN⟩ := hv
  subst hsz
  have hx := B.exec
  have hb := B.bytes
  have hr := B.returns
  have hT : ∀ w ∈ tw_, w.before _ s = true := fun w h => atoms_spec (ws := cw_Sv_prefix) B.pre w (List.mem_cons_of_mem _ h)
  have hown : s.vm.findClass R_Sv = some m.cls := findClass_of_methodNamed B.named
  have hlocks := B.notSynchronized
  have hD := hD0.self (sz := s.heap.size)
  generalize hAe : va_A (wS cI cB cZ a c u L M C F S li no th ro z tx) s.heap.size = A at hD ⊢
  have hA : ∀ q : Nat, s.heap.size ≤ q → A q := fun q h => by rw [← hAe]; exact Or.inr h
  have hS : va_S A s.heap s.heap [] := va_S.rf
  have hl := lv_entry ([.ref (a 12), .int x]) (n := 3) (Nat.le_of_ble_eq_true rfl)
  rw [lg_entry_eq]
  generalize (lg_sl ([.ref (a 12), .int x]) ++ List.replicate (3 - (lg_sl ([.ref (a 12), .int x])).length) Slot.unset).toArray = ls at hl ⊢
  have hl : lv_has ls 3 [(0, .ref (a 12)), (1, .int x)] := hl
  refine lv_iload_n hx hb d_Sv_prefix_0 rfl (lv_at hl 1 rfl) ?_
  refine lv_if_lt (tgt := 15) hx hb d_Sv_prefix_1 (by decide) (fun h1 => ?_) (fun h1 => ?_)
  · refine lv_iconst (v := nI 0) hx hb d_Sv_prefix_15 (by decide) ?_
    refine y_to (z0 (P := False) not_false) ?_
    exact y_zret hx hb hr hlocks hK (no, th, ro) hP hD hS (zb_iff ⟨False.elim, fun ⟨n, g1, g2, _⟩ => by
      subst g2
      exact nI_pos (by omega) h1⟩) d_Sv_prefix_16
  · refine lv_iload_n hx hb d_Sv_prefix_4 rfl (lv_at hl 1 rfl) ?_
    refine lv_aload_n hx hb d_Sv_prefix_5 rfl (lv_at hl 0 rfl) ?_
    refine va_get (D := D) (ci := 0) (v := .ref (a 10)) (C := R_Sv) (T := F_Sv) (N := 2) hx hb hT i_Sv hown hK hP 0 rfl rfl 0 (by decide) (hT _ tw_k83) (fun _ h9 => h9) rfl d_Sv_prefix_6 ?_
    refine va_getN (D := D) (ci := 2) (v := .int (nI z)) (C := R_Pi) (T := F_Pi) (N := 2) hx hb hT i_Pi hown hK hP 11 rfl rfl 1 (by decide) (Nst.k29 hN) (fun _ h9 => h9) rfl d_Sv_prefix_9 ?_
    refine lv_icmp_le (tgt := 17) hx hb d_Sv_prefix_12 (by decide) (fun h2 => ?_) (fun h2 => ?_)
    · obtain ⟨n, hn, rfl⟩ := nI_of2 (nI_toInt (by omega)) h1 h2
      refine lv_aload_n hx hb d_Sv_prefix_17 rfl (lv_at hl 0 rfl) ?_
      refine va_get (D := D) (ci := 0) (v := .ref (a 0)) (C := R_Sv) (T := F_Sv) (N := 2) hx hb hT i_Sv hown hK hP 0 rfl rfl 1 (by decide) (hT _ tw_k84) (fun _ h9 => h9) rfl d_Sv_prefix_18 ?_
      refine lv_aload_n hx hb d_Sv_prefix_21 rfl (lv_at hl 0 rfl) ?_
      refine va_get (D := D) (ci := 0) (v := .ref (a 10)) (C := R_Sv) (T := F_Sv) (N := 2) hx hb hT i_Sv hown hK hP 0 rfl rfl 0 (by decide) (hT _ tw_k83) (fun _ h9 => h9) rfl d_Sv_prefix_22 ?_
      refine lv_iconst (v := nI 0) hx hb d_Sv_prefix_25 (by decide) ?_
      refine y_i (w0 := (wC cI cB cZ a c u L M C F S li no th ro z tx)) (wr := [_]) hP hD hS hA [1, 2, 3, 4, 5, 6, 7, 8, 9, 10, 11, 12] [0] rfl rfl (by decide) (by decide) (y_runV (n := 2) (rm := { frames := 4, cells := 0, slots := 0, locals := 94 }) (w0 := (wC cI cB cZ a c u L M C F S li no th ro z tx)) (q0 := 1) (b := a 0) (As := [.ref (a 10), .int (nI 0)]) (rest := []) hx hb hml hown hT hN hK hP hD (c_Pt_fits l D cI cB cZ a c u L M C F S li no th ro z tx (nI 0) hc hz hL hM hC hFS _) ⟨tw_k143, tw_k9, tw_k140, by decide +kernel⟩ ⟨tw_k141, tw_k142⟩ [1, 2, 3, 4, 5, 6, 7, 8, 9, 10, 11, 12] rfl (by decide) rfl rfl ⟨Nat.le_of_ble_eq_true rfl, Nat.le_of_ble_eq_true rfl⟩ rfl hl.1 rfl (Nat.le_of_ble_eq_true rfl) d_Sv_prefix_26 ⟨Nat.le_of_ble_eq_true rfl, Nat.le_of_ble_eq_true rfl⟩) (fun r v_ H locs hp hP hD hS => ?_)
      obtain ⟨no, th, ro⟩ := v_
      obtain ⟨hr2, hp⟩ := hp
      have hP : va_P D classes (wS cI cB cZ a c u L M C F S li no th ro z tx) H := hP
      have hD : va_D A (wS cI cB cZ a c u L M C F S li no th ro z tx) := hD
      refine lv_istore_n (lv' := [(2, .int r), (0, .ref (a 12)), (1, .int (nI n))]) hx hb d_Sv_prefix_29 rfl hl (by decide) rfl (fun ls hl => ?_)
      refine lv_aload_n hx hb d_Sv_prefix_30 rfl (lv_at hl 1 rfl) ?_
      refine va_get (D := D) (ci := 0) (v := .ref (a 0)) (C := R_Sv) (T := F_Sv) (N := 2) hx hb hT i_Sv hown hK hP 0 rfl rfl 1 (by decide) (hT _ tw_k84) (fun _ h9 => h9) rfl d_Sv_prefix_31 ?_
      refine va_getN (D := D) (ci := 1) (v := .ref (a 7)) (C := R_Pt) (T := F_Pt) (N := 11) hx hb hT i_Pt hown hK hP 1 rfl rfl 6 (by decide) (Nst.k51 hN) (fun _ h9 => h9) rfl d_Sv_prefix_34 ?_
      refine lv_iload_n hx hb d_Sv_prefix_37 rfl (lv_at hl 2 rfl) ?_
      refine y_zald hx hb hK hP 8 2 rfl rfl (by omega) (by decide) d_Sv_prefix_38 ?_
      exact y_zret hx hb hr hlocks hK (no, th, ro) hP hD hS (zb_iff ((hp n hn).trans ⟨fun g => ⟨n, hn, rfl, g⟩, fun ⟨n2, g1, g2, g3⟩ => by
        rw [(nI_eq (by omega) (by omega)).mp g2]
        exact g3⟩)) d_Sv_prefix_39
    · refine lv_iconst (v := nI 0) hx hb d_Sv_prefix_15 (by decide) ?_
      refine y_to (z0 (P := False) not_false) ?_
      exact y_zret hx hb hr hlocks hK (no, th, ro) hP hD hS (zb_iff ⟨False.elim, fun ⟨n, g1, g2, _⟩ => by
        subst g2
        exact h2 ((nI_leI (by omega) (by omega)).mpr g1)⟩) d_Sv_prefix_16
end
section
/-! t times one behind the other from a place on; backward sets; both ways are one -/
def run_ (st : Nat → Prop) (len t i : Nat) : Prop := ∀ s, s < t → st (i + s * len)
theorem run_0 {st : Nat → Prop} {len i : Nat} : run_ st len 0 i := fun s h => absurd h (Nat.not_lt_zero s)
theorem run_s {st : Nat → Prop} {len t i : Nat} : run_ st len (t + 1) i ↔ st i ∧ run_ st len t (i + len) := by
  constructor
  · intro h
    refine ⟨by have := h 0 (Nat.succ_pos t); rwa [Nat.zero_mul, Nat.add_zero] at this, fun s hs => ?_⟩
    have := h (s + 1) (by omega)
    rwa [Nat.succ_mul, Nat.add_comm (s * len), ← Nat.add_assoc] at this
  · rintro ⟨h1, h2⟩ s hs
    cases s with
    | zero => rw [Nat.zero_mul, Nat.add_zero]; exact h1
    | succ s => rw [Nat.succ_mul, Nat.add_comm (s * len), ← Nat.add_assoc]; exact h2 s (by omega)
theorem run_l {st : Nat → Prop} {len t i : Nat} : run_ st len (t + 1) i ↔ run_ st len t i ∧ st (i + t * len) := by
  constructor
  · exact fun h => ⟨fun s hs => h s (by omega), h t (Nat.lt_succ_self t)⟩
  · rintro ⟨h1, h2⟩ s hs
    rcases Nat.eq_or_lt_of_le (Nat.le_of_lt_succ hs) with e | e
    · rw [e]; exact h2
    · exact h1 s e
theorem run_end {st : Nat → Prop} {len n t i : Nat} (hs : ∀ k, st k → k + len ≤ n) (hi : i ≤ n) (h : run_ st len t i) : i + t * len ≤ n := by
  cases t with
  | zero => rw [Nat.zero_mul]; exact hi
  | succ t => have := hs _ (run_l.mp h).2; rw [Nat.succ_mul]; omega
theorem run_le {st : Nat → Prop} {len n t i : Nat} (hs : ∀ k, st k → k + len ≤ n) (hl : 0 < len) (hi : i ≤ n) (h : run_ st len t i) : t ≤ n := by
  have h1 := run_end hs hi h
  have h2 : t * 1 ≤ t * len := Nat.mul_le_mul_left t hl
  omega
theorem run_yes {st : Nat → Prop} {len j m : Nat} (h : st j) (hm : ∀ t, t ≤ m ↔ run_ st len t (j + len)) : ∀ t, t ≤ 1 + m ↔ run_ st len t j := by
  intro t
  cases t with
  | zero => exact ⟨fun _ => run_0, fun _ => Nat.zero_le _⟩
  | succ t => rw [run_s, ← hm t]; exact ⟨fun g => ⟨h, by omega⟩, fun g => by have := g.2; omega⟩
theorem run_no {st : Nat → Prop} {len j : Nat} (h : ¬ st j) : ∀ t, t ≤ 0 ↔ run_ st len t j := by
  intro t
  cases t with
  | zero => exact ⟨fun _ => run_0, fun _ => Nat.zero_le _⟩
  | succ t => rw [run_s]; exact ⟨fun g => by omega, fun g => absurd g.1 h⟩
theorem rset_run {st : Nat → Prop} {len : Nat} {X : Nat → Prop} : ∀ t k, rset st len X t k ↔ ∃ i, X i ∧ run_ st len t i ∧ k = i + t * len
  | 0, k => ⟨fun h => ⟨k, h, run_0, by rw [Nat.zero_mul, Nat.add_zero]⟩, fun ⟨i, h1, _, h3⟩ => by rw [Nat.zero_mul, Nat.add_zero] at h3; rw [h3]; exact h1⟩
  | t + 1, k => by
    constructor
    · rintro ⟨j, h1, h2, h3⟩
      obtain ⟨i, g1, g2, g3⟩ := (rset_run t j).mp h1
      subst g3
      exact ⟨i, g1, run_l.mpr ⟨g2, h2⟩, by rw [h3, Nat.succ_mul, Nat.add_assoc]⟩
    · rintro ⟨i, h1, h2, h3⟩
      obtain ⟨g1, g2⟩ := run_l.mp h2
      exact ⟨i + t * len, (rset_run t _).mpr ⟨i, h1, g1, rfl⟩, g2, by rw [h3, Nat.succ_mul, Nat.add_assoc]⟩
theorem st1_up {cp sp fp : Nat} {li tx : Nat → Int8} {n z i : Nat} (hz : n ≤ z) (h : st1 cp sp fp li tx n i) : st1 cp sp fp li tx z i := by
  rcases h with ⟨h1, h2, h3⟩ | ⟨h1, h2, h3⟩
  · exact Or.inl ⟨h1, by omega, h3⟩
  · exact Or.inr ⟨h1, by omega, h3⟩
theorem st1_to {cp sp fp : Nat} {li tx : Nat → Int8} {n z i : Nat} (he : i + len1 cp sp ≤ n) (h : st1 cp sp fp li tx z i) : st1 cp sp fp li tx n i := by
  rcases h with ⟨h1, h2, h3⟩ | ⟨h1, h2, h3⟩
  · unfold len1 at he; rw [if_neg h1] at he; exact Or.inl ⟨h1, by omega, h3⟩
  · unfold len1 at he; rw [if_pos h1] at he; exact Or.inr ⟨h1, by omega, h3⟩
theorem run_up {cp sp fp : Nat} {li tx : Nat → Int8} {n z t i : Nat} (hz : n ≤ z) (h : run_ (st1 cp sp fp li tx n) (len1 cp sp) t i) : run_ (st1 cp sp fp li tx z) (len1 cp sp) t i := fun s hs => st1_up hz (h s hs)
theorem run_to {cp sp fp : Nat} {li tx : Nat → Int8} {n z t i : Nat} (he : i + t * len1 cp sp ≤ n) (h : run_ (st1 cp sp fp li tx z) (len1 cp sp) t i) : run_ (st1 cp sp fp li tx n) (len1 cp sp) t i := by
  intro s hs
  refine st1_to ?_ (h s hs)
  have h2 : (s + 1) * len1 cp sp ≤ t * len1 cp sp := Nat.mul_le_mul_right _ hs
  rw [Nat.succ_mul] at h2
  omega
/-- one part back: the places from which it leads to a good one -/
def bk1 (lp mp cp sp fp : Nat) (li tx : Nat → Int8) (n : Nat) (gd : Nat → Prop) (k : Nat) : Prop := ∃ t, lp ≤ t ∧ t ≤ mp ∧ run_ (st1 cp sp fp li tx n) (len1 cp sp) t k ∧ gd (k + t * len1 cp sp)
/-- d parts are left, of c -/
def Bk (L M C F S : Nat → Nat) (li tx : Nat → Int8) (n c : Nat) : Nat → Nat → Prop
  | 0, k => k = n
  | d + 1, k => bk1 (L (c - (d + 1))) (M (c - (d + 1))) (C (c - (d + 1))) (S (c - (d + 1))) (F (c - (d + 1))) li tx n (Bk L M C F S li tx n c d) k
theorem Bk_le {L M C F S : Nat → Nat} {li tx : Nat → Int8} {n c : Nat} : ∀ d k, Bk L M C F S li tx n c d k → k ≤ n
  | 0, k, h => Nat.le_of_eq h
  | d + 1, k, ⟨t, _, _, _, h⟩ => by have := Bk_le d _ h; omega
theorem bk1_congr {lp mp cp sp fp n k : Nat} {li tx : Nat → Int8} {g g' : Nat → Prop} (hk : k ≤ n) (h : ∀ j, j ≤ n → (g j ↔ g' j)) : bk1 lp mp cp sp fp li tx n g k ↔ bk1 lp mp cp sp fp li tx n g' k := by
  constructor
  · rintro ⟨t, h1, h2, h3, h4⟩
    exact ⟨t, h1, h2, h3, (h _ (run_end (fun _ => st1_end) hk h3)).mp h4⟩
  · rintro ⟨t, h1, h2, h3, h4⟩
    exact ⟨t, h1, h2, h3, (h _ (run_end (fun _ => st1_end) hk h3)).mpr h4⟩
theorem fb_step {L M C F S : Nat → Nat} {li tx : Nat → Int8} {n z c q : Nat} (hz : n ≤ z) (hq : q < c) : (∃ k, Rc L M C F S li tx z q k ∧ Bk L M C F S li tx n c (c - q) k) ↔ ∃ k, Rc L M C F S li tx z (q + 1) k ∧ Bk L M C F S li tx n c (c - (q + 1)) k := by
  obtain ⟨d, hd⟩ : ∃ d, c - (q + 1) = d := ⟨_, rfl⟩
  rw [show c - q = d + 1 by omega, hd]
  have he : c - (d + 1) = q := by omega
  constructor
  · rintro ⟨k, h1, t, h2, h3, h4, h5⟩
    rw [he] at h2 h3 h4 h5
    exact ⟨_, ⟨t, h2, h3, (rset_run t _).mpr ⟨k, h1, run_up hz h4, rfl⟩⟩, h5⟩
  · rintro ⟨k, ⟨t, h2, h3, h4⟩, h5⟩
    obtain ⟨i, g1, g2, g3⟩ := (rset_run t k).mp h4
    subst g3
    refine ⟨i, g1, t, ?_⟩
    rw [he]
    exact ⟨h2, h3, run_to (Bk_le d _ h5) g2, h5⟩
/-- FORWARD AND BACKWARD ARE ONE -/
theorem fb {L M C F S : Nat → Nat} {li tx : Nat → Int8} {n z c : Nat} (hz : n ≤ z) : Rc L M C F S li tx z c n ↔ Bk L M C F S li tx n c c 0 := by
  have h : ∀ q, q ≤ c → ((∃ k, Rc L M C F S li tx z 0 k ∧ Bk L M C F S li tx n c (c - 0) k) ↔ ∃ k, Rc L M C F S li tx z q k ∧ Bk L M C F S li tx n c (c - q) k) := by
    intro q
    induction q with
    | zero => exact fun _ => Iff.rfl
    | succ q ih => exact fun hq => (ih (by omega)).trans (fb_step hz (by omega))
  have h1 := h c (Nat.le_refl c)
  rw [Nat.sub_self, Nat.sub_zero] at h1
  constructor
  · intro g
    obtain ⟨k, g1, g2⟩ := h1.mpr ⟨n, g, rfl⟩
    rw [show k = 0 from g1] at g2
    exact g2
  · intro g
    obtain ⟨k, g1, g2⟩ := h1.mp ⟨0, rfl, g⟩
    rw [show k = n from g2] at g1
    exact g1
end
section
theorem len1_lt (cp sp : Nat) : len1 cp sp ≤ sp + 1 := by unfold len1; split <;> omega
theorem st1_zero {cp sp fp : Nat} {li tx : Nat → Int8} {n i : Nat} (h : len1 cp sp = 0) (hi : i ≤ n) : st1 cp sp fp li tx n i := by
  unfold len1 at h
  by_cases e : cp = 0
  · rw [if_pos e] at h
    exact Or.inr ⟨e, by omega, fun k hk => by omega⟩
  · rw [if_neg e] at h; omega
set_option maxHeartbeats 4000000 in
set_option maxRecDepth 100000 in
/-- PatternSieveModel.stands -/
theorem c_Mo_stands (l : Launch) (D : va_G) (cI cB cZ : ClassId) (b : Nat → Nat) (c u z : Nat) (L M C S F : Nat → Nat) (li tx : Nat → Int8) (gd nx : Nat → Prop) (tm : Nat → Nat) (pp i n : Nat) (hp : pp < 60) (hn : n ≤ 255) (hC : C pp < 128) (hFS : F pp + S pp ≤ 255) (hi : i ≤ n) (sz : Nat) : Met l y_Mo_stands cw_Mo_stands ({ frames := 1, cells := 0, slots := 0, locals := 20 }) (va_Pc [.ref (b 0), .int (nI pp), .int (nI i), .int (nI n)] (Bp D cI cB cZ (wM cI cB cZ b c u z L M C S F li tx gd nx tm) sz)) (va_Qi (S := Unit) (fun r _ => r = zb (st1 (C pp) (S pp) (F pp) li tx n i)) (fun v_ => Bq D cI cB cZ (va_A (wM cI cB cZ b c u z L M C S F li tx gd nx tm) sz) ((wM cI cB cZ b c u z L M C S F li tx gd nx tm))) (va_A (wM cI cB cZ b c u z L M C S F li tx gd nx tm) sz)) 0 0 (va_A (wM cI cB cZ b c u z L M C S F li tx gd nx tm) sz) := by
  refine Met.ofW (cc := b_Mo_stands) (maxL := 6) (ret := (some FieldType.boolean)) (by decide) rfl ?_
  intro p e s m args below meth c1 s₁ B hml hv
  obtain ⟨rfl, hsz, hP, hK, hD0, hN⟩ := hv
  subst hsz
  have hx := B.exec
  have hb := B.bytes
  have hr := B.returns
  have hT : ∀ w ∈ tw_, w.before _ s = true := fun w h => atoms_spec (ws := cw_Mo_stands) B.pre w (List.mem_cons_of_mem _ h)
  have hown : s.vm.findClass R_Mo = some m.cls := findClass_of_methodNamed B.named
  have hlocks := B.notSynchronized
  have hD := hD0.self (sz := s.heap.size)
  generalize hAe : va_A (wM cI cB cZ b c u z L M C S F li tx gd nx tm) s.heap.size = A at hD ⊢
  have hA : ∀ q : Nat, s.heap.size ≤ q → A q := fun q h => by rw [← hAe]; exact Or.inr h
  have hS : va_S A s.heap s.heap [] := va_S.rf
  have hl := lv_entry ([.ref (b 0), .int (nI pp), .int (nI i), .int (nI n)]) (n := 6) (Nat.le_of_ble_eq_true rfl)
  rw [lg_entry_eq]
  generalize (lg_sl ([.ref (b 0), .int (nI pp), .int (nI i), .int (nI n)]) ++ List.replicate (6 - (lg_sl ([.ref (b 0), .int (nI pp), .int (nI i), .int (nI n)])).length) Slot.unset).toArray = ls at hl ⊢
  have hl : lv_has ls 6 [(0, .ref (b 0)), (1, .int (nI pp)), (2, .int (nI i)), (3, .int (nI n))] := hl
  refine lv_aload_n hx hb d_Mo_stands_0 rfl (lv_at hl 0 rfl) ?_
  refine va_get (D := D) (ci := 3) (v := .ref (b 3)) (C := R_Mo) (T := F_Mo) (N := 13) hx hb hT i_Mo hown hK hP 0 rfl rfl 3 (by decide) (hT _ tw_k183) (fun _ h9 => h9) rfl d_Mo_stands_1 ?_
  refine lv_iload_n hx hb d_Mo_stands_4 rfl (lv_at hl 1 rfl) ?_
  refine y_iald hx hb hK hP 3 0 rfl rfl (by omega) (by decide) d_Mo_stands_5 ?_
  refine y_if_le (tgt := 43) hx hb (by omega) d_Mo_stands_6 (by decide) (fun h1 => ?_) (fun h1 => ?_)
  · refine y_join (pcj := 60) (stj := [.int (zb (i + S pp ≤ n))]) ?_ (fun hj => ?_)
    · refine lv_istore (lv' := [(4, .int (zb (i + S pp ≤ n))), (0, .ref (b 0)), (1, .int (nI pp)), (2, .int (nI i)), (3, .int (nI n))]) hx hb d_Mo_stands_60 hl (by decide) rfl (fun ls hl => ?_)
      refine lv_iconst (v := nI 0) hx hb d_Mo_stands_62 (by decide) ?_
      refine lv_istore (lv' := [(5, .int (nI 0)), (4, .int (zb (i + S pp ≤ n))), (0, .ref (b 0)), (1, .int (nI pp)), (2, .int (nI i)), (3, .int (nI n))]) hx hb d_Mo_stands_63 hl (by decide) rfl (fun ls hl => ?_)
      refine y_loop (fun n_ H locs ls => ∃ (k : Nat) (is : Prop), n_ = S pp - k ∧ va_P D classes (wM cI cB cZ b c u z L M C S F li tx gd nx tm) H ∧ va_D A (wM cI cB cZ b c u z L M C S F li tx gd nx tm) ∧ va_S A s.heap H locs ∧ lv_has ls 6 [(5, .int (nI k)), (4, .int (zb is)), (0, .ref (b 0)), (1, .int (nI pp)), (2, .int (nI i)), (3, .int (nI n))] ∧ (k ≤ S pp) ∧ (is ↔ (i + S pp ≤ n ∧ ∀ j, j < k → tx (i + j) = li (F pp + j)))) (S pp - 0) ⟨0, (i + S pp ≤ n), rfl, hP, hD, hS, lv_sub hl [0, 1, 2, 3, 4, 5] rfl, Nat.zero_le _, ⟨fun g => ⟨g, fun j hj => absurd hj (Nat.not_lt_zero j)⟩, fun g => g.1⟩⟩ (fun n_ H locs ls hI1 ih1 => ?_)
      obtain ⟨k, is, hn1, hP, hD, hS, hl, hv1_1, hv1_2⟩ := hI1
      refine lv_iload hx hb d_Mo_stands_65 (lv_at hl 0 rfl) ?_
      refine lv_aload_n hx hb d_Mo_stands_67 rfl (lv_at hl 2 rfl) ?_
      refine va_get (D := D) (ci := 3) (v := .ref (b 4)) (C := R_Mo) (T := F_Mo) (N := 13) hx hb hT i_Mo hown hK hP 0 rfl rfl 4 (by decide) (hT _ tw_k184) (fun _ h9 => h9) rfl d_Mo_stands_68 ?_
      refine lv_iload_n hx hb d_Mo_stands_71 rfl (lv_at hl 3 rfl) ?_
      refine y_iald hx hb hK hP 4 0 rfl rfl (by omega) (by decide) d_Mo_stands_72 ?_
      refine y_icmp_ge (tgt := 120) hx hb (by omega) (by omega) d_Mo_stands_73 (by decide) (fun h3 => ?_) (fun h3 => ?_)
      · refine lv_iload hx hb d_Mo_stands_120 (lv_at hl 1 rfl) ?_
        exact y_zret hx hb hr hlocks hK () hP hD hS (zb_iff (hv1_2.trans ⟨fun g => Or.inr ⟨h1, g.1, fun j hj => g.2 j (by omega)⟩, fun g => by
          rcases g with ⟨g, -⟩ | ⟨-, g1, g2⟩
          · exact absurd h1 g
          · exact ⟨g1, fun j hj => g2 j (by omega)⟩⟩)) d_Mo_stands_122
      · refine lv_iload hx hb d_Mo_stands_76 (lv_at hl 1 rfl) ?_
        refine y_ifeq (tgt := 120) hx hb d_Mo_stands_78 (by decide) (fun h4 => ?_) (fun h4 => ?_)
        · refine lv_iload hx hb d_Mo_stands_120 (lv_at hl 1 rfl) ?_
          exact y_zret hx hb hr hlocks hK () hP hD hS (zb_iff ⟨fun g => absurd g h4, fun g => by
            rcases g with ⟨g, -⟩ | ⟨-, g1, g2⟩
            · exact absurd h1 g
            · exact hv1_2.mpr ⟨g1, fun j hj => g2 j (by omega)⟩⟩) d_Mo_stands_122
        · have hin := (hv1_2.mp h4).1
          refine y_join (pcj := 112) (stj := [.int (zb (tx (i + k) = li (F pp + k)))]) ?_ (fun hj => ?_)
          · refine lv_istore (lv' := [(4, .int (zb (tx (i + k) = li (F pp + k)))), (5, .int (nI k)), (0, .ref (b 0)), (1, .int (nI pp)), (2, .int (nI i)), (3, .int (nI n))]) hx hb d_Mo_stands_112 hl (by decide) rfl (fun ls hl => ?_)
            refine lv_iinc (v := (nI (k + 1))) (lv' := [(5, .int (nI (k + 1))), (4, .int (zb (tx (i + k) = li (F pp + k)))), (0, .ref (b 0)), (1, .int (nI pp)), (2, .int (nI i)), (3, .int (nI n))]) hx hb d_Mo_stands_114 hl (k := 1) rfl (nI_add _ 1) (by decide) rfl (fun ls hl => ?_)
            refine lv_goto (tgt := 65) hx hb d_Mo_stands_117 (by decide) ?_
            exact ih1 _ _ _ _ (by omega) ⟨k + 1, (tx (i + k) = li (F pp + k)), rfl, hP, hD, hS, lv_sub hl [0, 1, 2, 3, 4, 5] rfl, by omega, ⟨fun g => ⟨hin, fun j hj => by
              rcases Nat.lt_or_ge j k with e | e
              · exact (hv1_2.mp h4).2 j e
              · rw [show j = k by omega]; exact g⟩, fun g => g.2 k (Nat.lt_succ_self k)⟩⟩
          · refine lv_aload_n hx hb d_Mo_stands_81 rfl (lv_at hl 2 rfl) ?_
            refine va_get (D := D) (ci := 3) (v := .ref (b 7)) (C := R_Mo) (T := F_Mo) (N := 13) hx hb hT i_Mo hown hK hP 0 rfl rfl 8 (by decide) (hT _ tw_k188) (fun _ h9 => h9) rfl d_Mo_stands_82 ?_
            refine lv_iload_n hx hb d_Mo_stands_85 rfl (lv_at hl 4 rfl) ?_
            refine lv_iload hx hb d_Mo_stands_86 (lv_at hl 0 rfl) ?_
            refine y_iadd hx hb d_Mo_stands_88 ?_
            refine y_bald hx hb hK hP 7 1 rfl rfl (by omega) (by decide) d_Mo_stands_89 ?_
            refine lv_aload_n hx hb d_Mo_stands_90 rfl (lv_at hl 2 rfl) ?_
            refine va_get (D := D) (ci := 3) (v := .ref (b 6)) (C := R_Mo) (T := F_Mo) (N := 13) hx hb hT i_Mo hown hK hP 0 rfl rfl 6 (by decide) (hT _ tw_k186) (fun _ h9 => h9) rfl d_Mo_stands_91 ?_
            refine lv_aload_n hx hb d_Mo_stands_94 rfl (lv_at hl 2 rfl) ?_
            refine va_get (D := D) (ci := 3) (v := .ref (b 5)) (C := R_Mo) (T := F_Mo) (N := 13) hx hb hT i_Mo hown hK hP 0 rfl rfl 5 (by decide) (hT _ tw_k185) (fun _ h9 => h9) rfl d_Mo_stands_95 ?_
            refine lv_iload_n hx hb d_Mo_stands_98 rfl (lv_at hl 3 rfl) ?_
            refine y_iald hx hb hK hP 5 0 rfl rfl (by omega) (by decide) d_Mo_stands_99 ?_
            refine lv_iload hx hb d_Mo_stands_100 (lv_at hl 0 rfl) ?_
            refine y_iadd hx hb d_Mo_stands_102 ?_
            refine y_bald hx hb hK hP 6 1 rfl rfl (by omega) (by decide) d_Mo_stands_103 ?_
            refine lv_icmp_ne (tgt := 111) hx hb d_Mo_stands_104 (by decide) (fun h5 => ?_) (fun h5 => ?_)
            · refine lv_iconst (v := nI 0) hx hb d_Mo_stands_111 (by decide) ?_
              exact y_to (z0 (fun g => h5 (i8_inj.mpr g))) hj
            · refine lv_iconst (v := nI 1) hx hb d_Mo_stands_107 (by decide) ?_
              refine lv_goto (tgt := 112) hx hb d_Mo_stands_108 (by decide) ?_
              exact y_to (z1 (i8_inj.mp h5)) hj
    · refine lv_iload_n hx hb d_Mo_stands_43 rfl (lv_at hl 2 rfl) ?_
      refine lv_aload_n hx hb d_Mo_stands_44 rfl (lv_at hl 0 rfl) ?_
      refine va_get (D := D) (ci := 3) (v := .ref (b 4)) (C := R_Mo) (T := F_Mo) (N := 13) hx hb hT i_Mo hown hK hP 0 rfl rfl 4 (by decide) (hT _ tw_k184) (fun _ h9 => h9) rfl d_Mo_stands_45 ?_
      refine lv_iload_n hx hb d_Mo_stands_48 rfl (lv_at hl 1 rfl) ?_
      refine y_iald hx hb hK hP 4 0 rfl rfl (by omega) (by decide) d_Mo_stands_49 ?_
      refine y_iadd hx hb d_Mo_stands_50 ?_
      refine lv_iload_n hx hb d_Mo_stands_51 rfl (lv_at hl 3 rfl) ?_
      refine y_icmp_gt (tgt := 59) hx hb (by omega) (by omega) d_Mo_stands_52 (by decide) (fun h2 => ?_) (fun h2 => ?_)
      · refine lv_iconst (v := nI 0) hx hb d_Mo_stands_59 (by decide) ?_
        exact y_to (z0 (Nat.not_le.mpr h2)) hj
      · refine lv_iconst (v := nI 1) hx hb d_Mo_stands_55 (by decide) ?_
        refine lv_goto (tgt := 60) hx hb d_Mo_stands_56 (by decide) ?_
        exact y_to (z1 h2) hj
  · refine lv_iload_n hx hb d_Mo_stands_9 rfl (lv_at hl 2 rfl) ?_
    refine lv_iload_n hx hb d_Mo_stands_10 rfl (lv_at hl 3 rfl) ?_
    refine y_icmp_ge (tgt := 41) hx hb (by omega) (by omega) d_Mo_stands_11 (by decide) (fun h2 => ?_) (fun h2 => ?_)
    · refine lv_iconst (v := nI 0) hx hb d_Mo_stands_41 (by decide) ?_
      refine y_to (z0 (P := False) not_false) ?_
      exact y_zret hx hb hr hlocks hK () hP hD hS (zb_iff ⟨False.elim, fun g => by
        rcases g with ⟨-, g, -⟩ | ⟨g, -⟩
        · exact absurd g (by omega)
        · omega⟩) d_Mo_stands_42
    · refine lv_aload_n hx hb d_Mo_stands_14 rfl (lv_at hl 0 rfl) ?_
      refine va_get (D := D) (ci := 3) (v := .ref (b 3)) (C := R_Mo) (T := F_Mo) (N := 13) hx hb hT i_Mo hown hK hP 0 rfl rfl 3 (by decide) (hT _ tw_k183) (fun _ h9 => h9) rfl d_Mo_stands_15 ?_
      refine lv_iload_n hx hb d_Mo_stands_18 rfl (lv_at hl 1 rfl) ?_
      refine y_iald hx hb hK hP 3 0 rfl rfl (by omega) (by decide) d_Mo_stands_19 ?_
      refine lv_aload_n hx hb d_Mo_stands_20 rfl (lv_at hl 0 rfl) ?_
      refine va_get (D := D) (ci := 3) (v := .ref (b 7)) (C := R_Mo) (T := F_Mo) (N := 13) hx hb hT i_Mo hown hK hP 0 rfl rfl 8 (by decide) (hT _ tw_k188) (fun _ h9 => h9) rfl d_Mo_stands_21 ?_
      refine lv_iload_n hx hb d_Mo_stands_24 rfl (lv_at hl 2 rfl) ?_
      refine y_bald hx hb hK hP 7 1 rfl rfl (by omega) (by decide) d_Mo_stands_25 ?_
      refine lv_sipush (v := nI 255) hx hb d_Mo_stands_26 (by decide) ?_
      refine y_iandB hx hb d_Mo_stands_29 ?_
      refine y_i (w0 := ([] : va_W)) (wr := [_, _, _, _, _, _, _, _, _, _, _]) hP hD hS hA [] [0, 1, 2, 3, 4, 5, 6, 7, 8, 9, 10] rfl rfl (by decide) (by decide) (y_runS (n := 1) (rm := { frames := 0, cells := 0, slots := 0, locals := 0 }) (w0 := ([] : va_W)) (As := [.int (nI (ub (tx i)))]) (rest := [.int (nI (C pp))]) hx hb hml hown hT hN hK hP hD (c_Mo_classesOf l D cI cB cZ (ub (tx i)) (ub_lt _) _) ⟨tw_k272, tw_k10, tw_k270, by decide +kernel⟩ tw_k271 [] rfl (by decide) ⟨Nat.le_of_ble_eq_true rfl, Nat.le_of_ble_eq_true rfl⟩ rfl hl.1 rfl (Nat.le_of_ble_eq_true rfl) d_Mo_stands_30 ⟨Nat.le_of_ble_eq_true rfl, Nat.le_of_ble_eq_true rfl⟩) (fun r v_ H locs hp hP hD hS => ?_)
      have hP : va_P D classes (wM cI cB cZ b c u z L M C S F li tx gd nx tm) H := hP
      have hD : va_D A (wM cI cB cZ b c u z L M C S F li tx gd nx tm) := hD
      subst hp
      refine y_iand hx hb d_Mo_stands_33 ?_
      refine y_if_le (tgt := 41) hx hb (Nat.lt_of_le_of_lt Nat.and_le_left (by omega)) d_Mo_stands_34 (by decide) (fun h3 => ?_) (fun h3 => ?_)
      · refine lv_iconst (v := nI 0) hx hb d_Mo_stands_41 (by decide) ?_
        refine y_to (z0 (P := False) not_false) ?_
        exact y_zret hx hb hr hlocks hK () hP hD hS (zb_iff ⟨False.elim, fun g => by
          rcases g with ⟨-, -, g⟩ | ⟨g, -⟩
          · exact absurd h3 (by rw [Nat.and_comm]; exact g)
          · omega⟩) d_Mo_stands_42
      · refine lv_iconst (v := nI 1) hx hb d_Mo_stands_37 (by decide) ?_
        refine lv_goto (tgt := 42) hx hb d_Mo_stands_38 (by decide) ?_
        refine y_to (z1 (P := True) trivial) ?_
        exact y_zret hx hb hr hlocks hK () hP hD hS (zb_iff ⟨fun _ => Or.inl ⟨Nat.ne_of_gt h1, h2, by rw [Nat.and_comm]; exact Nat.ne_of_gt h3⟩, fun _ => trivial⟩) d_Mo_stands_42

set_option maxHeartbeats 4000000 in
set_option maxRecDepth 100000 in
/-- PatternSieveModel.tally -/
theorem c_Mo_tally (l : Launch) (D : va_G) (cI cB cZ : ClassId) (b : Nat → Nat) (c u z : Nat) (L M C S F : Nat → Nat) (li tx : Nat → Int8) (gd nx : Nat → Prop) (tm : Nat → Nat) (pp n : Nat) (hp : pp < 60) (hn : n ≤ 255) (hC : C pp < 128) (hFS : F pp + S pp ≤ 255) (hpos : 0 < (len1 (C pp) (S pp))) (sz : Nat) : Met l y_Mo_tally cw_Mo_tally ({ frames := 2, cells := 0, slots := 0, locals := 45 }) (va_Pc [.ref (b 0), .int (nI pp), .int (nI (len1 (C pp) (S pp))), .int (nI n)] (Bp D cI cB cZ (wM cI cB cZ b c u z L M C S F li tx gd nx tm) sz)) (va_Qv (S := Nat → Nat) (fun v_ => ∀ i, i ≤ n → ∀ t, t ≤ v_ i ↔ run_ (st1 (C pp) (S pp) (F pp) li tx n) (len1 (C pp) (S pp)) t i) (fun v_ => Bq D cI cB cZ (va_A (wM cI cB cZ b c u z L M C S F li tx gd nx tm) sz) ((wM cI cB cZ b c u z L M C S F li tx gd nx v_))) (va_A (wM cI cB cZ b c u z L M C S F li tx gd nx tm) sz)) 0 0 (va_A (wM cI cB cZ b c u z L M C S F li tx gd nx tm) sz) := by
  refine Met.ofW (cc := b_Mo_tally) (maxL := 5) (ret := none) (by decide) rfl ?_
  intro p e s m args below meth c1 s₁ B hml hv
  obtain ⟨rfl, hsz, hP, hK, hD0, hN⟩ := hv
  subst hsz
  have hx := B.exec
  have hb := B.bytes
  have hr := B.returns
  have hT : ∀ w ∈ tw_, w.before _ s = true := fun w h => atoms_spec (ws := cw_Mo_tally) B.pre w (List.mem_cons_of_mem _ h)
  have hown : s.vm.findClass R_Mo = some m.cls := findClass_of_methodNamed B.named
  have hlocks := B.notSynchronized
  have hD := hD0.self (sz := s.heap.size)
  generalize hAe : va_A (wM cI cB cZ b c u z L M C S F li tx gd nx tm) s.heap.size = A at hD ⊢
  have hA : ∀ q : Nat, s.heap.size ≤ q → A q := fun q h => by rw [← hAe]; exact Or.inr h
  have hS : va_S A s.heap s.heap [] := va_S.rf
  have hl := lv_entry ([.ref (b 0), .int (nI pp), .int (nI (len1 (C pp) (S pp))), .int (nI n)]) (n := 5) (Nat.le_of_ble_eq_true rfl)
  rw [lg_entry_eq]
  generalize (lg_sl ([.ref (b 0), .int (nI pp), .int (nI (len1 (C pp) (S pp))), .int (nI n)]) ++ List.replicate (5 - (lg_sl ([.ref (b 0), .int (nI pp), .int (nI (len1 (C pp) (S pp))), .int (nI n)])).length) Slot.unset).toArray = ls at hl ⊢
  have hl : lv_has ls 5 [(0, .ref (b 0)), (1, .int (nI pp)), (2, .int (nI (len1 (C pp) (S pp)))), (3, .int (nI n))] := hl
  refine lv_iload_n hx hb d_Mo_tally_0 rfl (lv_at hl 3 rfl) ?_
  refine lv_istore (lv' := [(4, .int (nI n)), (0, .ref (b 0)), (1, .int (nI pp)), (2, .int (nI (len1 (C pp) (S pp)))), (3, .int (nI n))]) hx hb d_Mo_tally_1 hl (by decide) rfl (fun ls hl => ?_)
  have hl : lv_has ls 5 [(4, .int (dn (n + 1))), (0, .ref (b 0)), (1, .int (nI pp)), (2, .int (nI (len1 (C pp) (S pp)))), (3, .int (nI n))] := by rw [dn_s]; exact hl
  refine y_loop (fun n_ H locs ls => ∃ (q : Nat) (tm : Nat → Nat), n_ = q ∧ va_P D classes (wM cI cB cZ b c u z L M C S F li tx gd nx tm) H ∧ va_D A (wM cI cB cZ b c u z L M C S F li tx gd nx tm) ∧ va_S A s.heap H locs ∧ lv_has ls 5 [(4, .int (dn q)), (0, .ref (b 0)), (1, .int (nI pp)), (2, .int (nI (len1 (C pp) (S pp)))), (3, .int (nI n))] ∧ (q ≤ n + 1) ∧ (∀ i, q ≤ i → i ≤ n → ∀ t, t ≤ tm i ↔ run_ (st1 (C pp) (S pp) (F pp) li tx n) (len1 (C pp) (S pp)) t i)) (n + 1) ⟨n + 1, tm, rfl, hP, hD, hS, lv_sub hl [0, 1, 2, 3, 4] rfl, Nat.le_refl _, fun i h1 h2 => by omega⟩ (fun n_ H locs ls hI1 ih1 => ?_)
  obtain ⟨q, tm, hn1, hP, hD, hS, hl, hv1_1, hv1_2⟩ := hI1
  refine lv_iload hx hb d_Mo_tally_3 (lv_at hl 0 rfl) ?_
  refine y_dn (tgt := 47) hx hb (by omega) d_Mo_tally_5 (by decide) (fun hq => ?_) (fun j hq => ?_)
  · subst hq
    exact y_vret hx hb hr hlocks hK tm hP hD hS (fun i hi => hv1_2 i (Nat.zero_le i) hi) d_Mo_tally_47
  · subst hq
    rw [dn_s] at hl
    refine lv_aload_n hx hb d_Mo_tally_8 rfl (lv_at hl 1 rfl) ?_
    refine va_get (D := D) (ci := 3) (v := .ref (b 10)) (C := R_Mo) (T := F_Mo) (N := 13) hx hb hT i_Mo hown hK hP 0 rfl rfl 12 (by decide) (hT _ tw_k192) (fun _ h9 => h9) rfl d_Mo_tally_9 ?_
    refine lv_iload hx hb d_Mo_tally_12 (lv_at hl 0 rfl) ?_
    refine lv_aload_n hx hb d_Mo_tally_14 rfl (lv_at hl 1 rfl) ?_
    refine lv_iload_n hx hb d_Mo_tally_15 rfl (lv_at hl 2 rfl) ?_
    refine lv_iload hx hb d_Mo_tally_16 (lv_at hl 0 rfl) ?_
    refine lv_iload_n hx hb d_Mo_tally_18 rfl (lv_at hl 4 rfl) ?_
    refine y_i (w0 := (wM cI cB cZ b c u z L M C S F li tx gd nx tm)) (wr := []) hP hD hS hA [0, 1, 2, 3, 4, 5, 6, 7, 8, 9, 10] [] rfl rfl (by decide) (by decide) (y_runV (n := 3) (rm := { frames := 1, cells := 0, slots := 0, locals := 20 }) (w0 := (wM cI cB cZ b c u z L M C S F li tx gd nx tm)) (q0 := 0) (b := b 0) (As := [.int (nI pp), .int (nI j), .int (nI n)]) (rest := [.int (nI j), .ref (b 10)]) hx hb hml hown hT hN hK hP hD (c_Mo_stands l D cI cB cZ b c u z L M C S F li tx gd nx tm pp j n hp hn hC hFS (by omega) _) ⟨tw_k269, tw_k10, tw_k266, by decide +kernel⟩ ⟨tw_k268, tw_k5⟩ [0, 1, 2, 3, 4, 5, 6, 7, 8, 9, 10] rfl (by decide) rfl rfl ⟨Nat.le_of_ble_eq_true rfl, Nat.le_of_ble_eq_true rfl⟩ rfl hl.1 rfl (Nat.le_of_ble_eq_true rfl) d_Mo_tally_19 ⟨Nat.le_of_ble_eq_true rfl, Nat.le_of_ble_eq_true rfl⟩) (fun r v_ H locs ho hP hD hS => ?_)
    have hP : va_P D classes (wM cI cB cZ b c u z L M C S F li tx gd nx tm) H := hP
    have hD : va_D A (wM cI cB cZ b c u z L M C S F li tx gd nx tm) := hD
    subst ho
    refine y_ifeq (tgt := 39) hx hb d_Mo_tally_22 (by decide) (fun h2 => ?_) (fun h2 => ?_)
    · refine lv_iconst (v := nI 0) hx hb d_Mo_tally_39 (by decide) ?_
      refine y_iast hx hb hK hP hD hS 10 0 rfl rfl (by omega) (by decide) d_Mo_tally_40 (fun H locs hP hD hS => ?_)
      have hP : va_P D classes (wM cI cB cZ b c u z L M C S F li tx gd nx (va_up tm j 0)) H := hP
      have hD : va_D A (wM cI cB cZ b c u z L M C S F li tx gd nx (va_up tm j 0)) := hD
      refine lv_iinc (v := (dn j)) (lv' := [(4, .int (dn j)), (0, .ref (b 0)), (1, .int (nI pp)), (2, .int (nI (len1 (C pp) (S pp)))), (3, .int (nI n))]) hx hb d_Mo_tally_41 hl (k := 0) rfl (dn_i _) (by decide) rfl (fun ls hl => ?_)
      refine lv_goto (tgt := 3) hx hb d_Mo_tally_44 (by decide) ?_
      exact ih1 _ _ _ _ (by omega) ⟨j, va_up tm j 0, rfl, hP, hD, hS, lv_sub hl [0, 1, 2, 3, 4] rfl, by omega, fun i hi1 hi2 => by
        by_cases e : i = j
        · subst e; rw [va_up_self]; exact run_no h2
        · rw [va_up_ne _ _ e]; exact hv1_2 i (by omega) hi2⟩
    · have hje := st1_end h2
      refine lv_iconst (v := nI 1) hx hb d_Mo_tally_25 (by decide) ?_
      refine lv_aload_n hx hb d_Mo_tally_26 rfl (lv_at hl 1 rfl) ?_
      refine va_get (D := D) (ci := 3) (v := .ref (b 10)) (C := R_Mo) (T := F_Mo) (N := 13) hx hb hT i_Mo hown hK hP 0 rfl rfl 12 (by decide) (hT _ tw_k192) (fun _ h9 => h9) rfl d_Mo_tally_27 ?_
      refine lv_iload hx hb d_Mo_tally_30 (lv_at hl 0 rfl) ?_
      refine lv_iload_n hx hb d_Mo_tally_32 rfl (lv_at hl 3 rfl) ?_
      refine y_iadd hx hb d_Mo_tally_33 ?_
      refine y_iald hx hb hK hP 10 0 rfl rfl (by omega) (by decide) d_Mo_tally_34 ?_
      refine y_iadd hx hb d_Mo_tally_35 ?_
      refine lv_goto (tgt := 40) hx hb d_Mo_tally_36 (by decide) ?_
      refine y_iast hx hb hK hP hD hS 10 0 rfl rfl (by omega) (by decide) d_Mo_tally_40 (fun H locs hP hD hS => ?_)
      have hP : va_P D classes (wM cI cB cZ b c u z L M C S F li tx gd nx (va_up tm j (1 + (tm (j + (len1 (C pp) (S pp))))))) H := hP
      have hD : va_D A (wM cI cB cZ b c u z L M C S F li tx gd nx (va_up tm j (1 + (tm (j + (len1 (C pp) (S pp))))))) := hD
      refine lv_iinc (v := (dn j)) (lv' := [(4, .int (dn j)), (0, .ref (b 0)), (1, .int (nI pp)), (2, .int (nI (len1 (C pp) (S pp)))), (3, .int (nI n))]) hx hb d_Mo_tally_41 hl (k := 0) rfl (dn_i _) (by decide) rfl (fun ls hl => ?_)
      refine lv_goto (tgt := 3) hx hb d_Mo_tally_44 (by decide) ?_
      exact ih1 _ _ _ _ (by omega) ⟨j, va_up tm j (1 + (tm (j + (len1 (C pp) (S pp))))), rfl, hP, hD, hS, lv_sub hl [0, 1, 2, 3, 4] rfl, by omega, fun i hi1 hi2 => by
        by_cases e : i = j
        · subst e; rw [va_up_self]; exact run_yes h2 (hv1_2 _ (by omega) hje)
        · rw [va_up_ne _ _ e]; exact hv1_2 i (by omega) hi2⟩

set_option maxHeartbeats 4000000 in
set_option maxRecDepth 100000 in
/-- PatternSieveModel.back -/
theorem c_Mo_back (l : Launch) (D : va_G) (cI cB cZ : ClassId) (b : Nat → Nat) (c u z : Nat) (L M C S F : Nat → Nat) (li tx : Nat → Int8) (gd nx : Nat → Prop) (tm : Nat → Nat) (pp n : Nat) (hp : pp < 60) (hn : n ≤ 255) (hC : C pp < 128) (hFS : F pp + S pp ≤ 255) (hL : L pp ≤ 255) (hM : M pp ≤ 255) (sz : Nat) : Met l y_Mo_back cw_Mo_back ({ frames := 3, cells := 0, slots := 0, locals := 69 }) (va_Pc [.ref (b 0), .int (nI pp), .int (nI n)] (Bp D cI cB cZ (wM cI cB cZ b c u z L M C S F li tx gd nx tm) sz)) (va_Qv (S := (Nat → Prop) × (Nat → Prop) × (Nat → Nat)) (fun v_ => ∀ k, k ≤ n → (v_.1 k ↔ bk1 (L pp) (M pp) (C pp) (S pp) (F pp) li tx n gd k)) (fun v_ => Bq D cI cB cZ (va_A (wM cI cB cZ b c u z L M C S F li tx gd nx tm) sz) ((wM cI cB cZ b c u z L M C S F li tx v_.1 v_.2.1 v_.2.2))) (va_A (wM cI cB cZ b c u z L M C S F li tx gd nx tm) sz)) 0 0 (va_A (wM cI cB cZ b c u z L M C S F li tx gd nx tm) sz) := by
  refine Met.ofW (cc := b_Mo_back) (maxL := 8) (ret := none) (by decide) rfl ?_
  intro p e s m args below meth c1 s₁ B hml hv
  obtain ⟨rfl, hsz, hP, hK, hD0, hN⟩ := hv
  subst hsz
  have hx := B.exec
  have hb := B.bytes
  have hr := B.returns
  have hT : ∀ w ∈ tw_, w.before _ s = true := fun w h => atoms_spec (ws := cw_Mo_back) B.pre w (List.mem_cons_of_mem _ h)
  have hown : s.vm.findClass R_Mo = some m.cls := findClass_of_methodNamed B.named
  have hlocks := B.notSynchronized
  have hD := hD0.self (sz := s.heap.size)
  generalize hAe : va_A (wM cI cB cZ b c u z L M C S F li tx gd nx tm) s.heap.size = A at hD ⊢
  have hA : ∀ q : Nat, s.heap.size ≤ q → A q := fun q h => by rw [← hAe]; exact Or.inr h
  have hS : va_S A s.heap s.heap [] := va_S.rf
  have hl := lv_entry ([.ref (b 0), .int (nI pp), .int (nI n)]) (n := 8) (Nat.le_of_ble_eq_true rfl)
  rw [lg_entry_eq]
  generalize (lg_sl ([.ref (b 0), .int (nI pp), .int (nI n)]) ++ List.replicate (8 - (lg_sl ([.ref (b 0), .int (nI pp), .int (nI n)])).length) Slot.unset).toArray = ls at hl ⊢
  have hl : lv_has ls 8 [(0, .ref (b 0)), (1, .int (nI pp)), (2, .int (nI n))] := hl
  refine y_join (pcj := 19) (stj := [.int (nI (len1 (C pp) (S pp)))]) ?_ (fun hj => ?_)
  · refine lv_istore_n (lv' := [(3, .int (nI (len1 (C pp) (S pp)))), (0, .ref (b 0)), (1, .int (nI pp)), (2, .int (nI n))]) hx hb d_Mo_back_19 rfl hl (by decide) rfl (fun ls hl => ?_)
    refine lv_iload_n hx hb d_Mo_back_20 rfl (lv_at hl 0 rfl) ?_
    refine y_if_le (tgt := 31) hx hb (by have := len1_lt (C pp) (S pp); omega) d_Mo_back_21 (by decide) (fun h1 => ?_) (fun h1 => ?_)
    · refine lv_iconst (v := nI 0) hx hb d_Mo_back_31 (by decide) ?_
      refine lv_istore (lv' := [(4, .int (nI 0)), (3, .int (nI (len1 (C pp) (S pp)))), (0, .ref (b 0)), (1, .int (nI pp)), (2, .int (nI n))]) hx hb d_Mo_back_32 hl (by decide) rfl (fun ls hl => ?_)
      refine y_loop (fun n_ H locs ls => ∃ (i : Nat) (nx : Nat → Prop), n_ = n + 1 - i ∧ va_P D classes (wM cI cB cZ b c u z L M C S F li tx gd nx tm) H ∧ va_D A (wM cI cB cZ b c u z L M C S F li tx gd nx tm) ∧ va_S A s.heap H locs ∧ lv_has ls 8 [(4, .int (nI i)), (3, .int (nI (len1 (C pp) (S pp)))), (0, .ref (b 0)), (1, .int (nI pp)), (2, .int (nI n))] ∧ (i ≤ n + 1) ∧ (∀ j, j < i → (nx j ↔ bk1 (L pp) (M pp) (C pp) (S pp) (F pp) li tx n gd j))) (n + 1 - 0) ⟨0, nx, rfl, hP, hD, hS, lv_sub hl [0, 1, 2, 3, 4] rfl, Nat.zero_le _, fun j hj => absurd hj (Nat.not_lt_zero j)⟩ (fun n_ H locs ls hI1 ih1 => ?_)
      obtain ⟨i, nx, hn1, hP, hD, hS, hl, hv1_1, hv1_2⟩ := hI1
      refine lv_iload hx hb d_Mo_back_34 (lv_at hl 0 rfl) ?_
      refine lv_iload_n hx hb d_Mo_back_36 rfl (lv_at hl 4 rfl) ?_
      refine y_icmp_gt (tgt := 171) hx hb (by omega) (by omega) d_Mo_back_37 (by decide) (fun h2 => ?_) (fun h2 => ?_)
      · refine lv_iconst (v := nI 0) hx hb d_Mo_back_171 (by decide) ?_
        refine lv_istore (lv' := [(4, .int (nI 0)), (3, .int (nI (len1 (C pp) (S pp)))), (0, .ref (b 0)), (1, .int (nI pp)), (2, .int (nI n))]) hx hb d_Mo_back_172 hl (by decide) rfl (fun ls hl => ?_)
        refine y_loop (fun n_ H locs ls => ∃ (i : Nat) (gd2 : Nat → Prop), n_ = n + 1 - i ∧ va_P D classes (wM cI cB cZ b c u z L M C S F li tx gd2 nx tm) H ∧ va_D A (wM cI cB cZ b c u z L M C S F li tx gd2 nx tm) ∧ va_S A s.heap H locs ∧ lv_has ls 8 [(4, .int (nI i)), (3, .int (nI (len1 (C pp) (S pp)))), (0, .ref (b 0)), (1, .int (nI pp)), (2, .int (nI n))] ∧ (i ≤ n + 1) ∧ (∀ j, j < i → (gd2 j ↔ nx j))) (n + 1 - 0) ⟨0, gd, rfl, hP, hD, hS, lv_sub hl [0, 1, 2, 3, 4] rfl, Nat.zero_le _, fun j hj => absurd hj (Nat.not_lt_zero j)⟩ (fun n_ H locs ls hI3 ih3 => ?_)
        obtain ⟨i, gd2, hn3, hP, hD, hS, hl, hv3_1, hv3_2⟩ := hI3
        refine lv_iload hx hb d_Mo_back_174 (lv_at hl 0 rfl) ?_
        refine lv_iload_n hx hb d_Mo_back_176 rfl (lv_at hl 4 rfl) ?_
        refine y_icmp_gt (tgt := 200) hx hb (by omega) (by omega) d_Mo_back_177 (by decide) (fun h7 => ?_) (fun h7 => ?_)
        · exact y_vret hx hb hr hlocks hK (gd2, nx, tm) hP hD hS (fun k hk => (hv3_2 k (by omega)).trans (hv1_2 k (by omega))) d_Mo_back_200
        · refine lv_aload_n hx hb d_Mo_back_180 rfl (lv_at hl 2 rfl) ?_
          refine va_get (D := D) (ci := 3) (v := .ref (b 8)) (C := R_Mo) (T := F_Mo) (N := 13) hx hb hT i_Mo hown hK hP 0 rfl rfl 10 (by decide) (hT _ tw_k190) (fun _ h9 => h9) rfl d_Mo_back_181 ?_
          refine lv_iload hx hb d_Mo_back_184 (lv_at hl 0 rfl) ?_
          refine lv_aload_n hx hb d_Mo_back_186 rfl (lv_at hl 2 rfl) ?_
          refine va_get (D := D) (ci := 3) (v := .ref (b 9)) (C := R_Mo) (T := F_Mo) (N := 13) hx hb hT i_Mo hown hK hP 0 rfl rfl 11 (by decide) (hT _ tw_k191) (fun _ h9 => h9) rfl d_Mo_back_187 ?_
          refine lv_iload hx hb d_Mo_back_190 (lv_at hl 0 rfl) ?_
          refine y_zald hx hb hK hP 9 2 rfl rfl (by omega) (by decide) d_Mo_back_192 ?_
          refine y_zast hx hb hK hP hD hS 8 2 rfl rfl (by omega) (by decide) d_Mo_back_193 (fun H locs hP hD hS => ?_)
          have hP : va_P D classes (wM cI cB cZ b c u z L M C S F li tx (va_up gd2 i (nx i)) nx tm) H := hP
          have hD : va_D A (wM cI cB cZ b c u z L M C S F li tx (va_up gd2 i (nx i)) nx tm) := hD
          refine lv_iinc (v := (nI (i + 1))) (lv' := [(4, .int (nI (i + 1))), (3, .int (nI (len1 (C pp) (S pp)))), (0, .ref (b 0)), (1, .int (nI pp)), (2, .int (nI n))]) hx hb d_Mo_back_194 hl (k := 0) rfl (nI_add _ 1) (by decide) rfl (fun ls hl => ?_)
          refine lv_goto (tgt := 174) hx hb d_Mo_back_197 (by decide) ?_
          exact ih3 _ _ _ _ (by omega) ⟨i + 1, va_up gd2 i (nx i), rfl, hP, hD, hS, lv_sub hl [0, 1, 2, 3, 4] rfl, by omega, up_ext hv3_2 Iff.rfl⟩
      · refine lv_iconst (v := nI 0) hx hb d_Mo_back_40 (by decide) ?_
        refine y_to (z0 (P := False) not_false) ?_
        refine lv_istore (lv' := [(5, .int (zb False)), (4, .int (nI i)), (3, .int (nI (len1 (C pp) (S pp)))), (0, .ref (b 0)), (1, .int (nI pp)), (2, .int (nI n))]) hx hb d_Mo_back_41 hl (by decide) rfl (fun ls hl => ?_)
        refine lv_iload_n hx hb d_Mo_back_43 rfl (lv_at hl 2 rfl) ?_
        refine y_if_ne (tgt := 82) hx hb (by have := len1_lt (C pp) (S pp); omega) d_Mo_back_44 (by decide) (fun h3 => ?_) (fun h3 => ?_)
        · exact absurd h1 h3
        · refine y_join (pcj := 77) (stj := [.int (zb (gd i ∧ L pp ≤ M pp))]) ?_ (fun hj => ?_)
          · refine lv_istore (lv' := [(5, .int (zb (gd i ∧ L pp ≤ M pp))), (4, .int (nI i)), (3, .int (nI (len1 (C pp) (S pp)))), (0, .ref (b 0)), (1, .int (nI pp)), (2, .int (nI n))]) hx hb d_Mo_back_77 hl (by decide) rfl (fun ls hl => ?_)
            refine lv_goto (tgt := 156) hx hb d_Mo_back_79 (by decide) ?_
            refine lv_aload_n hx hb d_Mo_back_156 rfl (lv_at hl 3 rfl) ?_
            refine va_get (D := D) (ci := 3) (v := .ref (b 9)) (C := R_Mo) (T := F_Mo) (N := 13) hx hb hT i_Mo hown hK hP 0 rfl rfl 11 (by decide) (hT _ tw_k191) (fun _ h9 => h9) rfl d_Mo_back_157 ?_
            refine lv_iload hx hb d_Mo_back_160 (lv_at hl 1 rfl) ?_
            refine lv_iload hx hb d_Mo_back_162 (lv_at hl 0 rfl) ?_
            refine y_zast hx hb hK hP hD hS 9 2 rfl rfl (by omega) (by decide) d_Mo_back_164 (fun H locs hP hD hS => ?_)
            have hP : va_P D classes (wM cI cB cZ b c u z L M C S F li tx gd (va_up nx i (gd i ∧ L pp ≤ M pp)) tm) H := hP
            have hD : va_D A (wM cI cB cZ b c u z L M C S F li tx gd (va_up nx i (gd i ∧ L pp ≤ M pp)) tm) := hD
            refine lv_iinc (v := (nI (i + 1))) (lv' := [(4, .int (nI (i + 1))), (5, .int (zb (gd i ∧ L pp ≤ M pp))), (3, .int (nI (len1 (C pp) (S pp)))), (0, .ref (b 0)), (1, .int (nI pp)), (2, .int (nI n))]) hx hb d_Mo_back_165 hl (k := 1) rfl (nI_add _ 1) (by decide) rfl (fun ls hl => ?_)
            refine lv_goto (tgt := 34) hx hb d_Mo_back_168 (by decide) ?_
            exact ih1 _ _ _ _ (by omega) ⟨i + 1, va_up nx i (gd i ∧ L pp ≤ M pp), rfl, hP, hD, hS, lv_sub hl [0, 2, 3, 4, 5] rfl, by omega, up_ext hv1_2 ⟨fun g => ⟨L pp, Nat.le_refl _, g.2, fun s hs => by
              rw [h1, Nat.mul_zero]
              exact st1_zero h1 (by omega), by rw [h1, Nat.mul_zero]; exact g.1⟩, fun ⟨t, g1, g2, g3, g4⟩ => ⟨by rw [h1, Nat.mul_zero] at g4; exact g4, by omega⟩⟩⟩
          · refine lv_aload_n hx hb d_Mo_back_47 rfl (lv_at hl 3 rfl) ?_
            refine va_get (D := D) (ci := 3) (v := .ref (b 8)) (C := R_Mo) (T := F_Mo) (N := 13) hx hb hT i_Mo hown hK hP 0 rfl rfl 10 (by decide) (hT _ tw_k190) (fun _ h9 => h9) rfl d_Mo_back_48 ?_
            refine lv_iload hx hb d_Mo_back_51 (lv_at hl 1 rfl) ?_
            refine y_zald hx hb hK hP 8 2 rfl rfl (by omega) (by decide) d_Mo_back_53 ?_
            refine y_ifeq (tgt := 76) hx hb d_Mo_back_54 (by decide) (fun h4 => ?_) (fun h4 => ?_)
            · refine lv_iconst (v := nI 0) hx hb d_Mo_back_76 (by decide) ?_
              exact y_to (z0 (fun g => h4 g.1)) hj
            · refine lv_aload_n hx hb d_Mo_back_57 rfl (lv_at hl 3 rfl) ?_
              refine va_get (D := D) (ci := 3) (v := .ref (b 1)) (C := R_Mo) (T := F_Mo) (N := 13) hx hb hT i_Mo hown hK hP 0 rfl rfl 1 (by decide) (hT _ tw_k181) (fun _ h9 => h9) rfl d_Mo_back_58 ?_
              refine lv_iload_n hx hb d_Mo_back_61 rfl (lv_at hl 4 rfl) ?_
              refine y_iald hx hb hK hP 1 0 rfl rfl (by omega) (by decide) d_Mo_back_62 ?_
              refine lv_aload_n hx hb d_Mo_back_63 rfl (lv_at hl 3 rfl) ?_
              refine va_get (D := D) (ci := 3) (v := .ref (b 2)) (C := R_Mo) (T := F_Mo) (N := 13) hx hb hT i_Mo hown hK hP 0 rfl rfl 2 (by decide) (hT _ tw_k182) (fun _ h9 => h9) rfl d_Mo_back_64 ?_
              refine lv_iload_n hx hb d_Mo_back_67 rfl (lv_at hl 4 rfl) ?_
              refine y_iald hx hb hK hP 2 0 rfl rfl (by omega) (by decide) d_Mo_back_68 ?_
              refine y_icmp_gt (tgt := 76) hx hb (by omega) (by omega) d_Mo_back_69 (by decide) (fun h5 => ?_) (fun h5 => ?_)
              · refine lv_iconst (v := nI 0) hx hb d_Mo_back_76 (by decide) ?_
                exact y_to (z0 (fun g => absurd g.2 (by omega))) hj
              · refine lv_iconst (v := nI 1) hx hb d_Mo_back_72 (by decide) ?_
                refine lv_goto (tgt := 77) hx hb d_Mo_back_73 (by decide) ?_
                exact y_to (z1 (⟨h4, h5⟩)) hj
    · refine lv_aload_n hx hb d_Mo_back_24 rfl (lv_at hl 1 rfl) ?_
      refine lv_iload_n hx hb d_Mo_back_25 rfl (lv_at hl 2 rfl) ?_
      refine lv_iload_n hx hb d_Mo_back_26 rfl (lv_at hl 0 rfl) ?_
      refine lv_iload_n hx hb d_Mo_back_27 rfl (lv_at hl 3 rfl) ?_
      refine y_v (w0 := (wM cI cB cZ b c u z L M C S F li tx gd nx tm)) (wr := []) hP hD hS hA [0, 1, 2, 3, 4, 5, 6, 7, 8, 9, 10] [] rfl rfl (by decide) (by decide) (y_runV (n := 3) (rm := { frames := 2, cells := 0, slots := 0, locals := 45 }) (w0 := (wM cI cB cZ b c u z L M C S F li tx gd nx tm)) (q0 := 0) (b := b 0) (As := [.int (nI pp), .int (nI (len1 (C pp) (S pp))), .int (nI n)]) (rest := []) hx hb hml hown hT hN hK hP hD (c_Mo_tally l D cI cB cZ b c u z L M C S F li tx gd nx tm pp n hp hn hC hFS h1 _) ⟨tw_k265, tw_k10, tw_k262, by decide +kernel⟩ ⟨tw_k264, tw_k4⟩ [0, 1, 2, 3, 4, 5, 6, 7, 8, 9, 10] rfl (by decide) rfl rfl ⟨Nat.le_of_ble_eq_true rfl, Nat.le_of_ble_eq_true rfl⟩ rfl hl.1 rfl (Nat.le_of_ble_eq_true rfl) d_Mo_back_28 ⟨Nat.le_of_ble_eq_true rfl, Nat.le_of_ble_eq_true rfl⟩) (fun tm H locs htm hP hD hS => ?_)
      have hP : va_P D classes (wM cI cB cZ b c u z L M C S F li tx gd nx tm) H := hP
      have hD : va_D A (wM cI cB cZ b c u z L M C S F li tx gd nx tm) := hD
      refine lv_iconst (v := nI 0) hx hb d_Mo_back_31 (by decide) ?_
      refine lv_istore (lv' := [(4, .int (nI 0)), (3, .int (nI (len1 (C pp) (S pp)))), (0, .ref (b 0)), (1, .int (nI pp)), (2, .int (nI n))]) hx hb d_Mo_back_32 hl (by decide) rfl (fun ls hl => ?_)
      refine y_loop (fun n_ H locs ls => ∃ (i : Nat) (nx : Nat → Prop), n_ = n + 1 - i ∧ va_P D classes (wM cI cB cZ b c u z L M C S F li tx gd nx tm) H ∧ va_D A (wM cI cB cZ b c u z L M C S F li tx gd nx tm) ∧ va_S A s.heap H locs ∧ lv_has ls 8 [(4, .int (nI i)), (3, .int (nI (len1 (C pp) (S pp)))), (0, .ref (b 0)), (1, .int (nI pp)), (2, .int (nI n))] ∧ (i ≤ n + 1) ∧ (∀ j, j < i → (nx j ↔ bk1 (L pp) (M pp) (C pp) (S pp) (F pp) li tx n gd j))) (n + 1 - 0) ⟨0, nx, rfl, hP, hD, hS, lv_sub hl [0, 1, 2, 3, 4] rfl, Nat.zero_le _, fun j hj => absurd hj (Nat.not_lt_zero j)⟩ (fun n_ H locs ls hI1 ih1 => ?_)
      obtain ⟨i, nx, hn1, hP, hD, hS, hl, hv1_1, hv1_2⟩ := hI1
      refine lv_iload hx hb d_Mo_back_34 (lv_at hl 0 rfl) ?_
      refine lv_iload_n hx hb d_Mo_back_36 rfl (lv_at hl 4 rfl) ?_
      refine y_icmp_gt (tgt := 171) hx hb (by omega) (by omega) d_Mo_back_37 (by decide) (fun h2 => ?_) (fun h2 => ?_)
      · refine lv_iconst (v := nI 0) hx hb d_Mo_back_171 (by decide) ?_
        refine lv_istore (lv' := [(4, .int (nI 0)), (3, .int (nI (len1 (C pp) (S pp)))), (0, .ref (b 0)), (1, .int (nI pp)), (2, .int (nI n))]) hx hb d_Mo_back_172 hl (by decide) rfl (fun ls hl => ?_)
        refine y_loop (fun n_ H locs ls => ∃ (i : Nat) (gd2 : Nat → Prop), n_ = n + 1 - i ∧ va_P D classes (wM cI cB cZ b c u z L M C S F li tx gd2 nx tm) H ∧ va_D A (wM cI cB cZ b c u z L M C S F li tx gd2 nx tm) ∧ va_S A s.heap H locs ∧ lv_has ls 8 [(4, .int (nI i)), (3, .int (nI (len1 (C pp) (S pp)))), (0, .ref (b 0)), (1, .int (nI pp)), (2, .int (nI n))] ∧ (i ≤ n + 1) ∧ (∀ j, j < i → (gd2 j ↔ nx j))) (n + 1 - 0) ⟨0, gd, rfl, hP, hD, hS, lv_sub hl [0, 1, 2, 3, 4] rfl, Nat.zero_le _, fun j hj => absurd hj (Nat.not_lt_zero j)⟩ (fun n_ H locs ls hI3 ih3 => ?_)
        obtain ⟨i, gd2, hn3, hP, hD, hS, hl, hv3_1, hv3_2⟩ := hI3
        refine lv_iload hx hb d_Mo_back_174 (lv_at hl 0 rfl) ?_
        refine lv_iload_n hx hb d_Mo_back_176 rfl (lv_at hl 4 rfl) ?_
        refine y_icmp_gt (tgt := 200) hx hb (by omega) (by omega) d_Mo_back_177 (by decide) (fun h7 => ?_) (fun h7 => ?_)
        · exact y_vret hx hb hr hlocks hK (gd2, nx, tm) hP hD hS (fun k hk => (hv3_2 k (by omega)).trans (hv1_2 k (by omega))) d_Mo_back_200
        · refine lv_aload_n hx hb d_Mo_back_180 rfl (lv_at hl 2 rfl) ?_
          refine va_get (D := D) (ci := 3) (v := .ref (b 8)) (C := R_Mo) (T := F_Mo) (N := 13) hx hb hT i_Mo hown hK hP 0 rfl rfl 10 (by decide) (hT _ tw_k190) (fun _ h9 => h9) rfl d_Mo_back_181 ?_
          refine lv_iload hx hb d_Mo_back_184 (lv_at hl 0 rfl) ?_
          refine lv_aload_n hx hb d_Mo_back_186 rfl (lv_at hl 2 rfl) ?_
          refine va_get (D := D) (ci := 3) (v := .ref (b 9)) (C := R_Mo) (T := F_Mo) (N := 13) hx hb hT i_Mo hown hK hP 0 rfl rfl 11 (by decide) (hT _ tw_k191) (fun _ h9 => h9) rfl d_Mo_back_187 ?_
          refine lv_iload hx hb d_Mo_back_190 (lv_at hl 0 rfl) ?_
          refine y_zald hx hb hK hP 9 2 rfl rfl (by omega) (by decide) d_Mo_back_192 ?_
          refine y_zast hx hb hK hP hD hS 8 2 rfl rfl (by omega) (by decide) d_Mo_back_193 (fun H locs hP hD hS => ?_)
          have hP : va_P D classes (wM cI cB cZ b c u z L M C S F li tx (va_up gd2 i (nx i)) nx tm) H := hP
          have hD : va_D A (wM cI cB cZ b c u z L M C S F li tx (va_up gd2 i (nx i)) nx tm) := hD
          refine lv_iinc (v := (nI (i + 1))) (lv' := [(4, .int (nI (i + 1))), (3, .int (nI (len1 (C pp) (S pp)))), (0, .ref (b 0)), (1, .int (nI pp)), (2, .int (nI n))]) hx hb d_Mo_back_194 hl (k := 0) rfl (nI_add _ 1) (by decide) rfl (fun ls hl => ?_)
          refine lv_goto (tgt := 174) hx hb d_Mo_back_197 (by decide) ?_
          exact ih3 _ _ _ _ (by omega) ⟨i + 1, va_up gd2 i (nx i), rfl, hP, hD, hS, lv_sub hl [0, 1, 2, 3, 4] rfl, by omega, up_ext hv3_2 Iff.rfl⟩
      · refine lv_iconst (v := nI 0) hx hb d_Mo_back_40 (by decide) ?_
        refine y_to (z0 (P := False) not_false) ?_
        refine lv_istore (lv' := [(5, .int (zb False)), (4, .int (nI i)), (3, .int (nI (len1 (C pp) (S pp)))), (0, .ref (b 0)), (1, .int (nI pp)), (2, .int (nI n))]) hx hb d_Mo_back_41 hl (by decide) rfl (fun ls hl => ?_)
        refine lv_iload_n hx hb d_Mo_back_43 rfl (lv_at hl 2 rfl) ?_
        refine y_if_ne (tgt := 82) hx hb (by have := len1_lt (C pp) (S pp); omega) d_Mo_back_44 (by decide) (fun h3 => ?_) (fun h3 => ?_)
        · have hti : ∀ t, t ≤ tm i ↔ run_ (st1 (C pp) (S pp) (F pp) li tx n) (len1 (C pp) (S pp)) t i := htm i (by omega)
          have htn : tm i ≤ n := run_le (fun _ => st1_end) h1 (by omega) ((hti (tm i)).mp (Nat.le_refl _))
          obtain ⟨la, hm1, hm2, hm3, hm4⟩ : ∃ la, la ≤ tm i ∧ la ≤ M pp ∧ (M pp ≤ tm i → M pp = la) ∧ (tm i < M pp → tm i = la) := ⟨min (tm i) (M pp), by omega, by omega, by omega, by omega⟩
          refine y_join (pcj := 114) (stj := [.int (nI la)]) ?_ (fun hj => ?_)
          · refine lv_istore (lv' := [(6, .int (nI la)), (5, .int (zb False)), (4, .int (nI i)), (3, .int (nI (len1 (C pp) (S pp)))), (0, .ref (b 0)), (1, .int (nI pp)), (2, .int (nI n))]) hx hb d_Mo_back_114 hl (by decide) rfl (fun ls hl => ?_)
            refine lv_aload_n hx hb d_Mo_back_116 rfl (lv_at hl 4 rfl) ?_
            refine va_get (D := D) (ci := 3) (v := .ref (b 1)) (C := R_Mo) (T := F_Mo) (N := 13) hx hb hT i_Mo hown hK hP 0 rfl rfl 1 (by decide) (hT _ tw_k181) (fun _ h9 => h9) rfl d_Mo_back_117 ?_
            refine lv_iload_n hx hb d_Mo_back_120 rfl (lv_at hl 5 rfl) ?_
            refine y_iald hx hb hK hP 1 0 rfl rfl (by omega) (by decide) d_Mo_back_121 ?_
            refine lv_istore (lv' := [(7, .int (nI (L pp))), (6, .int (nI la)), (5, .int (zb False)), (4, .int (nI i)), (3, .int (nI (len1 (C pp) (S pp)))), (0, .ref (b 0)), (1, .int (nI pp)), (2, .int (nI n))]) hx hb d_Mo_back_122 hl (by decide) rfl (fun ls hl => ?_)
            refine y_loop (fun n_ H locs ls => ∃ (t : Nat) (is : Prop), n_ = la + 1 - t ∧ va_P D classes (wM cI cB cZ b c u z L M C S F li tx gd nx tm) H ∧ va_D A (wM cI cB cZ b c u z L M C S F li tx gd nx tm) ∧ va_S A s.heap H locs ∧ lv_has ls 8 [(7, .int (nI t)), (6, .int (nI la)), (5, .int (zb is)), (4, .int (nI i)), (3, .int (nI (len1 (C pp) (S pp)))), (0, .ref (b 0)), (1, .int (nI pp)), (2, .int (nI n))] ∧ (L pp ≤ t) ∧ (t ≤ 256) ∧ (is ↔ ∃ t2, L pp ≤ t2 ∧ t2 < t ∧ t2 ≤ la ∧ gd (i + t2 * (len1 (C pp) (S pp))))) (la + 1 - L pp) ⟨L pp, False, rfl, hP, hD, hS, lv_sub hl [0, 1, 2, 3, 4, 5, 6, 7] rfl, Nat.le_refl _, by omega, ⟨False.elim, fun ⟨t2, g1, g2, _⟩ => by omega⟩⟩ (fun n_ H locs ls hI2 ih2 => ?_)
            obtain ⟨t, is, hn2, hP, hD, hS, hl, hv2_1, hv2_2, hv2_3⟩ := hI2
            refine lv_iload hx hb d_Mo_back_124 (lv_at hl 0 rfl) ?_
            refine lv_iload hx hb d_Mo_back_126 (lv_at hl 1 rfl) ?_
            refine y_icmp_gt (tgt := 156) hx hb (by omega) (by omega) d_Mo_back_128 (by decide) (fun h5 => ?_) (fun h5 => ?_)
            · refine lv_aload_n hx hb d_Mo_back_156 rfl (lv_at hl 5 rfl) ?_
              refine va_get (D := D) (ci := 3) (v := .ref (b 9)) (C := R_Mo) (T := F_Mo) (N := 13) hx hb hT i_Mo hown hK hP 0 rfl rfl 11 (by decide) (hT _ tw_k191) (fun _ h9 => h9) rfl d_Mo_back_157 ?_
              refine lv_iload hx hb d_Mo_back_160 (lv_at hl 3 rfl) ?_
              refine lv_iload hx hb d_Mo_back_162 (lv_at hl 2 rfl) ?_
              refine y_zast hx hb hK hP hD hS 9 2 rfl rfl (by omega) (by decide) d_Mo_back_164 (fun H locs hP hD hS => ?_)
              have hP : va_P D classes (wM cI cB cZ b c u z L M C S F li tx gd (va_up nx i is) tm) H := hP
              have hD : va_D A (wM cI cB cZ b c u z L M C S F li tx gd (va_up nx i is) tm) := hD
              refine lv_iinc (v := (nI (i + 1))) (lv' := [(4, .int (nI (i + 1))), (7, .int (nI t)), (6, .int (nI la)), (5, .int (zb is)), (3, .int (nI (len1 (C pp) (S pp)))), (0, .ref (b 0)), (1, .int (nI pp)), (2, .int (nI n))]) hx hb d_Mo_back_165 hl (k := 3) rfl (nI_add _ 1) (by decide) rfl (fun ls hl => ?_)
              refine lv_goto (tgt := 34) hx hb d_Mo_back_168 (by decide) ?_
              exact ih1 _ _ _ _ (by omega) ⟨i + 1, va_up nx i is, rfl, hP, hD, hS, lv_sub hl [0, 4, 5, 6, 7] rfl, by omega, up_ext hv1_2 ⟨fun g => by
                obtain ⟨t2, g1, g2, g3, g4⟩ := hv2_3.mp g
                exact ⟨t2, g1, by omega, (hti t2).mp (by omega), g4⟩, fun ⟨t2, g1, g2, g3, g4⟩ => hv2_3.mpr ⟨t2, g1, by have := (hti t2).mpr g3; omega, by have := (hti t2).mpr g3; omega, g4⟩⟩⟩
            · refine lv_iload hx hb d_Mo_back_131 (lv_at hl 2 rfl) ?_
              refine y_ifne (tgt := 156) hx hb d_Mo_back_133 (by decide) (fun h6 => ?_) (fun h6 => ?_)
              · refine lv_aload_n hx hb d_Mo_back_156 rfl (lv_at hl 5 rfl) ?_
                refine va_get (D := D) (ci := 3) (v := .ref (b 9)) (C := R_Mo) (T := F_Mo) (N := 13) hx hb hT i_Mo hown hK hP 0 rfl rfl 11 (by decide) (hT _ tw_k191) (fun _ h9 => h9) rfl d_Mo_back_157 ?_
                refine lv_iload hx hb d_Mo_back_160 (lv_at hl 3 rfl) ?_
                refine lv_iload hx hb d_Mo_back_162 (lv_at hl 2 rfl) ?_
                refine y_zast hx hb hK hP hD hS 9 2 rfl rfl (by omega) (by decide) d_Mo_back_164 (fun H locs hP hD hS => ?_)
                have hP : va_P D classes (wM cI cB cZ b c u z L M C S F li tx gd (va_up nx i is) tm) H := hP
                have hD : va_D A (wM cI cB cZ b c u z L M C S F li tx gd (va_up nx i is) tm) := hD
                refine lv_iinc (v := (nI (i + 1))) (lv' := [(4, .int (nI (i + 1))), (7, .int (nI t)), (6, .int (nI la)), (5, .int (zb is)), (3, .int (nI (len1 (C pp) (S pp)))), (0, .ref (b 0)), (1, .int (nI pp)), (2, .int (nI n))]) hx hb d_Mo_back_165 hl (k := 3) rfl (nI_add _ 1) (by decide) rfl (fun ls hl => ?_)
                refine lv_goto (tgt := 34) hx hb d_Mo_back_168 (by decide) ?_
                exact ih1 _ _ _ _ (by omega) ⟨i + 1, va_up nx i is, rfl, hP, hD, hS, lv_sub hl [0, 4, 5, 6, 7] rfl, by omega, up_ext hv1_2 ⟨fun g => by
                  obtain ⟨t2, g1, g2, g3, g4⟩ := hv2_3.mp g
                  exact ⟨t2, g1, by omega, (hti t2).mp (by omega), g4⟩, fun ⟨t2, g1, g2, g3, g4⟩ => h6⟩⟩
              · have hie : i + t * (len1 (C pp) (S pp)) ≤ n := run_end (fun _ => st1_end) (by omega) ((hti t).mp (by omega))
                refine lv_aload_n hx hb d_Mo_back_136 rfl (lv_at hl 5 rfl) ?_
                refine va_get (D := D) (ci := 3) (v := .ref (b 8)) (C := R_Mo) (T := F_Mo) (N := 13) hx hb hT i_Mo hown hK hP 0 rfl rfl 10 (by decide) (hT _ tw_k190) (fun _ h9 => h9) rfl d_Mo_back_137 ?_
                refine lv_iload hx hb d_Mo_back_140 (lv_at hl 3 rfl) ?_
                refine lv_iload hx hb d_Mo_back_142 (lv_at hl 0 rfl) ?_
                refine lv_iload_n hx hb d_Mo_back_144 rfl (lv_at hl 4 rfl) ?_
                refine y_imul hx hb d_Mo_back_145 ?_
                refine y_iadd hx hb d_Mo_back_146 ?_
                refine y_zald hx hb hK hP 8 2 rfl rfl (by omega) (by decide) d_Mo_back_147 ?_
                refine lv_istore (lv' := [(5, .int (zb (gd (i + (t * (len1 (C pp) (S pp))))))), (7, .int (nI t)), (6, .int (nI la)), (4, .int (nI i)), (3, .int (nI (len1 (C pp) (S pp)))), (0, .ref (b 0)), (1, .int (nI pp)), (2, .int (nI n))]) hx hb d_Mo_back_148 hl (by decide) rfl (fun ls hl => ?_)
                refine lv_iinc (v := (nI (t + 1))) (lv' := [(7, .int (nI (t + 1))), (5, .int (zb (gd (i + (t * (len1 (C pp) (S pp))))))), (6, .int (nI la)), (4, .int (nI i)), (3, .int (nI (len1 (C pp) (S pp)))), (0, .ref (b 0)), (1, .int (nI pp)), (2, .int (nI n))]) hx hb d_Mo_back_150 hl (k := 1) rfl (nI_add _ 1) (by decide) rfl (fun ls hl => ?_)
                refine lv_goto (tgt := 124) hx hb d_Mo_back_153 (by decide) ?_
                exact ih2 _ _ _ _ (by omega) ⟨t + 1, (gd (i + t * (len1 (C pp) (S pp)))), rfl, hP, hD, hS, lv_sub hl [0, 2, 1, 3, 4, 5, 6, 7] rfl, by omega, by omega, ⟨fun g => ⟨t, hv2_1, Nat.lt_succ_self t, h5, g⟩, fun ⟨t2, g1, g2, g3, g4⟩ => by
                  rcases Nat.eq_or_lt_of_le (Nat.le_of_lt_succ g2) with e | e
                  · rw [← e]; exact g4
                  · exact absurd (hv2_3.mpr ⟨t2, g1, e, g3, g4⟩) h6⟩⟩
          · refine lv_aload_n hx hb d_Mo_back_82 rfl (lv_at hl 3 rfl) ?_
            refine va_get (D := D) (ci := 3) (v := .ref (b 10)) (C := R_Mo) (T := F_Mo) (N := 13) hx hb hT i_Mo hown hK hP 0 rfl rfl 12 (by decide) (hT _ tw_k192) (fun _ h9 => h9) rfl d_Mo_back_83 ?_
            refine lv_iload hx hb d_Mo_back_86 (lv_at hl 1 rfl) ?_
            refine y_iald hx hb hK hP 10 0 rfl rfl (by omega) (by decide) d_Mo_back_88 ?_
            refine lv_aload_n hx hb d_Mo_back_89 rfl (lv_at hl 3 rfl) ?_
            refine va_get (D := D) (ci := 3) (v := .ref (b 2)) (C := R_Mo) (T := F_Mo) (N := 13) hx hb hT i_Mo hown hK hP 0 rfl rfl 2 (by decide) (hT _ tw_k182) (fun _ h9 => h9) rfl d_Mo_back_90 ?_
            refine lv_iload_n hx hb d_Mo_back_93 rfl (lv_at hl 4 rfl) ?_
            refine y_iald hx hb hK hP 2 0 rfl rfl (by omega) (by decide) d_Mo_back_94 ?_
            refine y_icmp_ge (tgt := 108) hx hb (by omega) (by omega) d_Mo_back_95 (by decide) (fun h4 => ?_) (fun h4 => ?_)
            · refine lv_aload_n hx hb d_Mo_back_108 rfl (lv_at hl 3 rfl) ?_
              refine va_get (D := D) (ci := 3) (v := .ref (b 2)) (C := R_Mo) (T := F_Mo) (N := 13) hx hb hT i_Mo hown hK hP 0 rfl rfl 2 (by decide) (hT _ tw_k182) (fun _ h9 => h9) rfl d_Mo_back_109 ?_
              refine lv_iload_n hx hb d_Mo_back_112 rfl (lv_at hl 4 rfl) ?_
              refine y_iald hx hb hK hP 2 0 rfl rfl (by omega) (by decide) d_Mo_back_113 ?_
              exact y_to (by rw [hm3 h4]) hj
            · refine lv_aload_n hx hb d_Mo_back_98 rfl (lv_at hl 3 rfl) ?_
              refine va_get (D := D) (ci := 3) (v := .ref (b 10)) (C := R_Mo) (T := F_Mo) (N := 13) hx hb hT i_Mo hown hK hP 0 rfl rfl 12 (by decide) (hT _ tw_k192) (fun _ h9 => h9) rfl d_Mo_back_99 ?_
              refine lv_iload hx hb d_Mo_back_102 (lv_at hl 1 rfl) ?_
              refine y_iald hx hb hK hP 10 0 rfl rfl (by omega) (by decide) d_Mo_back_104 ?_
              refine lv_goto (tgt := 114) hx hb d_Mo_back_105 (by decide) ?_
              exact y_to (by rw [hm4 h4]) hj
        · exact absurd h3 (Nat.ne_of_gt h1)
  · refine lv_aload_n hx hb d_Mo_back_0 rfl (lv_at hl 0 rfl) ?_
    refine va_get (D := D) (ci := 3) (v := .ref (b 3)) (C := R_Mo) (T := F_Mo) (N := 13) hx hb hT i_Mo hown hK hP 0 rfl rfl 3 (by decide) (hT _ tw_k183) (fun _ h9 => h9) rfl d_Mo_back_1 ?_
    refine lv_iload_n hx hb d_Mo_back_4 rfl (lv_at hl 1 rfl) ?_
    refine y_iald hx hb hK hP 3 0 rfl rfl (by omega) (by decide) d_Mo_back_5 ?_
    refine y_if_le (tgt := 13) hx hb (by omega) d_Mo_back_6 (by decide) (fun h0 => ?_) (fun h0 => ?_)
    · refine lv_aload_n hx hb d_Mo_back_13 rfl (lv_at hl 0 rfl) ?_
      refine va_get (D := D) (ci := 3) (v := .ref (b 4)) (C := R_Mo) (T := F_Mo) (N := 13) hx hb hT i_Mo hown hK hP 0 rfl rfl 4 (by decide) (hT _ tw_k184) (fun _ h9 => h9) rfl d_Mo_back_14 ?_
      refine lv_iload_n hx hb d_Mo_back_17 rfl (lv_at hl 1 rfl) ?_
      refine y_iald hx hb hK hP 4 0 rfl rfl (by omega) (by decide) d_Mo_back_18 ?_
      exact y_to (by unfold len1; rw [if_pos h0]) hj
    · refine lv_iconst (v := nI 1) hx hb d_Mo_back_9 (by decide) ?_
      refine lv_goto (tgt := 19) hx hb d_Mo_back_10 (by decide) ?_
      exact y_to (by unfold len1; rw [if_neg (Nat.ne_of_gt h0)]) hj

set_option maxHeartbeats 4000000 in
set_option maxRecDepth 100000 in
/-- PatternSieveModel.fitsFirst -/
theorem c_Mo_fitsFirst (l : Launch) (D : va_G) (cI cB cZ : ClassId) (b : Nat → Nat) (c u z : Nat) (L M C S F : Nat → Nat) (li tx : Nat → Int8) (gd nx : Nat → Prop) (tm : Nat → Nat) (n : Nat) (hc : c ≤ 60) (hn : n ≤ 255) (hL : ∀ k, L k ≤ 255) (hM : ∀ k, M k ≤ 255) (hC : ∀ k, C k < 128) (hFS : ∀ k, k < c → F k + S k ≤ 255) (sz : Nat) : Met l y_Mo_fitsFirst cw_Mo_fitsFirst ({ frames := 4, cells := 0, slots := 0, locals := 96 }) (va_Pc [.ref (b 0), .int (nI n)] (Bp D cI cB cZ (wM cI cB cZ b c u z L M C S F li tx gd nx tm) sz)) (va_Qi (S := (Nat → Prop) × (Nat → Prop) × (Nat → Nat)) (fun r _ => r = zb (Bk L M C F S li tx n c c 0)) (fun v_ => Bq D cI cB cZ (va_A (wM cI cB cZ b c u z L M C S F li tx gd nx tm) sz) ((wM cI cB cZ b c u z L M C S F li tx v_.1 v_.2.1 v_.2.2))) (va_A (wM cI cB cZ b c u z L M C S F li tx gd nx tm) sz)) 0 0 (va_A (wM cI cB cZ b c u z L M C S F li tx gd nx tm) sz) := by
  refine Met.ofW (cc := b_Mo_fitsFirst) (maxL := 3) (ret := (some FieldType.boolean)) (by decide) rfl ?_
  intro p e s m args below meth c1 s₁ B hml hv
  obtain ⟨rfl, hsz, hP, hK, hD0, hN⟩ := hv
  subst hsz
  have hx := B.exec
  have hb := B.bytes
  have hr := B.returns
  have hT : ∀ w ∈ tw_, w.before _ s = true := fun w h => atoms_spec (ws := cw_Mo_fitsFirst) B.pre w (List.mem_cons_of_mem _ h)
  have hown : s.vm.findClass R_Mo = some m.cls := findClass_of_methodNamed B.named
  have hlocks := B.notSynchronized
  have hD := hD0.self (sz := s.heap.size)
  generalize hAe : va_A (wM cI cB cZ b c u z L M C S F li tx gd nx tm) s.heap.size = A at hD ⊢
  have hA : ∀ q : Nat, s.heap.size ≤ q → A q := fun q h => by rw [← hAe]; exact Or.inr h
  have hS : va_S A s.heap s.heap [] := va_S.rf
  have hl := lv_entry ([.ref (b 0), .int (nI n)]) (n := 3) (Nat.le_of_ble_eq_true rfl)
  rw [lg_entry_eq]
  generalize (lg_sl ([.ref (b 0), .int (nI n)]) ++ List.replicate (3 - (lg_sl ([.ref (b 0), .int (nI n)])).length) Slot.unset).toArray = ls at hl ⊢
  have hl : lv_has ls 3 [(0, .ref (b 0)), (1, .int (nI n))] := hl
  refine lv_iconst (v := nI 0) hx hb d_Mo_fitsFirst_0 (by decide) ?_
  refine lv_istore_n (lv' := [(2, .int (nI 0)), (0, .ref (b 0)), (1, .int (nI n))]) hx hb d_Mo_fitsFirst_1 rfl hl (by decide) rfl (fun ls hl => ?_)
  refine y_loop (fun n_ H locs ls => ∃ (k : Nat) (gd : Nat → Prop), n_ = n + 1 - k ∧ va_P D classes (wM cI cB cZ b c u z L M C S F li tx gd nx tm) H ∧ va_D A (wM cI cB cZ b c u z L M C S F li tx gd nx tm) ∧ va_S A s.heap H locs ∧ lv_has ls 3 [(2, .int (nI k)), (0, .ref (b 0)), (1, .int (nI n))] ∧ (k ≤ n + 1) ∧ (∀ j, j < k → (gd j ↔ j = n))) (n + 1 - 0) ⟨0, gd, rfl, hP, hD, hS, lv_sub hl [0, 1, 2] rfl, Nat.zero_le _, fun j hj => absurd hj (Nat.not_lt_zero j)⟩ (fun n_ H locs ls hI1 ih1 => ?_)
  obtain ⟨k, gd, hn1, hP, hD, hS, hl, hv1_1, hv1_2⟩ := hI1
  refine lv_iload_n hx hb d_Mo_fitsFirst_2 rfl (lv_at hl 0 rfl) ?_
  refine lv_iload_n hx hb d_Mo_fitsFirst_3 rfl (lv_at hl 2 rfl) ?_
  refine y_icmp_gt (tgt := 29) hx hb (by omega) (by omega) d_Mo_fitsFirst_4 (by decide) (fun h1 => ?_) (fun h1 => ?_)
  · refine lv_aload_n hx hb d_Mo_fitsFirst_29 rfl (lv_at hl 1 rfl) ?_
    refine va_get (D := D) (ci := 3) (v := .int (nI c)) (C := R_Mo) (T := F_Mo) (N := 13) hx hb hT i_Mo hown hK hP 0 rfl rfl 0 (by decide) (hT _ tw_k180) (fun _ h9 => h9) rfl d_Mo_fitsFirst_30 ?_
    refine lv_iconst (v := nI 1) hx hb d_Mo_fitsFirst_33 (by decide) ?_
    refine lv_isub hx hb d_Mo_fitsFirst_34 ?_
    refine y_to (show nI c - nI 1 = dn c from rfl) ?_
    refine lv_istore_n (lv' := [(2, .int (dn c)), (0, .ref (b 0)), (1, .int (nI n))]) hx hb d_Mo_fitsFirst_35 rfl hl (by decide) rfl (fun ls hl => ?_)
    refine y_loop (fun n_ H locs ls => ∃ (q : Nat) (gd nx : Nat → Prop) (tm : Nat → Nat), n_ = q ∧ va_P D classes (wM cI cB cZ b c u z L M C S F li tx gd nx tm) H ∧ va_D A (wM cI cB cZ b c u z L M C S F li tx gd nx tm) ∧ va_S A s.heap H locs ∧ lv_has ls 3 [(2, .int (dn q)), (0, .ref (b 0)), (1, .int (nI n))] ∧ (q ≤ c) ∧ (∀ k, k ≤ n → (gd k ↔ Bk L M C F S li tx n c (c - q) k))) (c) ⟨c, gd, nx, tm, rfl, hP, hD, hS, lv_sub hl [0, 1, 2] rfl, Nat.le_refl _, fun k hk => by rw [Nat.sub_self]; exact hv1_2 k (by omega)⟩ (fun n_ H locs ls hI2 ih2 => ?_)
    obtain ⟨q, gd, nx, tm, hn2, hP, hD, hS, hl, hv2_1, hv2_2⟩ := hI2
    refine lv_iload_n hx hb d_Mo_fitsFirst_36 rfl (lv_at hl 0 rfl) ?_
    refine y_dn (tgt := 52) hx hb (by omega) d_Mo_fitsFirst_37 (by decide) (fun hq => ?_) (fun j hq => ?_)
    · subst hq
      refine lv_aload_n hx hb d_Mo_fitsFirst_52 rfl (lv_at hl 1 rfl) ?_
      refine va_get (D := D) (ci := 3) (v := .ref (b 8)) (C := R_Mo) (T := F_Mo) (N := 13) hx hb hT i_Mo hown hK hP 0 rfl rfl 10 (by decide) (hT _ tw_k190) (fun _ h9 => h9) rfl d_Mo_fitsFirst_53 ?_
      refine lv_iconst (v := nI 0) hx hb d_Mo_fitsFirst_56 (by decide) ?_
      refine y_zald hx hb hK hP 8 2 rfl rfl (by omega) (by decide) d_Mo_fitsFirst_57 ?_
      exact y_zret hx hb hr hlocks hK (gd, nx, tm) hP hD hS (zb_iff (hv2_2 0 (Nat.zero_le n))) d_Mo_fitsFirst_58
    · subst hq
      rw [dn_s] at hl
      refine lv_aload_n hx hb d_Mo_fitsFirst_40 rfl (lv_at hl 1 rfl) ?_
      refine lv_iload_n hx hb d_Mo_fitsFirst_41 rfl (lv_at hl 0 rfl) ?_
      refine lv_iload_n hx hb d_Mo_fitsFirst_42 rfl (lv_at hl 2 rfl) ?_
      refine y_v (w0 := (wM cI cB cZ b c u z L M C S F li tx gd nx tm)) (wr := []) hP hD hS hA [0, 1, 2, 3, 4, 5, 6, 7, 8, 9, 10] [] rfl rfl (by decide) (by decide) (y_runV (n := 2) (rm := { frames := 3, cells := 0, slots := 0, locals := 69 }) (w0 := (wM cI cB cZ b c u z L M C S F li tx gd nx tm)) (q0 := 0) (b := b 0) (As := [.int (nI j), .int (nI n)]) (rest := []) hx hb hml hown hT hN hK hP hD (c_Mo_back l D cI cB cZ b c u z L M C S F li tx gd nx tm j n (by omega) hn (hC j) (hFS j (by omega)) (hL j) (hM j) _) ⟨tw_k261, tw_k10, tw_k258, by decide +kernel⟩ ⟨tw_k260, tw_k3⟩ [0, 1, 2, 3, 4, 5, 6, 7, 8, 9, 10] rfl (by decide) rfl rfl ⟨Nat.le_of_ble_eq_true rfl, Nat.le_of_ble_eq_true rfl⟩ rfl hl.1 rfl (Nat.le_of_ble_eq_true rfl) d_Mo_fitsFirst_43 ⟨Nat.le_of_ble_eq_true rfl, Nat.le_of_ble_eq_true rfl⟩) (fun v_ H locs hp hP hD hS => ?_)
      obtain ⟨gd2, nx2, tm2⟩ := v_
      have hP : va_P D classes (wM cI cB cZ b c u z L M C S F li tx gd2 nx2 tm2) H := hP
      have hD : va_D A (wM cI cB cZ b c u z L M C S F li tx gd2 nx2 tm2) := hD
      refine lv_iinc (v := (dn j)) (lv' := [(2, .int (dn j)), (0, .ref (b 0)), (1, .int (nI n))]) hx hb d_Mo_fitsFirst_46 hl (k := 0) rfl (dn_i _) (by decide) rfl (fun ls hl => ?_)
      refine lv_goto (tgt := 36) hx hb d_Mo_fitsFirst_49 (by decide) ?_
      exact ih2 _ _ _ _ (by omega) ⟨j, gd2, nx2, tm2, rfl, hP, hD, hS, lv_sub hl [0, 1, 2] rfl, by omega, fun k hk => (hp k hk).trans ((bk1_congr hk hv2_2).trans (by
        rw [show c - j = (c - (j + 1)) + 1 by omega]
        show _ ↔ bk1 _ _ _ _ _ _ _ _ _ _
        rw [show c - (c - (j + 1) + 1) = j by omega]))⟩
  · refine lv_aload_n hx hb d_Mo_fitsFirst_7 rfl (lv_at hl 1 rfl) ?_
    refine va_get (D := D) (ci := 3) (v := .ref (b 8)) (C := R_Mo) (T := F_Mo) (N := 13) hx hb hT i_Mo hown hK hP 0 rfl rfl 10 (by decide) (hT _ tw_k190) (fun _ h9 => h9) rfl d_Mo_fitsFirst_8 ?_
    refine lv_iload_n hx hb d_Mo_fitsFirst_11 rfl (lv_at hl 0 rfl) ?_
    refine y_join (pcj := 22) (stj := [.int (zb (k = n)), .int (nI k), .ref (b 8)]) ?_ (fun hj => ?_)
    · refine y_zast hx hb hK hP hD hS 8 2 rfl rfl (by omega) (by decide) d_Mo_fitsFirst_22 (fun H locs hP hD hS => ?_)
      have hP : va_P D classes (wM cI cB cZ b c u z L M C S F li tx (va_up gd k (k = n)) nx tm) H := hP
      have hD : va_D A (wM cI cB cZ b c u z L M C S F li tx (va_up gd k (k = n)) nx tm) := hD
      refine lv_iinc (v := (nI (k + 1))) (lv' := [(2, .int (nI (k + 1))), (0, .ref (b 0)), (1, .int (nI n))]) hx hb d_Mo_fitsFirst_23 hl (k := 0) rfl (nI_add _ 1) (by decide) rfl (fun ls hl => ?_)
      refine lv_goto (tgt := 2) hx hb d_Mo_fitsFirst_26 (by decide) ?_
      exact ih1 _ _ _ _ (by omega) ⟨k + 1, va_up gd k (k = n), rfl, hP, hD, hS, lv_sub hl [0, 1, 2] rfl, by omega, up_ext hv1_2 Iff.rfl⟩
    · refine lv_iload_n hx hb d_Mo_fitsFirst_12 rfl (lv_at hl 0 rfl) ?_
      refine lv_iload_n hx hb d_Mo_fitsFirst_13 rfl (lv_at hl 2 rfl) ?_
      refine y_icmp_ne (tgt := 21) hx hb (by omega) (by omega) d_Mo_fitsFirst_14 (by decide) (fun h2 => ?_) (fun h2 => ?_)
      · refine lv_iconst (v := nI 0) hx hb d_Mo_fitsFirst_21 (by decide) ?_
        exact y_to (z0 h2) hj
      · refine lv_iconst (v := nI 1) hx hb d_Mo_fitsFirst_17 (by decide) ?_
        refine lv_goto (tgt := 22) hx hb d_Mo_fitsFirst_18 (by decide) ?_
        exact y_to (z1 h2) hj

set_option maxHeartbeats 4000000 in
set_option maxRecDepth 100000 in
/-- PatternSieveModel.fits -/
theorem c_Mo_fits (l : Launch) (D : va_G) (cI cB cZ : ClassId) (b : Nat → Nat) (c u z : Nat) (L M C S F : Nat → Nat) (li tx : Nat → Int8) (gd nx : Nat → Prop) (tm : Nat → Nat) (hc : c ≤ 60) (hz : z ≤ 255) (hL : ∀ k, L k ≤ 255) (hM : ∀ k, M k ≤ 255) (hC : ∀ k, C k < 128) (hFS : ∀ k, k < c → F k + S k ≤ 255) (sz : Nat) : Met l y_Mo_fits cw_Mo_fits ({ frames := 5, cells := 0, slots := 0, locals := 118 }) (va_Pc [.ref (b 0)] (Bp D cI cB cZ (wM cI cB cZ b c u z L M C S F li tx gd nx tm) sz)) (va_Qi (S := (Nat → Prop) × (Nat → Prop) × (Nat → Nat)) (fun r _ => r = zb (Rc L M C F S li tx z c z)) (fun v_ => Bq D cI cB cZ (va_A (wM cI cB cZ b c u z L M C S F li tx gd nx tm) sz) ((wM cI cB cZ b c u z L M C S F li tx v_.1 v_.2.1 v_.2.2))) (va_A (wM cI cB cZ b c u z L M C S F li tx gd nx tm) sz)) 0 0 (va_A (wM cI cB cZ b c u z L M C S F li tx gd nx tm) sz) := by
  refine Met.ofW (cc := b_Mo_fits) (maxL := 1) (ret := (some FieldType.boolean)) (by decide) rfl ?_
  intro p e s m args below meth c1 s₁ B hml hv
  obtain ⟨rfl, hsz, hP, hK, hD0, hN⟩ := hv
  subst hsz
  have hx := B.exec
  have hb := B.bytes
  have hr := B.returns
  have hT : ∀ w ∈ tw_, w.before _ s = true := fun w h => atoms_spec (ws := cw_Mo_fits) B.pre w (List.mem_cons_of_mem _ h)
  have hown : s.vm.findClass R_Mo = some m.cls := findClass_of_methodNamed B.named
  have hlocks := B.notSynchronized
  have hD := hD0.self (sz := s.heap.size)
  generalize hAe : va_A (wM cI cB cZ b c u z L M C S F li tx gd nx tm) s.heap.size = A at hD ⊢
  have hA : ∀ q : Nat, s.heap.size ≤ q → A q := fun q h => by rw [← hAe]; exact Or.inr h
  have hS : va_S A s.heap s.heap [] := va_S.rf
  have hl := lv_entry ([.ref (b 0)]) (n := 1) (Nat.le_of_ble_eq_true rfl)
  rw [lg_entry_eq]
  generalize (lg_sl ([.ref (b 0)]) ++ List.replicate (1 - (lg_sl ([.ref (b 0)])).length) Slot.unset).toArray = ls at hl ⊢
  have hl : lv_has ls 1 [(0, .ref (b 0))] := hl
  refine lv_aload_n hx hb d_Mo_fits_0 rfl (lv_at hl 0 rfl) ?_
  refine lv_aload_n hx hb d_Mo_fits_1 rfl (lv_at hl 0 rfl) ?_
  refine va_get (D := D) (ci := 3) (v := .int (nI z)) (C := R_Mo) (T := F_Mo) (N := 13) hx hb hT i_Mo hown hK hP 0 rfl rfl 9 (by decide) (hT _ tw_k189) (fun _ h9 => h9) rfl d_Mo_fits_2 ?_
  refine y_i (w0 := (wM cI cB cZ b c u z L M C S F li tx gd nx tm)) (wr := []) hP hD hS hA [0, 1, 2, 3, 4, 5, 6, 7, 8, 9, 10] [] rfl rfl (by decide) (by decide) (y_runV (n := 1) (rm := { frames := 4, cells := 0, slots := 0, locals := 96 }) (w0 := (wM cI cB cZ b c u z L M C S F li tx gd nx tm)) (q0 := 0) (b := b 0) (As := [.int (nI z)]) (rest := []) hx hb hml hown hT hN hK hP hD (c_Mo_fitsFirst l D cI cB cZ b c u z L M C S F li tx gd nx tm z hc hz hL hM hC hFS _) ⟨tw_k257, tw_k10, tw_k254, by decide +kernel⟩ ⟨tw_k256, tw_k2⟩ [0, 1, 2, 3, 4, 5, 6, 7, 8, 9, 10] rfl (by decide) rfl rfl ⟨Nat.le_of_ble_eq_true rfl, Nat.le_of_ble_eq_true rfl⟩ rfl hl.1 rfl (Nat.le_of_ble_eq_true rfl) d_Mo_fits_5 ⟨Nat.le_of_ble_eq_true rfl, Nat.le_of_ble_eq_true rfl⟩) (fun r v_ H locs hp hP hD hS => ?_)
  obtain ⟨gd, nx, tm⟩ := v_
  have hP : va_P D classes (wM cI cB cZ b c u z L M C S F li tx gd nx tm) H := hP
  have hD : va_D A (wM cI cB cZ b c u z L M C S F li tx gd nx tm) := hD
  subst hp
  exact y_zret hx hb hr hlocks hK (gd, nx, tm) hP hD hS (zb_iff (fb (Nat.le_refl z)).symm) d_Mo_fits_8

set_option maxHeartbeats 4000000 in
set_option maxRecDepth 100000 in
/-- PatternSieveModel.prefix -/
theorem c_Mo_prefix (l : Launch) (D : va_G) (cI cB cZ : ClassId) (b : Nat → Nat) (c u z : Nat) (L M C S F : Nat → Nat) (li tx : Nat → Int8) (gd nx : Nat → Prop) (tm : Nat → Nat) (x : Int32) (hc : c ≤ 60) (hz : z ≤ 255) (hL : ∀ k, L k ≤ 255) (hM : ∀ k, M k ≤ 255) (hC : ∀ k, C k < 128) (hFS : ∀ k, k < c → F k + S k ≤ 255) (sz : Nat) : Met l y_Mo_prefix cw_Mo_prefix ({ frames := 5, cells := 0, slots := 0, locals := 118 }) (va_Pc [.ref (b 0), .int x] (Bp D cI cB cZ (wM cI cB cZ b c u z L M C S F li tx gd nx tm) sz)) (va_Qi (S := (Nat → Prop) × (Nat → Prop) × (Nat → Nat)) (fun r _ => r = zb (∃ n, n ≤ z ∧ x = nI n ∧ Rc L M C F S li tx z c n)) (fun v_ => Bq D cI cB cZ (va_A (wM cI cB cZ b c u z L M C S F li tx gd nx tm) sz) ((wM cI cB cZ b c u z L M C S F li tx v_.1 v_.2.1 v_.2.2))) (va_A (wM cI cB cZ b c u z L M C S F li tx gd nx tm) sz)) 0 0 (va_A (wM cI cB cZ b c u z L M C S F li tx gd nx tm) sz) := by
  refine Met.ofW (cc := b_Mo_prefix) (maxL := 2) (ret := (some FieldType.boolean)) (by decide) rfl ?_
  intro p e s m args below meth c1 s₁ B hml hv
  obtain ⟨rfl, hsz, hP, hK, hD0, hN⟩ := hv
  subst hsz
  have hx := B.exec
  have hb := B.bytes
  have hr := B.returns
  have hT : ∀ w ∈ tw_, w.before _ s = true := fun w h => atoms_spec (ws := cw_Mo_prefix) B.pre w (List.mem_cons_of_mem _ h)
  have hown : s.vm.findClass R_Mo = some m.cls := findClass_of_methodNamed B.named
  have hlocks := B.notSynchronized
  have hD := hD0.self (sz := s.heap.size)
  generalize hAe : va_A (wM cI cB cZ b c u z L M C S F li tx gd nx tm) s.heap.size = A at hD ⊢
  have hA : ∀ q : Nat, s.heap.size ≤ q → A q := fun q h => by rw [← hAe]; exact Or.inr h
  have hS : va_S A s.heap s.heap [] := va_S.rf
  have hl := lv_entry ([.ref (b 0), .int x]) (n := 2) (Nat.le_of_ble_eq_true rfl)
  rw [lg_entry_eq]
  generalize (lg_sl ([.ref (b 0), .int x]) ++ List.replicate (2 - (lg_sl ([.ref (b 0), .int x])).length) Slot.unset).toArray = ls at hl ⊢
  have hl : lv_has ls 2 [(0, .ref (b 0)), (1, .int x)] := hl
  refine lv_iload_n hx hb d_Mo_prefix_0 rfl (lv_at hl 1 rfl) ?_
  refine lv_if_lt (tgt := 24) hx hb d_Mo_prefix_1 (by decide) (fun h1 => ?_) (fun h1 => ?_)
  · refine lv_iconst (v := nI 0) hx hb d_Mo_prefix_24 (by decide) ?_
    refine y_to (z0 (P := False) not_false) ?_
    exact y_zret hx hb hr hlocks hK (gd, nx, tm) hP hD hS (zb_iff ⟨False.elim, fun ⟨n, g1, g2, _⟩ => by
      subst g2
      exact nI_pos (by omega) h1⟩) d_Mo_prefix_25
  · refine lv_iload_n hx hb d_Mo_prefix_4 rfl (lv_at hl 1 rfl) ?_
    refine lv_aload_n hx hb d_Mo_prefix_5 rfl (lv_at hl 0 rfl) ?_
    refine va_get (D := D) (ci := 3) (v := .int (nI z)) (C := R_Mo) (T := F_Mo) (N := 13) hx hb hT i_Mo hown hK hP 0 rfl rfl 9 (by decide) (hT _ tw_k189) (fun _ h9 => h9) rfl d_Mo_prefix_6 ?_
    refine lv_icmp_gt (tgt := 24) hx hb d_Mo_prefix_9 (by decide) (fun h2 => ?_) (fun h2 => ?_)
    · refine lv_iconst (v := nI 0) hx hb d_Mo_prefix_24 (by decide) ?_
      refine y_to (z0 (P := False) not_false) ?_
      exact y_zret hx hb hr hlocks hK (gd, nx, tm) hP hD hS (zb_iff ⟨False.elim, fun ⟨n, g1, g2, _⟩ => by
        subst g2
        have := (nI_ltI (by omega) (by omega)).mp h2
        omega⟩) d_Mo_prefix_25
    · obtain ⟨n, hn, rfl⟩ := nI_of2 (nI_toInt (by omega)) h1 (Int32.not_lt.mp h2)
      refine lv_aload_n hx hb d_Mo_prefix_12 rfl (lv_at hl 0 rfl) ?_
      refine lv_iload_n hx hb d_Mo_prefix_13 rfl (lv_at hl 1 rfl) ?_
      refine y_i (w0 := (wM cI cB cZ b c u z L M C S F li tx gd nx tm)) (wr := []) hP hD hS hA [0, 1, 2, 3, 4, 5, 6, 7, 8, 9, 10] [] rfl rfl (by decide) (by decide) (y_runV (n := 1) (rm := { frames := 4, cells := 0, slots := 0, locals := 96 }) (w0 := (wM cI cB cZ b c u z L M C S F li tx gd nx tm)) (q0 := 0) (b := b 0) (As := [.int (nI n)]) (rest := []) hx hb hml hown hT hN hK hP hD (c_Mo_fitsFirst l D cI cB cZ b c u z L M C S F li tx gd nx tm n hc (by omega) hL hM hC hFS _) ⟨tw_k257, tw_k10, tw_k254, by decide +kernel⟩ ⟨tw_k256, tw_k2⟩ [0, 1, 2, 3, 4, 5, 6, 7, 8, 9, 10] rfl (by decide) rfl rfl ⟨Nat.le_of_ble_eq_true rfl, Nat.le_of_ble_eq_true rfl⟩ rfl hl.1 rfl (Nat.le_of_ble_eq_true rfl) d_Mo_prefix_14 ⟨Nat.le_of_ble_eq_true rfl, Nat.le_of_ble_eq_true rfl⟩) (fun r v_ H locs hp hP hD hS => ?_)
      obtain ⟨gd, nx, tm⟩ := v_
      have hP : va_P D classes (wM cI cB cZ b c u z L M C S F li tx gd nx tm) H := hP
      have hD : va_D A (wM cI cB cZ b c u z L M C S F li tx gd nx tm) := hD
      subst hp
      have he : (∃ n2, n2 ≤ z ∧ nI n = nI n2 ∧ Rc L M C F S li tx z c n2) ↔ Bk L M C F S li tx n c c 0 := ⟨fun ⟨n2, g1, g2, g3⟩ => (fb hn).mp (by rw [(nI_eq (by omega) (by omega)).mp g2]; exact g3), fun g => ⟨n, hn, rfl, (fb hn).mpr g⟩⟩
      refine y_ifeq (tgt := 24) hx hb d_Mo_prefix_17 (by decide) (fun h3 => ?_) (fun h3 => ?_)
      · refine lv_iconst (v := nI 0) hx hb d_Mo_prefix_24 (by decide) ?_
        refine y_to (z0 (P := False) not_false) ?_
        exact y_zret hx hb hr hlocks hK (gd, nx, tm) hP hD hS (zb_iff ⟨False.elim, fun g => h3 (he.mp g)⟩) d_Mo_prefix_25
      · refine lv_iconst (v := nI 1) hx hb d_Mo_prefix_20 (by decide) ?_
        refine lv_goto (tgt := 25) hx hb d_Mo_prefix_21 (by decide) ?_
        refine y_to (z1 (P := True) trivial) ?_
        exact y_zret hx hb hr hlocks hK (gd, nx, tm) hP hD hS (zb_iff ⟨fun _ => he.mpr h3, fun _ => trivial⟩) d_Mo_prefix_25
end
section
theorem a0I (n : Nat) (cA : ClassId) : vp_cell cA (n, .inl (cN (fun _ => 0))) = arrV cA n (fun _ => defaultValue .int) := rfl
theorem a0B (n : Nat) (cA : ClassId) : vp_cell cA (n, .inl (cT (fun _ => 0))) = arrV cA n (fun _ => defaultValue .byte) := rfl
theorem a0Z (n : Nat) (cA : ClassId) : vp_cell cA (n, .inl (cZ (fun _ => False))) = arrV cA n (fun _ => defaultValue .boolean) := by
  have h : cZ (fun _ => False) = fun _ => (0 : Int32) := funext fun _ => zb_f not_false
  rw [h]
  rfl
section YN
variable {p : Program} {l : Launch} {e : Env} {R : Room} {s : State} {m : MethodId} {args : Array Value} {below : List Frame} {meth : Method} {c : Code} {H : Heap} {locs : List Loc} {cells slots : Nat} {Q : State → Prop}
variable {cc : ByteArray} {pc : Nat} {ls : Array Slot} {rest : List Value} {D : va_G} {cl : List vw_C} {A : Nat → Prop} {a : Nat} {tys : List (ClassId × FieldType)} {ws : va_W} {H0 : Heap}
/-- newarray: the class of the new array is the one that is known -/
theorem y_newa (hexec : p.tables.exec = Jvm.exec) (hb : c.code = cc) {atype : ArrayType} (harr : (Cond.arrayClass (newarray.typeOf atype)).before args s = true) {ty : FieldType} (hty : newarray.typeOf atype = ty) (k0 : Nat) {cX : ClassId} (hk0 : tys[k0]? = some (cX, ty)) (hpr : ∀ (U : State) (c : ClassId), va_RA U c ty → U.vm.findClass ("[" ++ ty.toString) = some c) (hK : va_K D cl tys s) (hP : va_P D cl ws H) (hD : va_D A ws) (hS : va_S A H0 H locs) (hA : ∀ q, H0.size ≤ q → A q)
    {N' : Nat} {a0 : vp_A} (ha : ∀ cA : ClassId, vp_cell cA a0 = arrV cA N' (fun _ => defaultValue ty)) (hN : N' < 2 ^ 31) (hbytes : N' * componentBytes ty ≤ 536870912) (hcells : cells + 1 ≤ R.cells) (hslots : slots + N' ≤ R.slots) (hdg : decode cc pc = .ok (.newarray atype, 2))
    (kk : ∀ (q : Nat) (H1 : Heap), va_P D cl (ws ++ [(q, .inl (cX, a0))]) H1 → va_D A (ws ++ [(q, .inl (cX, a0))]) → va_S A H0 H1 locs →
      W p l e R s m args below meth c H1 locs (cells + 1) (slots + N') Q (F0 m (pc + 2) ls (.ref q :: rest))) : W p l e R s m args below meth c H locs cells slots Q (F0 m pc ls (.int (nI N') :: rest)) := by
  refine va_newa hexec hb harr hty hK hP hD hS hA ha (nI_pos hN) (nI_clamp hN) hbytes hcells hslots hdg (fun q cA H1 hK1 hP1 hD1 hS1 => ?_)
  have e1 := hpr s cA (hK1.2 tys.length (cA, ty) (by simp)).2
  have e2 := hpr s cX (hK.2 k0 _ hk0).2
  have e3 : cA = cX := Option.some.inj (e1.symm.trans e2)
  subst e3
  exact kk q H1 hP1 hD1 hS1
end YN
noncomputable abbrev c0Z : Nat → Int32 := cZ (fun _ => False)
end
section
set_option maxHeartbeats 4000000 in
set_option maxRecDepth 100000 in
/-- Pile() -/
theorem c_Pi_init (l : Launch) (D : va_G) (cI cB cZ : ClassId) (h0 : Nat) (sz : Nat) : Met l y_Pi_init cw_Pi_init ({ frames := 1, cells := 1, slots := 256, locals := 12 }) (va_Pc [.ref h0] (Bp D cI cB cZ ([(h0, .inr (2, [.null, .int (nI 0)]))] : va_W) sz)) (va_Qv (S := Nat) (fun _ => True) (fun v_ => Bq D cI cB cZ (va_A ([(h0, .inr (2, [.null, .int (nI 0)]))] : va_W) sz) ([(h0, .inr (2, [.ref v_, .int (nI 0)])), (v_, .inl (cB, 256, .inl (cT (fun _ => 0))))])) (va_A ([(h0, .inr (2, [.null, .int (nI 0)]))] : va_W) sz)) 1 256 (va_A ([(h0, .inr (2, [.null, .int (nI 0)]))] : va_W) sz) := by
  refine Met.ofW (cc := b_Pi_init) (maxL := 1) (ret := none) (by decide) rfl ?_
  intro p e s m args below meth c1 s₁ B hml hv
  obtain ⟨rfl, hsz, hP, hK, hD0, hN⟩ := hv
  subst hsz
  have hx := B.exec
  have hb := B.bytes
  have hr := B.returns
  have hT : ∀ w ∈ tw_, w.before _ s = true := fun w h => atoms_spec (ws := cw_Pi_init) B.pre w (List.mem_cons_of_mem _ h)
  have hown : s.vm.findClass R_Pi = some m.cls := findClass_of_methodNamed B.named
  have hlocks := B.notSynchronized
  have hin : meth.name = "<init>" := (name_of_methodNamed B.named B.method).1
  have hD := hD0.self (sz := s.heap.size)
  generalize hAe : va_A ([(h0, .inr (2, [.null, .int (nI 0)]))] : va_W) s.heap.size = A at hD ⊢
  have hA : ∀ q : Nat, s.heap.size ≤ q → A q := fun q h => by rw [← hAe]; exact Or.inr h
  have hS : va_S A s.heap s.heap [] := va_S.rf
  have hl := lv_entry ([.ref h0]) (n := 1) (Nat.le_of_ble_eq_true rfl)
  rw [lg_entry_eq]
  generalize (lg_sl ([.ref h0]) ++ List.replicate (1 - (lg_sl ([.ref h0])).length) Slot.unset).toArray = ls at hl ⊢
  have hl : lv_has ls 1 [(0, .ref h0)] := hl
  refine lv_aload_n hx hb d_Pi_init_0 rfl (lv_at hl 0 rfl) ?_
  refine W.objInit hx hb hown (hT _ tw_k25) (hT _ tw_k18) (hT _ tw_k19) rfl (by rw [hml]; exact hl.1) rfl d_Pi_init_1 (Nat.le_of_ble_eq_true rfl) (Nat.le_of_ble_eq_true rfl) ?_
  refine W.eq (g2 := F0 m 4 ls []) rfl ?_
  refine lv_aload_n hx hb d_Pi_init_4 rfl (lv_at hl 0 rfl) ?_
  refine lv_sipush (v := nI 256) hx hb d_Pi_init_5 (by decide) ?_
  refine y_newa (atype := .byte) (ty := .byte) (N' := 256) (a0 := (256, .inl (cT (fun _ => 0)))) hx hb (hT _ tw_k35) rfl 1 rfl (fun _ _ h9 => h9) hK hP hD hS hA (a0B 256) (by decide) (by decide) (Nat.le_of_ble_eq_true rfl) (Nat.le_of_ble_eq_true rfl) d_Pi_init_8 (fun q1 H hP hD hS => ?_)
  refine W.widen (k := 1) (n := 256) (Nat.le_of_ble_eq_true rfl) (Nat.le_of_ble_eq_true rfl) ?_
  have hP : va_P D classes [(h0, .inr (2, [.null, .int (nI 0)])), (q1, .inl (cB, 256, .inl (cT (fun _ => 0))))] H := hP
  have hD : va_D A [(h0, .inr (2, [.null, .int (nI 0)])), (q1, .inl (cB, 256, .inl (cT (fun _ => 0))))] := hD
  refine va_putF (D := D) (ci := 2) (v := .ref q1) (ty := .array .byte) (C := R_Pi) (T := F_Pi) (N := 2) hx hb hT i_Pi t_Pi t_Pi_ok n_Pi hown hK hP hD hS 0 rfl rfl 0 (by decide) (hT _ tw_k26) (fun _ h9 => h9) rfl hin rfl (by decide +kernel) rfl rfl (Nat.le_of_ble_eq_true rfl) d_Pi_init_10 (fun H locs hP hD hS => ?_)
  have hP : va_P D classes [(h0, .inr (2, [.ref q1, .int (nI 0)])), (q1, .inl (cB, 256, .inl (cT (fun _ => 0))))] H := hP
  have hD : va_D A [(h0, .inr (2, [.ref q1, .int (nI 0)])), (q1, .inl (cB, 256, .inl (cT (fun _ => 0))))] := hD
  exact y_vret hx hb hr hlocks hK (q1) hP hD hS (trivial) d_Pi_init_13
end
section
set_option maxHeartbeats 4000000 in
set_option maxRecDepth 100000 in
/-- Pattern() -/
theorem c_Pt_init (l : Launch) (D : va_G) (cI cB cZ : ClassId) (h0 : Nat) (sz : Nat) : Met l y_Pt_init cw_Pt_init ({ frames := 1, cells := 9, slots := 1664, locals := 12 }) (va_Pc [.ref h0] (Bp D cI cB cZ ([(h0, .inr (1, [.null, .null, .null, .null, .null, .null, .null, .null, .null, .int (nI 0), .int (nI 0)]))] : va_W) sz)) (va_Qv (S := Nat → Nat) (fun v_ => v_ 0 = h0) (fun v_ => Bq D cI cB cZ (va_A ([(h0, .inr (1, [.null, .null, .null, .null, .null, .null, .null, .null, .null, .int (nI 0), .int (nI 0)]))] : va_W) sz) (wPt cI cB cZ v_ 0 0 (fun _ => 0) (fun _ => 0) (fun _ => 0) (fun _ => 0) (fun _ => 0) (fun _ => 0) (fun _ => False) (fun _ => False) (fun _ => False))) (va_A ([(h0, .inr (1, [.null, .null, .null, .null, .null, .null, .null, .null, .null, .int (nI 0), .int (nI 0)]))] : va_W) sz)) 9 1664 (va_A ([(h0, .inr (1, [.null, .null, .null, .null, .null, .null, .null, .null, .null, .int (nI 0), .int (nI 0)]))] : va_W) sz) := by
  refine Met.ofW (cc := b_Pt_init) (maxL := 1) (ret := none) (by decide) rfl ?_
  intro p e s m args below meth c1 s₁ B hml hv
  obtain ⟨rfl, hsz, hP, hK, hD0, hN⟩ := hv
  subst hsz
  have hx := B.exec
  have hb := B.bytes
  have hr := B.returns
  have hT : ∀ w ∈ tw_, w.before _ s = true := fun w h => atoms_spec (ws := cw_Pt_init) B.pre w (List.mem_cons_of_mem _ h)
  have hown : s.vm.findClass R_Pt = some m.cls := findClass_of_methodNamed B.named
  have hlocks := B.notSynchronized
  have hin : meth.name = "<init>" := (name_of_methodNamed B.named B.method).1
  have hD := hD0.self (sz := s.heap.size)
  generalize hAe : va_A ([(h0, .inr (1, [.null, .null, .null, .null, .null, .null, .null, .null, .null, .int (nI 0), .int (nI 0)]))] : va_W) s.heap.size = A at hD ⊢
  have hA : ∀ q : Nat, s.heap.size ≤ q → A q := fun q h => by rw [← hAe]; exact Or.inr h
  have hS : va_S A s.heap s.heap [] := va_S.rf
  have hl := lv_entry ([.ref h0]) (n := 1) (Nat.le_of_ble_eq_true rfl)
  rw [lg_entry_eq]
  generalize (lg_sl ([.ref h0]) ++ List.replicate (1 - (lg_sl ([.ref h0])).length) Slot.unset).toArray = ls at hl ⊢
  have hl : lv_has ls 1 [(0, .ref h0)] := hl
  refine lv_aload_n hx hb d_Pt_init_0 rfl (lv_at hl 0 rfl) ?_
  refine W.objInit hx hb hown (hT _ tw_k41) (hT _ tw_k18) (hT _ tw_k19) rfl (by rw [hml]; exact hl.1) rfl d_Pt_init_1 (Nat.le_of_ble_eq_true rfl) (Nat.le_of_ble_eq_true rfl) ?_
  refine W.eq (g2 := F0 m 4 ls []) rfl ?_
  refine lv_aload_n hx hb d_Pt_init_4 rfl (lv_at hl 0 rfl) ?_
  refine lv_sipush (v := nI 128) hx hb d_Pt_init_5 (by decide) ?_
  refine y_newa (atype := .int) (ty := .int) (N' := 128) (a0 := (128, .inl (cN (fun _ => 0)))) hx hb (hT _ tw_k81) rfl 0 rfl (fun _ _ h9 => h9) hK hP hD hS hA (a0I 128) (by decide) (by decide) (Nat.le_of_ble_eq_true rfl) (Nat.le_of_ble_eq_true rfl) d_Pt_init_8 (fun q1 H hP hD hS => ?_)
  refine W.widen (k := 1) (n := 128) (Nat.le_of_ble_eq_true rfl) (Nat.le_of_ble_eq_true rfl) ?_
  have hP : va_P D classes [(h0, .inr (1, [.null, .null, .null, .null, .null, .null, .null, .null, .null, .int (nI 0), .int (nI 0)])), (q1, .inl (cI, 128, .inl (cN (fun _ => 0))))] H := hP
  have hD : va_D A [(h0, .inr (1, [.null, .null, .null, .null, .null, .null, .null, .null, .null, .int (nI 0), .int (nI 0)])), (q1, .inl (cI, 128, .inl (cN (fun _ => 0))))] := hD
  refine va_putF (D := D) (ci := 1) (v := .ref q1) (ty := .array .int) (C := R_Pt) (T := F_Pt) (N := 11) hx hb hT i_Pt t_Pt t_Pt_ok n_Pt hown hK hP hD hS 0 rfl rfl 0 (by decide) (hT _ tw_k42) (fun _ h9 => h9) rfl hin rfl (by decide +kernel) rfl rfl (Nat.le_of_ble_eq_true rfl) d_Pt_init_10 (fun H locs hP hD hS => ?_)
  have hP : va_P D classes [(h0, .inr (1, [.ref q1, .null, .null, .null, .null, .null, .null, .null, .null, .int (nI 0), .int (nI 0)])), (q1, .inl (cI, 128, .inl (cN (fun _ => 0))))] H := hP
  have hD : va_D A [(h0, .inr (1, [.ref q1, .null, .null, .null, .null, .null, .null, .null, .null, .int (nI 0), .int (nI 0)])), (q1, .inl (cI, 128, .inl (cN (fun _ => 0))))] := hD
  refine lv_aload_n hx hb d_Pt_init_13 rfl (lv_at hl 0 rfl) ?_
  refine lv_sipush (v := nI 128) hx hb d_Pt_init_14 (by decide) ?_
  refine y_newa (atype := .int) (ty := .int) (N' := 128) (a0 := (128, .inl (cN (fun _ => 0)))) hx hb (hT _ tw_k81) rfl 0 rfl (fun _ _ h9 => h9) hK hP hD hS hA (a0I 128) (by decide) (by decide) (Nat.le_of_ble_eq_true rfl) (Nat.le_of_ble_eq_true rfl) d_Pt_init_17 (fun q2 H hP hD hS => ?_)
  refine W.widen (k := 2) (n := 256) (Nat.le_of_ble_eq_true rfl) (Nat.le_of_ble_eq_true rfl) ?_
  have hP : va_P D classes [(h0, .inr (1, [.ref q1, .null, .null, .null, .null, .null, .null, .null, .null, .int (nI 0), .int (nI 0)])), (q1, .inl (cI, 128, .inl (cN (fun _ => 0)))), (q2, .inl (cI, 128, .inl (cN (fun _ => 0))))] H := hP
  have hD : va_D A [(h0, .inr (1, [.ref q1, .null, .null, .null, .null, .null, .null, .null, .null, .int (nI 0), .int (nI 0)])), (q1, .inl (cI, 128, .inl (cN (fun _ => 0)))), (q2, .inl (cI, 128, .inl (cN (fun _ => 0))))] := hD
  refine va_putF (D := D) (ci := 1) (v := .ref q2) (ty := .array .int) (C := R_Pt) (T := F_Pt) (N := 11) hx hb hT i_Pt t_Pt t_Pt_ok n_Pt hown hK hP hD hS 0 rfl rfl 1 (by decide) (hT _ tw_k43) (fun _ h9 => h9) rfl hin rfl (by decide +kernel) rfl rfl (Nat.le_of_ble_eq_true rfl) d_Pt_init_19 (fun H locs hP hD hS => ?_)
  have hP : va_P D classes [(h0, .inr (1, [.ref q1, .ref q2, .null, .null, .null, .null, .null, .null, .null, .int (nI 0), .int (nI 0)])), (q1, .inl (cI, 128, .inl (cN (fun _ => 0)))), (q2, .inl (cI, 128, .inl (cN (fun _ => 0))))] H := hP
  have hD : va_D A [(h0, .inr (1, [.ref q1, .ref q2, .null, .null, .null, .null, .null, .null, .null, .int (nI 0), .int (nI 0)])), (q1, .inl (cI, 128, .inl (cN (fun _ => 0)))), (q2, .inl (cI, 128, .inl (cN (fun _ => 0))))] := hD
  refine lv_aload_n hx hb d_Pt_init_22 rfl (lv_at hl 0 rfl) ?_
  refine lv_sipush (v := nI 128) hx hb d_Pt_init_23 (by decide) ?_
  refine y_newa (atype := .int) (ty := .int) (N' := 128) (a0 := (128, .inl (cN (fun _ => 0)))) hx hb (hT _ tw_k81) rfl 0 rfl (fun _ _ h9 => h9) hK hP hD hS hA (a0I 128) (by decide) (by decide) (Nat.le_of_ble_eq_true rfl) (Nat.le_of_ble_eq_true rfl) d_Pt_init_26 (fun q3 H hP hD hS => ?_)
  refine W.widen (k := 3) (n := 384) (Nat.le_of_ble_eq_true rfl) (Nat.le_of_ble_eq_true rfl) ?_
  have hP : va_P D classes [(h0, .inr (1, [.ref q1, .ref q2, .null, .null, .null, .null, .null, .null, .null, .int (nI 0), .int (nI 0)])), (q1, .inl (cI, 128, .inl (cN (fun _ => 0)))), (q2, .inl (cI, 128, .inl (cN (fun _ => 0)))), (q3, .inl (cI, 128, .inl (cN (fun _ => 0))))] H := hP
  have hD : va_D A [(h0, .inr (1, [.ref q1, .ref q2, .null, .null, .null, .null, .null, .null, .null, .int (nI 0), .int (nI 0)])), (q1, .inl (cI, 128, .inl (cN (fun _ => 0)))), (q2, .inl (cI, 128, .inl (cN (fun _ => 0)))), (q3, .inl (cI, 128, .inl (cN (fun _ => 0))))] := hD
  refine va_putF (D := D) (ci := 1) (v := .ref q3) (ty := .array .int) (C := R_Pt) (T := F_Pt) (N := 11) hx hb hT i_Pt t_Pt t_Pt_ok n_Pt hown hK hP hD hS 0 rfl rfl 2 (by decide) (hT _ tw_k44) (fun _ h9 => h9) rfl hin rfl (by decide +kernel) rfl rfl (Nat.le_of_ble_eq_true rfl) d_Pt_init_28 (fun H locs hP hD hS => ?_)
  have hP : va_P D classes [(h0, .inr (1, [.ref q1, .ref q2, .ref q3, .null, .null, .null, .null, .null, .null, .int (nI 0), .int (nI 0)])), (q1, .inl (cI, 128, .inl (cN (fun _ => 0)))), (q2, .inl (cI, 128, .inl (cN (fun _ => 0)))), (q3, .inl (cI, 128, .inl (cN (fun _ => 0))))] H := hP
  have hD : va_D A [(h0, .inr (1, [.ref q1, .ref q2, .ref q3, .null, .null, .null, .null, .null, .null, .int (nI 0), .int (nI 0)])), (q1, .inl (cI, 128, .inl (cN (fun _ => 0)))), (q2, .inl (cI, 128, .inl (cN (fun _ => 0)))), (q3, .inl (cI, 128, .inl (cN (fun _ => 0))))] := hD
  refine lv_aload_n hx hb d_Pt_init_31 rfl (lv_at hl 0 rfl) ?_
  refine lv_sipush (v := nI 128) hx hb d_Pt_init_32 (by decide) ?_
  refine y_newa (atype := .int) (ty := .int) (N' := 128) (a0 := (128, .inl (cN (fun _ => 0)))) hx hb (hT _ tw_k81) rfl 0 rfl (fun _ _ h9 => h9) hK hP hD hS hA (a0I 128) (by decide) (by decide) (Nat.le_of_ble_eq_true rfl) (Nat.le_of_ble_eq_true rfl) d_Pt_init_35 (fun q4 H hP hD hS => ?_)
  refine W.widen (k := 4) (n := 512) (Nat.le_of_ble_eq_true rfl) (Nat.le_of_ble_eq_true rfl) ?_
  have hP : va_P D classes [(h0, .inr (1, [.ref q1, .ref q2, .ref q3, .null, .null, .null, .null, .null, .null, .int (nI 0), .int (nI 0)])), (q1, .inl (cI, 128, .inl (cN (fun _ => 0)))), (q2, .inl (cI, 128, .inl (cN (fun _ => 0)))), (q3, .inl (cI, 128, .inl (cN (fun _ => 0)))), (q4, .inl (cI, 128, .inl (cN (fun _ => 0))))] H := hP
  have hD : va_D A [(h0, .inr (1, [.ref q1, .ref q2, .ref q3, .null, .null, .null, .null, .null, .null, .int (nI 0), .int (nI 0)])), (q1, .inl (cI, 128, .inl (cN (fun _ => 0)))), (q2, .inl (cI, 128, .inl (cN (fun _ => 0)))), (q3, .inl (cI, 128, .inl (cN (fun _ => 0)))), (q4, .inl (cI, 128, .inl (cN (fun _ => 0))))] := hD
  refine va_putF (D := D) (ci := 1) (v := .ref q4) (ty := .array .int) (C := R_Pt) (T := F_Pt) (N := 11) hx hb hT i_Pt t_Pt t_Pt_ok n_Pt hown hK hP hD hS 0 rfl rfl 3 (by decide) (hT _ tw_k46) (fun _ h9 => h9) rfl hin rfl (by decide +kernel) rfl rfl (Nat.le_of_ble_eq_true rfl) d_Pt_init_37 (fun H locs hP hD hS => ?_)
  have hP : va_P D classes [(h0, .inr (1, [.ref q1, .ref q2, .ref q3, .ref q4, .null, .null, .null, .null, .null, .int (nI 0), .int (nI 0)])), (q1, .inl (cI, 128, .inl (cN (fun _ => 0)))), (q2, .inl (cI, 128, .inl (cN (fun _ => 0)))), (q3, .inl (cI, 128, .inl (cN (fun _ => 0)))), (q4, .inl (cI, 128, .inl (cN (fun _ => 0))))] H := hP
  have hD : va_D A [(h0, .inr (1, [.ref q1, .ref q2, .ref q3, .ref q4, .null, .null, .null, .null, .null, .int (nI 0), .int (nI 0)])), (q1, .inl (cI, 128, .inl (cN (fun _ => 0)))), (q2, .inl (cI, 128, .inl (cN (fun _ => 0)))), (q3, .inl (cI, 128, .inl (cN (fun _ => 0)))), (q4, .inl (cI, 128, .inl (cN (fun _ => 0))))] := hD
  refine lv_aload_n hx hb d_Pt_init_40 rfl (lv_at hl 0 rfl) ?_
  refine lv_sipush (v := nI 128) hx hb d_Pt_init_41 (by decide) ?_
  refine y_newa (atype := .int) (ty := .int) (N' := 128) (a0 := (128, .inl (cN (fun _ => 0)))) hx hb (hT _ tw_k81) rfl 0 rfl (fun _ _ h9 => h9) hK hP hD hS hA (a0I 128) (by decide) (by decide) (Nat.le_of_ble_eq_true rfl) (Nat.le_of_ble_eq_true rfl) d_Pt_init_44 (fun q5 H hP hD hS => ?_)
  refine W.widen (k := 5) (n := 640) (Nat.le_of_ble_eq_true rfl) (Nat.le_of_ble_eq_true rfl) ?_
  have hP : va_P D classes [(h0, .inr (1, [.ref q1, .ref q2, .ref q3, .ref q4, .null, .null, .null, .null, .null, .int (nI 0), .int (nI 0)])), (q1, .inl (cI, 128, .inl (cN (fun _ => 0)))), (q2, .inl (cI, 128, .inl (cN (fun _ => 0)))), (q3, .inl (cI, 128, .inl (cN (fun _ => 0)))), (q4, .inl (cI, 128, .inl (cN (fun _ => 0)))), (q5, .inl (cI, 128, .inl (cN (fun _ => 0))))] H := hP
  have hD : va_D A [(h0, .inr (1, [.ref q1, .ref q2, .ref q3, .ref q4, .null, .null, .null, .null, .null, .int (nI 0), .int (nI 0)])), (q1, .inl (cI, 128, .inl (cN (fun _ => 0)))), (q2, .inl (cI, 128, .inl (cN (fun _ => 0)))), (q3, .inl (cI, 128, .inl (cN (fun _ => 0)))), (q4, .inl (cI, 128, .inl (cN (fun _ => 0)))), (q5, .inl (cI, 128, .inl (cN (fun _ => 0))))] := hD
  refine va_putF (D := D) (ci := 1) (v := .ref q5) (ty := .array .int) (C := R_Pt) (T := F_Pt) (N := 11) hx hb hT i_Pt t_Pt t_Pt_ok n_Pt hown hK hP hD hS 0 rfl rfl 4 (by decide) (hT _ tw_k47) (fun _ h9 => h9) rfl hin rfl (by decide +kernel) rfl rfl (Nat.le_of_ble_eq_true rfl) d_Pt_init_46 (fun H locs hP hD hS => ?_)
  have hP : va_P D classes [(h0, .inr (1, [.ref q1, .ref q2, .ref q3, .ref q4, .ref q5, .null, .null, .null, .null, .int (nI 0), .int (nI 0)])), (q1, .inl (cI, 128, .inl (cN (fun _ => 0)))), (q2, .inl (cI, 128, .inl (cN (fun _ => 0)))), (q3, .inl (cI, 128, .inl (cN (fun _ => 0)))), (q4, .inl (cI, 128, .inl (cN (fun _ => 0)))), (q5, .inl (cI, 128, .inl (cN (fun _ => 0))))] H := hP
  have hD : va_D A [(h0, .inr (1, [.ref q1, .ref q2, .ref q3, .ref q4, .ref q5, .null, .null, .null, .null, .int (nI 0), .int (nI 0)])), (q1, .inl (cI, 128, .inl (cN (fun _ => 0)))), (q2, .inl (cI, 128, .inl (cN (fun _ => 0)))), (q3, .inl (cI, 128, .inl (cN (fun _ => 0)))), (q4, .inl (cI, 128, .inl (cN (fun _ => 0)))), (q5, .inl (cI, 128, .inl (cN (fun _ => 0))))] := hD
  refine lv_aload_n hx hb d_Pt_init_49 rfl (lv_at hl 0 rfl) ?_
  refine lv_sipush (v := nI 256) hx hb d_Pt_init_50 (by decide) ?_
  refine y_newa (atype := .byte) (ty := .byte) (N' := 256) (a0 := (256, .inl (cT (fun _ => 0)))) hx hb (hT _ tw_k35) rfl 1 rfl (fun _ _ h9 => h9) hK hP hD hS hA (a0B 256) (by decide) (by decide) (Nat.le_of_ble_eq_true rfl) (Nat.le_of_ble_eq_true rfl) d_Pt_init_53 (fun q6 H hP hD hS => ?_)
  refine W.widen (k := 6) (n := 896) (Nat.le_of_ble_eq_true rfl) (Nat.le_of_ble_eq_true rfl) ?_
  have hP : va_P D classes [(h0, .inr (1, [.ref q1, .ref q2, .ref q3, .ref q4, .ref q5, .null, .null, .null, .null, .int (nI 0), .int (nI 0)])), (q1, .inl (cI, 128, .inl (cN (fun _ => 0)))), (q2, .inl (cI, 128, .inl (cN (fun _ => 0)))), (q3, .inl (cI, 128, .inl (cN (fun _ => 0)))), (q4, .inl (cI, 128, .inl (cN (fun _ => 0)))), (q5, .inl (cI, 128, .inl (cN (fun _ => 0)))), (q6, .inl (cB, 256, .inl (cT (fun _ => 0))))] H := hP
  have hD : va_D A [(h0, .inr (1, [.ref q1, .ref q2, .ref q3, .ref q4, .ref q5, .null, .null, .null, .null, .int (nI 0), .int (nI 0)])), (q1, .inl (cI, 128, .inl (cN (fun _ => 0)))), (q2, .inl (cI, 128, .inl (cN (fun _ => 0)))), (q3, .inl (cI, 128, .inl (cN (fun _ => 0)))), (q4, .inl (cI, 128, .inl (cN (fun _ => 0)))), (q5, .inl (cI, 128, .inl (cN (fun _ => 0)))), (q6, .inl (cB, 256, .inl (cT (fun _ => 0))))] := hD
  refine va_putF (D := D) (ci := 1) (v := .ref q6) (ty := .array .byte) (C := R_Pt) (T := F_Pt) (N := 11) hx hb hT i_Pt t_Pt t_Pt_ok n_Pt hown hK hP hD hS 0 rfl rfl 5 (by decide) (hT _ tw_k49) (fun _ h9 => h9) rfl hin rfl (by decide +kernel) rfl rfl (Nat.le_of_ble_eq_true rfl) d_Pt_init_55 (fun H locs hP hD hS => ?_)
  have hP : va_P D classes [(h0, .inr (1, [.ref q1, .ref q2, .ref q3, .ref q4, .ref q5, .ref q6, .null, .null, .null, .int (nI 0), .int (nI 0)])), (q1, .inl (cI, 128, .inl (cN (fun _ => 0)))), (q2, .inl (cI, 128, .inl (cN (fun _ => 0)))), (q3, .inl (cI, 128, .inl (cN (fun _ => 0)))), (q4, .inl (cI, 128, .inl (cN (fun _ => 0)))), (q5, .inl (cI, 128, .inl (cN (fun _ => 0)))), (q6, .inl (cB, 256, .inl (cT (fun _ => 0))))] H := hP
  have hD : va_D A [(h0, .inr (1, [.ref q1, .ref q2, .ref q3, .ref q4, .ref q5, .ref q6, .null, .null, .null, .int (nI 0), .int (nI 0)])), (q1, .inl (cI, 128, .inl (cN (fun _ => 0)))), (q2, .inl (cI, 128, .inl (cN (fun _ => 0)))), (q3, .inl (cI, 128, .inl (cN (fun _ => 0)))), (q4, .inl (cI, 128, .inl (cN (fun _ => 0)))), (q5, .inl (cI, 128, .inl (cN (fun _ => 0)))), (q6, .inl (cB, 256, .inl (cT (fun _ => 0))))] := hD
  refine lv_aload_n hx hb d_Pt_init_58 rfl (lv_at hl 0 rfl) ?_
  refine lv_sipush (v := nI 256) hx hb d_Pt_init_59 (by decide) ?_
  refine y_newa (atype := .boolean) (ty := .boolean) (N' := 256) (a0 := (256, .inl (c0Z))) hx hb (hT _ tw_k82) rfl 2 rfl (fun _ _ h9 => h9) hK hP hD hS hA (a0Z 256) (by decide) (by decide) (Nat.le_of_ble_eq_true rfl) (Nat.le_of_ble_eq_true rfl) d_Pt_init_62 (fun q7 H hP hD hS => ?_)
  refine W.widen (k := 7) (n := 1152) (Nat.le_of_ble_eq_true rfl) (Nat.le_of_ble_eq_true rfl) ?_
  have hP : va_P D classes [(h0, .inr (1, [.ref q1, .ref q2, .ref q3, .ref q4, .ref q5, .ref q6, .null, .null, .null, .int (nI 0), .int (nI 0)])), (q1, .inl (cI, 128, .inl (cN (fun _ => 0)))), (q2, .inl (cI, 128, .inl (cN (fun _ => 0)))), (q3, .inl (cI, 128, .inl (cN (fun _ => 0)))), (q4, .inl (cI, 128, .inl (cN (fun _ => 0)))), (q5, .inl (cI, 128, .inl (cN (fun _ => 0)))), (q6, .inl (cB, 256, .inl (cT (fun _ => 0)))), (q7, .inl (cZ, 256, .inl (c0Z)))] H := hP
  have hD : va_D A [(h0, .inr (1, [.ref q1, .ref q2, .ref q3, .ref q4, .ref q5, .ref q6, .null, .null, .null, .int (nI 0), .int (nI 0)])), (q1, .inl (cI, 128, .inl (cN (fun _ => 0)))), (q2, .inl (cI, 128, .inl (cN (fun _ => 0)))), (q3, .inl (cI, 128, .inl (cN (fun _ => 0)))), (q4, .inl (cI, 128, .inl (cN (fun _ => 0)))), (q5, .inl (cI, 128, .inl (cN (fun _ => 0)))), (q6, .inl (cB, 256, .inl (cT (fun _ => 0)))), (q7, .inl (cZ, 256, .inl (c0Z)))] := hD
  refine va_putF (D := D) (ci := 1) (v := .ref q7) (ty := .array .boolean) (C := R_Pt) (T := F_Pt) (N := 11) hx hb hT i_Pt t_Pt t_Pt_ok n_Pt hown hK hP hD hS 0 rfl rfl 6 (by decide) (hT _ tw_k50) (fun _ h9 => h9) rfl hin rfl (by decide +kernel) rfl rfl (Nat.le_of_ble_eq_true rfl) d_Pt_init_64 (fun H locs hP hD hS => ?_)
  have hP : va_P D classes [(h0, .inr (1, [.ref q1, .ref q2, .ref q3, .ref q4, .ref q5, .ref q6, .ref q7, .null, .null, .int (nI 0), .int (nI 0)])), (q1, .inl (cI, 128, .inl (cN (fun _ => 0)))), (q2, .inl (cI, 128, .inl (cN (fun _ => 0)))), (q3, .inl (cI, 128, .inl (cN (fun _ => 0)))), (q4, .inl (cI, 128, .inl (cN (fun _ => 0)))), (q5, .inl (cI, 128, .inl (cN (fun _ => 0)))), (q6, .inl (cB, 256, .inl (cT (fun _ => 0)))), (q7, .inl (cZ, 256, .inl (c0Z)))] H := hP
  have hD : va_D A [(h0, .inr (1, [.ref q1, .ref q2, .ref q3, .ref q4, .ref q5, .ref q6, .ref q7, .null, .null, .int (nI 0), .int (nI 0)])), (q1, .inl (cI, 128, .inl (cN (fun _ => 0)))), (q2, .inl (cI, 128, .inl (cN (fun _ => 0)))), (q3, .inl (cI, 128, .inl (cN (fun _ => 0)))), (q4, .inl (cI, 128, .inl (cN (fun _ => 0)))), (q5, .inl (cI, 128, .inl (cN (fun _ => 0)))), (q6, .inl (cB, 256, .inl (cT (fun _ => 0)))), (q7, .inl (cZ, 256, .inl (c0Z)))] := hD
  refine lv_aload_n hx hb d_Pt_init_67 rfl (lv_at hl 0 rfl) ?_
  refine lv_sipush (v := nI 256) hx hb d_Pt_init_68 (by decide) ?_
  refine y_newa (atype := .boolean) (ty := .boolean) (N' := 256) (a0 := (256, .inl (c0Z))) hx hb (hT _ tw_k82) rfl 2 rfl (fun _ _ h9 => h9) hK hP hD hS hA (a0Z 256) (by decide) (by decide) (Nat.le_of_ble_eq_true rfl) (Nat.le_of_ble_eq_true rfl) d_Pt_init_71 (fun q8 H hP hD hS => ?_)
  refine W.widen (k := 8) (n := 1408) (Nat.le_of_ble_eq_true rfl) (Nat.le_of_ble_eq_true rfl) ?_
  have hP : va_P D classes [(h0, .inr (1, [.ref q1, .ref q2, .ref q3, .ref q4, .ref q5, .ref q6, .ref q7, .null, .null, .int (nI 0), .int (nI 0)])), (q1, .inl (cI, 128, .inl (cN (fun _ => 0)))), (q2, .inl (cI, 128, .inl (cN (fun _ => 0)))), (q3, .inl (cI, 128, .inl (cN (fun _ => 0)))), (q4, .inl (cI, 128, .inl (cN (fun _ => 0)))), (q5, .inl (cI, 128, .inl (cN (fun _ => 0)))), (q6, .inl (cB, 256, .inl (cT (fun _ => 0)))), (q7, .inl (cZ, 256, .inl (c0Z))), (q8, .inl (cZ, 256, .inl (c0Z)))] H := hP
  have hD : va_D A [(h0, .inr (1, [.ref q1, .ref q2, .ref q3, .ref q4, .ref q5, .ref q6, .ref q7, .null, .null, .int (nI 0), .int (nI 0)])), (q1, .inl (cI, 128, .inl (cN (fun _ => 0)))), (q2, .inl (cI, 128, .inl (cN (fun _ => 0)))), (q3, .inl (cI, 128, .inl (cN (fun _ => 0)))), (q4, .inl (cI, 128, .inl (cN (fun _ => 0)))), (q5, .inl (cI, 128, .inl (cN (fun _ => 0)))), (q6, .inl (cB, 256, .inl (cT (fun _ => 0)))), (q7, .inl (cZ, 256, .inl (c0Z))), (q8, .inl (cZ, 256, .inl (c0Z)))] := hD
  refine va_putF (D := D) (ci := 1) (v := .ref q8) (ty := .array .boolean) (C := R_Pt) (T := F_Pt) (N := 11) hx hb hT i_Pt t_Pt t_Pt_ok n_Pt hown hK hP hD hS 0 rfl rfl 7 (by decide) (hT _ tw_k52) (fun _ h9 => h9) rfl hin rfl (by decide +kernel) rfl rfl (Nat.le_of_ble_eq_true rfl) d_Pt_init_73 (fun H locs hP hD hS => ?_)
  have hP : va_P D classes [(h0, .inr (1, [.ref q1, .ref q2, .ref q3, .ref q4, .ref q5, .ref q6, .ref q7, .ref q8, .null, .int (nI 0), .int (nI 0)])), (q1, .inl (cI, 128, .inl (cN (fun _ => 0)))), (q2, .inl (cI, 128, .inl (cN (fun _ => 0)))), (q3, .inl (cI, 128, .inl (cN (fun _ => 0)))), (q4, .inl (cI, 128, .inl (cN (fun _ => 0)))), (q5, .inl (cI, 128, .inl (cN (fun _ => 0)))), (q6, .inl (cB, 256, .inl (cT (fun _ => 0)))), (q7, .inl (cZ, 256, .inl (c0Z))), (q8, .inl (cZ, 256, .inl (c0Z)))] H := hP
  have hD : va_D A [(h0, .inr (1, [.ref q1, .ref q2, .ref q3, .ref q4, .ref q5, .ref q6, .ref q7, .ref q8, .null, .int (nI 0), .int (nI 0)])), (q1, .inl (cI, 128, .inl (cN (fun _ => 0)))), (q2, .inl (cI, 128, .inl (cN (fun _ => 0)))), (q3, .inl (cI, 128, .inl (cN (fun _ => 0)))), (q4, .inl (cI, 128, .inl (cN (fun _ => 0)))), (q5, .inl (cI, 128, .inl (cN (fun _ => 0)))), (q6, .inl (cB, 256, .inl (cT (fun _ => 0)))), (q7, .inl (cZ, 256, .inl (c0Z))), (q8, .inl (cZ, 256, .inl (c0Z)))] := hD
  refine lv_aload_n hx hb d_Pt_init_76 rfl (lv_at hl 0 rfl) ?_
  refine lv_sipush (v := nI 256) hx hb d_Pt_init_77 (by decide) ?_
  refine y_newa (atype := .boolean) (ty := .boolean) (N' := 256) (a0 := (256, .inl (c0Z))) hx hb (hT _ tw_k82) rfl 2 rfl (fun _ _ h9 => h9) hK hP hD hS hA (a0Z 256) (by decide) (by decide) (Nat.le_of_ble_eq_true rfl) (Nat.le_of_ble_eq_true rfl) d_Pt_init_80 (fun q9 H hP hD hS => ?_)
  refine W.widen (k := 9) (n := 1664) (Nat.le_of_ble_eq_true rfl) (Nat.le_of_ble_eq_true rfl) ?_
  have hP : va_P D classes [(h0, .inr (1, [.ref q1, .ref q2, .ref q3, .ref q4, .ref q5, .ref q6, .ref q7, .ref q8, .null, .int (nI 0), .int (nI 0)])), (q1, .inl (cI, 128, .inl (cN (fun _ => 0)))), (q2, .inl (cI, 128, .inl (cN (fun _ => 0)))), (q3, .inl (cI, 128, .inl (cN (fun _ => 0)))), (q4, .inl (cI, 128, .inl (cN (fun _ => 0)))), (q5, .inl (cI, 128, .inl (cN (fun _ => 0)))), (q6, .inl (cB, 256, .inl (cT (fun _ => 0)))), (q7, .inl (cZ, 256, .inl (c0Z))), (q8, .inl (cZ, 256, .inl (c0Z))), (q9, .inl (cZ, 256, .inl (c0Z)))] H := hP
  have hD : va_D A [(h0, .inr (1, [.ref q1, .ref q2, .ref q3, .ref q4, .ref q5, .ref q6, .ref q7, .ref q8, .null, .int (nI 0), .int (nI 0)])), (q1, .inl (cI, 128, .inl (cN (fun _ => 0)))), (q2, .inl (cI, 128, .inl (cN (fun _ => 0)))), (q3, .inl (cI, 128, .inl (cN (fun _ => 0)))), (q4, .inl (cI, 128, .inl (cN (fun _ => 0)))), (q5, .inl (cI, 128, .inl (cN (fun _ => 0)))), (q6, .inl (cB, 256, .inl (cT (fun _ => 0)))), (q7, .inl (cZ, 256, .inl (c0Z))), (q8, .inl (cZ, 256, .inl (c0Z))), (q9, .inl (cZ, 256, .inl (c0Z)))] := hD
  refine va_putF (D := D) (ci := 1) (v := .ref q9) (ty := .array .boolean) (C := R_Pt) (T := F_Pt) (N := 11) hx hb hT i_Pt t_Pt t_Pt_ok n_Pt hown hK hP hD hS 0 rfl rfl 8 (by decide) (hT _ tw_k53) (fun _ h9 => h9) rfl hin rfl (by decide +kernel) rfl rfl (Nat.le_of_ble_eq_true rfl) d_Pt_init_82 (fun H locs hP hD hS => ?_)
  have hP : va_P D classes [(h0, .inr (1, [.ref q1, .ref q2, .ref q3, .ref q4, .ref q5, .ref q6, .ref q7, .ref q8, .ref q9, .int (nI 0), .int (nI 0)])), (q1, .inl (cI, 128, .inl (cN (fun _ => 0)))), (q2, .inl (cI, 128, .inl (cN (fun _ => 0)))), (q3, .inl (cI, 128, .inl (cN (fun _ => 0)))), (q4, .inl (cI, 128, .inl (cN (fun _ => 0)))), (q5, .inl (cI, 128, .inl (cN (fun _ => 0)))), (q6, .inl (cB, 256, .inl (cT (fun _ => 0)))), (q7, .inl (cZ, 256, .inl (c0Z))), (q8, .inl (cZ, 256, .inl (c0Z))), (q9, .inl (cZ, 256, .inl (c0Z)))] H := hP
  have hD : va_D A [(h0, .inr (1, [.ref q1, .ref q2, .ref q3, .ref q4, .ref q5, .ref q6, .ref q7, .ref q8, .ref q9, .int (nI 0), .int (nI 0)])), (q1, .inl (cI, 128, .inl (cN (fun _ => 0)))), (q2, .inl (cI, 128, .inl (cN (fun _ => 0)))), (q3, .inl (cI, 128, .inl (cN (fun _ => 0)))), (q4, .inl (cI, 128, .inl (cN (fun _ => 0)))), (q5, .inl (cI, 128, .inl (cN (fun _ => 0)))), (q6, .inl (cB, 256, .inl (cT (fun _ => 0)))), (q7, .inl (cZ, 256, .inl (c0Z))), (q8, .inl (cZ, 256, .inl (c0Z))), (q9, .inl (cZ, 256, .inl (c0Z)))] := hD
  exact y_vret hx hb hr hlocks hK (fun k => [h0, q1, q2, q3, q4, q5, q6, q7, q8, q9].getD k 0) hP hD hS (rfl) d_Pt_init_85
end
section
set_option maxHeartbeats 4000000 in
set_option maxRecDepth 100000 in
/-- PatternSieveModel() -/
theorem c_Mo_init (l : Launch) (D : va_G) (cI cB cZ : ClassId) (h0 : Nat) (sz : Nat) : Met l y_Mo_init cw_Mo_init ({ frames := 1, cells := 10, slots := 1578, locals := 12 }) (va_Pc [.ref h0] (Bp D cI cB cZ ([(h0, .inr (3, [.int (nI 0), .null, .null, .null, .null, .null, .null, .int (nI 0), .null, .int (nI 0), .null, .null, .null]))] : va_W) sz)) (va_Qv (S := Nat → Nat) (fun v_ => v_ 0 = h0) (fun v_ => Bq D cI cB cZ (va_A ([(h0, .inr (3, [.int (nI 0), .null, .null, .null, .null, .null, .null, .int (nI 0), .null, .int (nI 0), .null, .null, .null]))] : va_W) sz) (wM cI cB cZ v_ 0 0 0 (fun _ => 0) (fun _ => 0) (fun _ => 0) (fun _ => 0) (fun _ => 0) (fun _ => 0) (fun _ => 0) (fun _ => False) (fun _ => False) (fun _ => 0))) (va_A ([(h0, .inr (3, [.int (nI 0), .null, .null, .null, .null, .null, .null, .int (nI 0), .null, .int (nI 0), .null, .null, .null]))] : va_W) sz)) 10 1578 (va_A ([(h0, .inr (3, [.int (nI 0), .null, .null, .null, .null, .null, .null, .int (nI 0), .null, .int (nI 0), .null, .null, .null]))] : va_W) sz) := by
  refine Met.ofW (cc := b_Mo_init) (maxL := 1) (ret := none) (by decide) rfl ?_
  intro p e s m args below meth c1 s₁ B hml hv
  obtain ⟨rfl, hsz, hP, hK, hD0, hN⟩ := hv
  subst hsz
  have hx := B.exec
  have hb := B.bytes
  have hr := B.returns
  have hT : ∀ w ∈ tw_, w.before _ s = true := fun w h => atoms_spec (ws := cw_Mo_init) B.pre w (List.mem_cons_of_mem _ h)
  have hown : s.vm.findClass R_Mo = some m.cls := findClass_of_methodNamed B.named
  have hlocks := B.notSynchronized
  have hin : meth.name = "<init>" := (name_of_methodNamed B.named B.method).1
  have hD := hD0.self (sz := s.heap.size)
  generalize hAe : va_A ([(h0, .inr (3, [.int (nI 0), .null, .null, .null, .null, .null, .null, .int (nI 0), .null, .int (nI 0), .null, .null, .null]))] : va_W) s.heap.size = A at hD ⊢
  have hA : ∀ q : Nat, s.heap.size ≤ q → A q := fun q h => by rw [← hAe]; exact Or.inr h
  have hS : va_S A s.heap s.heap [] := va_S.rf
  have hl := lv_entry ([.ref h0]) (n := 1) (Nat.le_of_ble_eq_true rfl)
  rw [lg_entry_eq]
  generalize (lg_sl ([.ref h0]) ++ List.replicate (1 - (lg_sl ([.ref h0])).length) Slot.unset).toArray = ls at hl ⊢
  have hl : lv_has ls 1 [(0, .ref h0)] := hl
  refine lv_aload_n hx hb d_Mo_init_0 rfl (lv_at hl 0 rfl) ?_
  refine W.objInit hx hb hown (hT _ tw_k179) (hT _ tw_k18) (hT _ tw_k19) rfl (by rw [hml]; exact hl.1) rfl d_Mo_init_1 (Nat.le_of_ble_eq_true rfl) (Nat.le_of_ble_eq_true rfl) ?_
  refine W.eq (g2 := F0 m 4 ls []) rfl ?_
  refine lv_aload_n hx hb d_Mo_init_4 rfl (lv_at hl 0 rfl) ?_
  refine lv_bipush (v := nI 60) hx hb d_Mo_init_5 (by decide) ?_
  refine y_newa (atype := .int) (ty := .int) (N' := 60) (a0 := (60, .inl (cN (fun _ => 0)))) hx hb (hT _ tw_k81) rfl 0 rfl (fun _ _ h9 => h9) hK hP hD hS hA (a0I 60) (by decide) (by decide) (Nat.le_of_ble_eq_true rfl) (Nat.le_of_ble_eq_true rfl) d_Mo_init_7 (fun q1 H hP hD hS => ?_)
  refine W.widen (k := 1) (n := 60) (Nat.le_of_ble_eq_true rfl) (Nat.le_of_ble_eq_true rfl) ?_
  have hP : va_P D classes [(h0, .inr (3, [.int (nI 0), .null, .null, .null, .null, .null, .null, .int (nI 0), .null, .int (nI 0), .null, .null, .null])), (q1, .inl (cI, 60, .inl (cN (fun _ => 0))))] H := hP
  have hD : va_D A [(h0, .inr (3, [.int (nI 0), .null, .null, .null, .null, .null, .null, .int (nI 0), .null, .int (nI 0), .null, .null, .null])), (q1, .inl (cI, 60, .inl (cN (fun _ => 0))))] := hD
  refine va_putF (D := D) (ci := 3) (v := .ref q1) (ty := .array .int) (C := R_Mo) (T := F_Mo) (N := 13) hx hb hT i_Mo t_Mo t_Mo_ok n_Mo hown hK hP hD hS 0 rfl rfl 1 (by decide) (hT _ tw_k181) (fun _ h9 => h9) rfl hin rfl (by decide +kernel) rfl rfl (Nat.le_of_ble_eq_true rfl) d_Mo_init_9 (fun H locs hP hD hS => ?_)
  have hP : va_P D classes [(h0, .inr (3, [.int (nI 0), .ref q1, .null, .null, .null, .null, .null, .int (nI 0), .null, .int (nI 0), .null, .null, .null])), (q1, .inl (cI, 60, .inl (cN (fun _ => 0))))] H := hP
  have hD : va_D A [(h0, .inr (3, [.int (nI 0), .ref q1, .null, .null, .null, .null, .null, .int (nI 0), .null, .int (nI 0), .null, .null, .null])), (q1, .inl (cI, 60, .inl (cN (fun _ => 0))))] := hD
  refine lv_aload_n hx hb d_Mo_init_12 rfl (lv_at hl 0 rfl) ?_
  refine lv_bipush (v := nI 60) hx hb d_Mo_init_13 (by decide) ?_
  refine y_newa (atype := .int) (ty := .int) (N' := 60) (a0 := (60, .inl (cN (fun _ => 0)))) hx hb (hT _ tw_k81) rfl 0 rfl (fun _ _ h9 => h9) hK hP hD hS hA (a0I 60) (by decide) (by decide) (Nat.le_of_ble_eq_true rfl) (Nat.le_of_ble_eq_true rfl) d_Mo_init_15 (fun q2 H hP hD hS => ?_)
  refine W.widen (k := 2) (n := 120) (Nat.le_of_ble_eq_true rfl) (Nat.le_of_ble_eq_true rfl) ?_
  have hP : va_P D classes [(h0, .inr (3, [.int (nI 0), .ref q1, .null, .null, .null, .null, .null, .int (nI 0), .null, .int (nI 0), .null, .null, .null])), (q1, .inl (cI, 60, .inl (cN (fun _ => 0)))), (q2, .inl (cI, 60, .inl (cN (fun _ => 0))))] H := hP
  have hD : va_D A [(h0, .inr (3, [.int (nI 0), .ref q1, .null, .null, .null, .null, .null, .int (nI 0), .null, .int (nI 0), .null, .null, .null])), (q1, .inl (cI, 60, .inl (cN (fun _ => 0)))), (q2, .inl (cI, 60, .inl (cN (fun _ => 0))))] := hD
  refine va_putF (D := D) (ci := 3) (v := .ref q2) (ty := .array .int) (C := R_Mo) (T := F_Mo) (N := 13) hx hb hT i_Mo t_Mo t_Mo_ok n_Mo hown hK hP hD hS 0 rfl rfl 2 (by decide) (hT _ tw_k182) (fun _ h9 => h9) rfl hin rfl (by decide +kernel) rfl rfl (Nat.le_of_ble_eq_true rfl) d_Mo_init_17 (fun H locs hP hD hS => ?_)
  have hP : va_P D classes [(h0, .inr (3, [.int (nI 0), .ref q1, .ref q2, .null, .null, .null, .null, .int (nI 0), .null, .int (nI 0), .null, .null, .null])), (q1, .inl (cI, 60, .inl (cN (fun _ => 0)))), (q2, .inl (cI, 60, .inl (cN (fun _ => 0))))] H := hP
  have hD : va_D A [(h0, .inr (3, [.int (nI 0), .ref q1, .ref q2, .null, .null, .null, .null, .int (nI 0), .null, .int (nI 0), .null, .null, .null])), (q1, .inl (cI, 60, .inl (cN (fun _ => 0)))), (q2, .inl (cI, 60, .inl (cN (fun _ => 0))))] := hD
  refine lv_aload_n hx hb d_Mo_init_20 rfl (lv_at hl 0 rfl) ?_
  refine lv_bipush (v := nI 60) hx hb d_Mo_init_21 (by decide) ?_
  refine y_newa (atype := .int) (ty := .int) (N' := 60) (a0 := (60, .inl (cN (fun _ => 0)))) hx hb (hT _ tw_k81) rfl 0 rfl (fun _ _ h9 => h9) hK hP hD hS hA (a0I 60) (by decide) (by decide) (Nat.le_of_ble_eq_true rfl) (Nat.le_of_ble_eq_true rfl) d_Mo_init_23 (fun q3 H hP hD hS => ?_)
  refine W.widen (k := 3) (n := 180) (Nat.le_of_ble_eq_true rfl) (Nat.le_of_ble_eq_true rfl) ?_
  have hP : va_P D classes [(h0, .inr (3, [.int (nI 0), .ref q1, .ref q2, .null, .null, .null, .null, .int (nI 0), .null, .int (nI 0), .null, .null, .null])), (q1, .inl (cI, 60, .inl (cN (fun _ => 0)))), (q2, .inl (cI, 60, .inl (cN (fun _ => 0)))), (q3, .inl (cI, 60, .inl (cN (fun _ => 0))))] H := hP
  have hD : va_D A [(h0, .inr (3, [.int (nI 0), .ref q1, .ref q2, .null, .null, .null, .null, .int (nI 0), .null, .int (nI 0), .null, .null, .null])), (q1, .inl (cI, 60, .inl (cN (fun _ => 0)))), (q2, .inl (cI, 60, .inl (cN (fun _ => 0)))), (q3, .inl (cI, 60, .inl (cN (fun _ => 0))))] := hD
  refine va_putF (D := D) (ci := 3) (v := .ref q3) (ty := .array .int) (C := R_Mo) (T := F_Mo) (N := 13) hx hb hT i_Mo t_Mo t_Mo_ok n_Mo hown hK hP hD hS 0 rfl rfl 3 (by decide) (hT _ tw_k183) (fun _ h9 => h9) rfl hin rfl (by decide +kernel) rfl rfl (Nat.le_of_ble_eq_true rfl) d_Mo_init_25 (fun H locs hP hD hS => ?_)
  have hP : va_P D classes [(h0, .inr (3, [.int (nI 0), .ref q1, .ref q2, .ref q3, .null, .null, .null, .int (nI 0), .null, .int (nI 0), .null, .null, .null])), (q1, .inl (cI, 60, .inl (cN (fun _ => 0)))), (q2, .inl (cI, 60, .inl (cN (fun _ => 0)))), (q3, .inl (cI, 60, .inl (cN (fun _ => 0))))] H := hP
  have hD : va_D A [(h0, .inr (3, [.int (nI 0), .ref q1, .ref q2, .ref q3, .null, .null, .null, .int (nI 0), .null, .int (nI 0), .null, .null, .null])), (q1, .inl (cI, 60, .inl (cN (fun _ => 0)))), (q2, .inl (cI, 60, .inl (cN (fun _ => 0)))), (q3, .inl (cI, 60, .inl (cN (fun _ => 0))))] := hD
  refine lv_aload_n hx hb d_Mo_init_28 rfl (lv_at hl 0 rfl) ?_
  refine lv_bipush (v := nI 60) hx hb d_Mo_init_29 (by decide) ?_
  refine y_newa (atype := .int) (ty := .int) (N' := 60) (a0 := (60, .inl (cN (fun _ => 0)))) hx hb (hT _ tw_k81) rfl 0 rfl (fun _ _ h9 => h9) hK hP hD hS hA (a0I 60) (by decide) (by decide) (Nat.le_of_ble_eq_true rfl) (Nat.le_of_ble_eq_true rfl) d_Mo_init_31 (fun q4 H hP hD hS => ?_)
  refine W.widen (k := 4) (n := 240) (Nat.le_of_ble_eq_true rfl) (Nat.le_of_ble_eq_true rfl) ?_
  have hP : va_P D classes [(h0, .inr (3, [.int (nI 0), .ref q1, .ref q2, .ref q3, .null, .null, .null, .int (nI 0), .null, .int (nI 0), .null, .null, .null])), (q1, .inl (cI, 60, .inl (cN (fun _ => 0)))), (q2, .inl (cI, 60, .inl (cN (fun _ => 0)))), (q3, .inl (cI, 60, .inl (cN (fun _ => 0)))), (q4, .inl (cI, 60, .inl (cN (fun _ => 0))))] H := hP
  have hD : va_D A [(h0, .inr (3, [.int (nI 0), .ref q1, .ref q2, .ref q3, .null, .null, .null, .int (nI 0), .null, .int (nI 0), .null, .null, .null])), (q1, .inl (cI, 60, .inl (cN (fun _ => 0)))), (q2, .inl (cI, 60, .inl (cN (fun _ => 0)))), (q3, .inl (cI, 60, .inl (cN (fun _ => 0)))), (q4, .inl (cI, 60, .inl (cN (fun _ => 0))))] := hD
  refine va_putF (D := D) (ci := 3) (v := .ref q4) (ty := .array .int) (C := R_Mo) (T := F_Mo) (N := 13) hx hb hT i_Mo t_Mo t_Mo_ok n_Mo hown hK hP hD hS 0 rfl rfl 4 (by decide) (hT _ tw_k184) (fun _ h9 => h9) rfl hin rfl (by decide +kernel) rfl rfl (Nat.le_of_ble_eq_true rfl) d_Mo_init_33 (fun H locs hP hD hS => ?_)
  have hP : va_P D classes [(h0, .inr (3, [.int (nI 0), .ref q1, .ref q2, .ref q3, .ref q4, .null, .null, .int (nI 0), .null, .int (nI 0), .null, .null, .null])), (q1, .inl (cI, 60, .inl (cN (fun _ => 0)))), (q2, .inl (cI, 60, .inl (cN (fun _ => 0)))), (q3, .inl (cI, 60, .inl (cN (fun _ => 0)))), (q4, .inl (cI, 60, .inl (cN (fun _ => 0))))] H := hP
  have hD : va_D A [(h0, .inr (3, [.int (nI 0), .ref q1, .ref q2, .ref q3, .ref q4, .null, .null, .int (nI 0), .null, .int (nI 0), .null, .null, .null])), (q1, .inl (cI, 60, .inl (cN (fun _ => 0)))), (q2, .inl (cI, 60, .inl (cN (fun _ => 0)))), (q3, .inl (cI, 60, .inl (cN (fun _ => 0)))), (q4, .inl (cI, 60, .inl (cN (fun _ => 0))))] := hD
  refine lv_aload_n hx hb d_Mo_init_36 rfl (lv_at hl 0 rfl) ?_
  refine lv_bipush (v := nI 60) hx hb d_Mo_init_37 (by decide) ?_
  refine y_newa (atype := .int) (ty := .int) (N' := 60) (a0 := (60, .inl (cN (fun _ => 0)))) hx hb (hT _ tw_k81) rfl 0 rfl (fun _ _ h9 => h9) hK hP hD hS hA (a0I 60) (by decide) (by decide) (Nat.le_of_ble_eq_true rfl) (Nat.le_of_ble_eq_true rfl) d_Mo_init_39 (fun q5 H hP hD hS => ?_)
  refine W.widen (k := 5) (n := 300) (Nat.le_of_ble_eq_true rfl) (Nat.le_of_ble_eq_true rfl) ?_
  have hP : va_P D classes [(h0, .inr (3, [.int (nI 0), .ref q1, .ref q2, .ref q3, .ref q4, .null, .null, .int (nI 0), .null, .int (nI 0), .null, .null, .null])), (q1, .inl (cI, 60, .inl (cN (fun _ => 0)))), (q2, .inl (cI, 60, .inl (cN (fun _ => 0)))), (q3, .inl (cI, 60, .inl (cN (fun _ => 0)))), (q4, .inl (cI, 60, .inl (cN (fun _ => 0)))), (q5, .inl (cI, 60, .inl (cN (fun _ => 0))))] H := hP
  have hD : va_D A [(h0, .inr (3, [.int (nI 0), .ref q1, .ref q2, .ref q3, .ref q4, .null, .null, .int (nI 0), .null, .int (nI 0), .null, .null, .null])), (q1, .inl (cI, 60, .inl (cN (fun _ => 0)))), (q2, .inl (cI, 60, .inl (cN (fun _ => 0)))), (q3, .inl (cI, 60, .inl (cN (fun _ => 0)))), (q4, .inl (cI, 60, .inl (cN (fun _ => 0)))), (q5, .inl (cI, 60, .inl (cN (fun _ => 0))))] := hD
  refine va_putF (D := D) (ci := 3) (v := .ref q5) (ty := .array .int) (C := R_Mo) (T := F_Mo) (N := 13) hx hb hT i_Mo t_Mo t_Mo_ok n_Mo hown hK hP hD hS 0 rfl rfl 5 (by decide) (hT _ tw_k185) (fun _ h9 => h9) rfl hin rfl (by decide +kernel) rfl rfl (Nat.le_of_ble_eq_true rfl) d_Mo_init_41 (fun H locs hP hD hS => ?_)
  have hP : va_P D classes [(h0, .inr (3, [.int (nI 0), .ref q1, .ref q2, .ref q3, .ref q4, .ref q5, .null, .int (nI 0), .null, .int (nI 0), .null, .null, .null])), (q1, .inl (cI, 60, .inl (cN (fun _ => 0)))), (q2, .inl (cI, 60, .inl (cN (fun _ => 0)))), (q3, .inl (cI, 60, .inl (cN (fun _ => 0)))), (q4, .inl (cI, 60, .inl (cN (fun _ => 0)))), (q5, .inl (cI, 60, .inl (cN (fun _ => 0))))] H := hP
  have hD : va_D A [(h0, .inr (3, [.int (nI 0), .ref q1, .ref q2, .ref q3, .ref q4, .ref q5, .null, .int (nI 0), .null, .int (nI 0), .null, .null, .null])), (q1, .inl (cI, 60, .inl (cN (fun _ => 0)))), (q2, .inl (cI, 60, .inl (cN (fun _ => 0)))), (q3, .inl (cI, 60, .inl (cN (fun _ => 0)))), (q4, .inl (cI, 60, .inl (cN (fun _ => 0)))), (q5, .inl (cI, 60, .inl (cN (fun _ => 0))))] := hD
  refine lv_aload_n hx hb d_Mo_init_44 rfl (lv_at hl 0 rfl) ?_
  refine lv_sipush (v := nI 255) hx hb d_Mo_init_45 (by decide) ?_
  refine y_newa (atype := .byte) (ty := .byte) (N' := 255) (a0 := (255, .inl (cT (fun _ => 0)))) hx hb (hT _ tw_k35) rfl 1 rfl (fun _ _ h9 => h9) hK hP hD hS hA (a0B 255) (by decide) (by decide) (Nat.le_of_ble_eq_true rfl) (Nat.le_of_ble_eq_true rfl) d_Mo_init_48 (fun q6 H hP hD hS => ?_)
  refine W.widen (k := 6) (n := 555) (Nat.le_of_ble_eq_true rfl) (Nat.le_of_ble_eq_true rfl) ?_
  have hP : va_P D classes [(h0, .inr (3, [.int (nI 0), .ref q1, .ref q2, .ref q3, .ref q4, .ref q5, .null, .int (nI 0), .null, .int (nI 0), .null, .null, .null])), (q1, .inl (cI, 60, .inl (cN (fun _ => 0)))), (q2, .inl (cI, 60, .inl (cN (fun _ => 0)))), (q3, .inl (cI, 60, .inl (cN (fun _ => 0)))), (q4, .inl (cI, 60, .inl (cN (fun _ => 0)))), (q5, .inl (cI, 60, .inl (cN (fun _ => 0)))), (q6, .inl (cB, 255, .inl (cT (fun _ => 0))))] H := hP
  have hD : va_D A [(h0, .inr (3, [.int (nI 0), .ref q1, .ref q2, .ref q3, .ref q4, .ref q5, .null, .int (nI 0), .null, .int (nI 0), .null, .null, .null])), (q1, .inl (cI, 60, .inl (cN (fun _ => 0)))), (q2, .inl (cI, 60, .inl (cN (fun _ => 0)))), (q3, .inl (cI, 60, .inl (cN (fun _ => 0)))), (q4, .inl (cI, 60, .inl (cN (fun _ => 0)))), (q5, .inl (cI, 60, .inl (cN (fun _ => 0)))), (q6, .inl (cB, 255, .inl (cT (fun _ => 0))))] := hD
  refine va_putF (D := D) (ci := 3) (v := .ref q6) (ty := .array .byte) (C := R_Mo) (T := F_Mo) (N := 13) hx hb hT i_Mo t_Mo t_Mo_ok n_Mo hown hK hP hD hS 0 rfl rfl 6 (by decide) (hT _ tw_k186) (fun _ h9 => h9) rfl hin rfl (by decide +kernel) rfl rfl (Nat.le_of_ble_eq_true rfl) d_Mo_init_50 (fun H locs hP hD hS => ?_)
  have hP : va_P D classes [(h0, .inr (3, [.int (nI 0), .ref q1, .ref q2, .ref q3, .ref q4, .ref q5, .ref q6, .int (nI 0), .null, .int (nI 0), .null, .null, .null])), (q1, .inl (cI, 60, .inl (cN (fun _ => 0)))), (q2, .inl (cI, 60, .inl (cN (fun _ => 0)))), (q3, .inl (cI, 60, .inl (cN (fun _ => 0)))), (q4, .inl (cI, 60, .inl (cN (fun _ => 0)))), (q5, .inl (cI, 60, .inl (cN (fun _ => 0)))), (q6, .inl (cB, 255, .inl (cT (fun _ => 0))))] H := hP
  have hD : va_D A [(h0, .inr (3, [.int (nI 0), .ref q1, .ref q2, .ref q3, .ref q4, .ref q5, .ref q6, .int (nI 0), .null, .int (nI 0), .null, .null, .null])), (q1, .inl (cI, 60, .inl (cN (fun _ => 0)))), (q2, .inl (cI, 60, .inl (cN (fun _ => 0)))), (q3, .inl (cI, 60, .inl (cN (fun _ => 0)))), (q4, .inl (cI, 60, .inl (cN (fun _ => 0)))), (q5, .inl (cI, 60, .inl (cN (fun _ => 0)))), (q6, .inl (cB, 255, .inl (cT (fun _ => 0))))] := hD
  refine lv_aload_n hx hb d_Mo_init_53 rfl (lv_at hl 0 rfl) ?_
  refine lv_sipush (v := nI 255) hx hb d_Mo_init_54 (by decide) ?_
  refine y_newa (atype := .byte) (ty := .byte) (N' := 255) (a0 := (255, .inl (cT (fun _ => 0)))) hx hb (hT _ tw_k35) rfl 1 rfl (fun _ _ h9 => h9) hK hP hD hS hA (a0B 255) (by decide) (by decide) (Nat.le_of_ble_eq_true rfl) (Nat.le_of_ble_eq_true rfl) d_Mo_init_57 (fun q7 H hP hD hS => ?_)
  refine W.widen (k := 7) (n := 810) (Nat.le_of_ble_eq_true rfl) (Nat.le_of_ble_eq_true rfl) ?_
  have hP : va_P D classes [(h0, .inr (3, [.int (nI 0), .ref q1, .ref q2, .ref q3, .ref q4, .ref q5, .ref q6, .int (nI 0), .null, .int (nI 0), .null, .null, .null])), (q1, .inl (cI, 60, .inl (cN (fun _ => 0)))), (q2, .inl (cI, 60, .inl (cN (fun _ => 0)))), (q3, .inl (cI, 60, .inl (cN (fun _ => 0)))), (q4, .inl (cI, 60, .inl (cN (fun _ => 0)))), (q5, .inl (cI, 60, .inl (cN (fun _ => 0)))), (q6, .inl (cB, 255, .inl (cT (fun _ => 0)))), (q7, .inl (cB, 255, .inl (cT (fun _ => 0))))] H := hP
  have hD : va_D A [(h0, .inr (3, [.int (nI 0), .ref q1, .ref q2, .ref q3, .ref q4, .ref q5, .ref q6, .int (nI 0), .null, .int (nI 0), .null, .null, .null])), (q1, .inl (cI, 60, .inl (cN (fun _ => 0)))), (q2, .inl (cI, 60, .inl (cN (fun _ => 0)))), (q3, .inl (cI, 60, .inl (cN (fun _ => 0)))), (q4, .inl (cI, 60, .inl (cN (fun _ => 0)))), (q5, .inl (cI, 60, .inl (cN (fun _ => 0)))), (q6, .inl (cB, 255, .inl (cT (fun _ => 0)))), (q7, .inl (cB, 255, .inl (cT (fun _ => 0))))] := hD
  refine va_putF (D := D) (ci := 3) (v := .ref q7) (ty := .array .byte) (C := R_Mo) (T := F_Mo) (N := 13) hx hb hT i_Mo t_Mo t_Mo_ok n_Mo hown hK hP hD hS 0 rfl rfl 8 (by decide) (hT _ tw_k188) (fun _ h9 => h9) rfl hin rfl (by decide +kernel) rfl rfl (Nat.le_of_ble_eq_true rfl) d_Mo_init_59 (fun H locs hP hD hS => ?_)
  have hP : va_P D classes [(h0, .inr (3, [.int (nI 0), .ref q1, .ref q2, .ref q3, .ref q4, .ref q5, .ref q6, .int (nI 0), .ref q7, .int (nI 0), .null, .null, .null])), (q1, .inl (cI, 60, .inl (cN (fun _ => 0)))), (q2, .inl (cI, 60, .inl (cN (fun _ => 0)))), (q3, .inl (cI, 60, .inl (cN (fun _ => 0)))), (q4, .inl (cI, 60, .inl (cN (fun _ => 0)))), (q5, .inl (cI, 60, .inl (cN (fun _ => 0)))), (q6, .inl (cB, 255, .inl (cT (fun _ => 0)))), (q7, .inl (cB, 255, .inl (cT (fun _ => 0))))] H := hP
  have hD : va_D A [(h0, .inr (3, [.int (nI 0), .ref q1, .ref q2, .ref q3, .ref q4, .ref q5, .ref q6, .int (nI 0), .ref q7, .int (nI 0), .null, .null, .null])), (q1, .inl (cI, 60, .inl (cN (fun _ => 0)))), (q2, .inl (cI, 60, .inl (cN (fun _ => 0)))), (q3, .inl (cI, 60, .inl (cN (fun _ => 0)))), (q4, .inl (cI, 60, .inl (cN (fun _ => 0)))), (q5, .inl (cI, 60, .inl (cN (fun _ => 0)))), (q6, .inl (cB, 255, .inl (cT (fun _ => 0)))), (q7, .inl (cB, 255, .inl (cT (fun _ => 0))))] := hD
  refine lv_aload_n hx hb d_Mo_init_62 rfl (lv_at hl 0 rfl) ?_
  refine lv_sipush (v := nI 256) hx hb d_Mo_init_63 (by decide) ?_
  refine y_newa (atype := .boolean) (ty := .boolean) (N' := 256) (a0 := (256, .inl (c0Z))) hx hb (hT _ tw_k82) rfl 2 rfl (fun _ _ h9 => h9) hK hP hD hS hA (a0Z 256) (by decide) (by decide) (Nat.le_of_ble_eq_true rfl) (Nat.le_of_ble_eq_true rfl) d_Mo_init_66 (fun q8 H hP hD hS => ?_)
  refine W.widen (k := 8) (n := 1066) (Nat.le_of_ble_eq_true rfl) (Nat.le_of_ble_eq_true rfl) ?_
  have hP : va_P D classes [(h0, .inr (3, [.int (nI 0), .ref q1, .ref q2, .ref q3, .ref q4, .ref q5, .ref q6, .int (nI 0), .ref q7, .int (nI 0), .null, .null, .null])), (q1, .inl (cI, 60, .inl (cN (fun _ => 0)))), (q2, .inl (cI, 60, .inl (cN (fun _ => 0)))), (q3, .inl (cI, 60, .inl (cN (fun _ => 0)))), (q4, .inl (cI, 60, .inl (cN (fun _ => 0)))), (q5, .inl (cI, 60, .inl (cN (fun _ => 0)))), (q6, .inl (cB, 255, .inl (cT (fun _ => 0)))), (q7, .inl (cB, 255, .inl (cT (fun _ => 0)))), (q8, .inl (cZ, 256, .inl (c0Z)))] H := hP
  have hD : va_D A [(h0, .inr (3, [.int (nI 0), .ref q1, .ref q2, .ref q3, .ref q4, .ref q5, .ref q6, .int (nI 0), .ref q7, .int (nI 0), .null, .null, .null])), (q1, .inl (cI, 60, .inl (cN (fun _ => 0)))), (q2, .inl (cI, 60, .inl (cN (fun _ => 0)))), (q3, .inl (cI, 60, .inl (cN (fun _ => 0)))), (q4, .inl (cI, 60, .inl (cN (fun _ => 0)))), (q5, .inl (cI, 60, .inl (cN (fun _ => 0)))), (q6, .inl (cB, 255, .inl (cT (fun _ => 0)))), (q7, .inl (cB, 255, .inl (cT (fun _ => 0)))), (q8, .inl (cZ, 256, .inl (c0Z)))] := hD
  refine va_putF (D := D) (ci := 3) (v := .ref q8) (ty := .array .boolean) (C := R_Mo) (T := F_Mo) (N := 13) hx hb hT i_Mo t_Mo t_Mo_ok n_Mo hown hK hP hD hS 0 rfl rfl 10 (by decide) (hT _ tw_k190) (fun _ h9 => h9) rfl hin rfl (by decide +kernel) rfl rfl (Nat.le_of_ble_eq_true rfl) d_Mo_init_68 (fun H locs hP hD hS => ?_)
  have hP : va_P D classes [(h0, .inr (3, [.int (nI 0), .ref q1, .ref q2, .ref q3, .ref q4, .ref q5, .ref q6, .int (nI 0), .ref q7, .int (nI 0), .ref q8, .null, .null])), (q1, .inl (cI, 60, .inl (cN (fun _ => 0)))), (q2, .inl (cI, 60, .inl (cN (fun _ => 0)))), (q3, .inl (cI, 60, .inl (cN (fun _ => 0)))), (q4, .inl (cI, 60, .inl (cN (fun _ => 0)))), (q5, .inl (cI, 60, .inl (cN (fun _ => 0)))), (q6, .inl (cB, 255, .inl (cT (fun _ => 0)))), (q7, .inl (cB, 255, .inl (cT (fun _ => 0)))), (q8, .inl (cZ, 256, .inl (c0Z)))] H := hP
  have hD : va_D A [(h0, .inr (3, [.int (nI 0), .ref q1, .ref q2, .ref q3, .ref q4, .ref q5, .ref q6, .int (nI 0), .ref q7, .int (nI 0), .ref q8, .null, .null])), (q1, .inl (cI, 60, .inl (cN (fun _ => 0)))), (q2, .inl (cI, 60, .inl (cN (fun _ => 0)))), (q3, .inl (cI, 60, .inl (cN (fun _ => 0)))), (q4, .inl (cI, 60, .inl (cN (fun _ => 0)))), (q5, .inl (cI, 60, .inl (cN (fun _ => 0)))), (q6, .inl (cB, 255, .inl (cT (fun _ => 0)))), (q7, .inl (cB, 255, .inl (cT (fun _ => 0)))), (q8, .inl (cZ, 256, .inl (c0Z)))] := hD
  refine lv_aload_n hx hb d_Mo_init_71 rfl (lv_at hl 0 rfl) ?_
  refine lv_sipush (v := nI 256) hx hb d_Mo_init_72 (by decide) ?_
  refine y_newa (atype := .boolean) (ty := .boolean) (N' := 256) (a0 := (256, .inl (c0Z))) hx hb (hT _ tw_k82) rfl 2 rfl (fun _ _ h9 => h9) hK hP hD hS hA (a0Z 256) (by decide) (by decide) (Nat.le_of_ble_eq_true rfl) (Nat.le_of_ble_eq_true rfl) d_Mo_init_75 (fun q9 H hP hD hS => ?_)
  refine W.widen (k := 9) (n := 1322) (Nat.le_of_ble_eq_true rfl) (Nat.le_of_ble_eq_true rfl) ?_
  have hP : va_P D classes [(h0, .inr (3, [.int (nI 0), .ref q1, .ref q2, .ref q3, .ref q4, .ref q5, .ref q6, .int (nI 0), .ref q7, .int (nI 0), .ref q8, .null, .null])), (q1, .inl (cI, 60, .inl (cN (fun _ => 0)))), (q2, .inl (cI, 60, .inl (cN (fun _ => 0)))), (q3, .inl (cI, 60, .inl (cN (fun _ => 0)))), (q4, .inl (cI, 60, .inl (cN (fun _ => 0)))), (q5, .inl (cI, 60, .inl (cN (fun _ => 0)))), (q6, .inl (cB, 255, .inl (cT (fun _ => 0)))), (q7, .inl (cB, 255, .inl (cT (fun _ => 0)))), (q8, .inl (cZ, 256, .inl (c0Z))), (q9, .inl (cZ, 256, .inl (c0Z)))] H := hP
  have hD : va_D A [(h0, .inr (3, [.int (nI 0), .ref q1, .ref q2, .ref q3, .ref q4, .ref q5, .ref q6, .int (nI 0), .ref q7, .int (nI 0), .ref q8, .null, .null])), (q1, .inl (cI, 60, .inl (cN (fun _ => 0)))), (q2, .inl (cI, 60, .inl (cN (fun _ => 0)))), (q3, .inl (cI, 60, .inl (cN (fun _ => 0)))), (q4, .inl (cI, 60, .inl (cN (fun _ => 0)))), (q5, .inl (cI, 60, .inl (cN (fun _ => 0)))), (q6, .inl (cB, 255, .inl (cT (fun _ => 0)))), (q7, .inl (cB, 255, .inl (cT (fun _ => 0)))), (q8, .inl (cZ, 256, .inl (c0Z))), (q9, .inl (cZ, 256, .inl (c0Z)))] := hD
  refine va_putF (D := D) (ci := 3) (v := .ref q9) (ty := .array .boolean) (C := R_Mo) (T := F_Mo) (N := 13) hx hb hT i_Mo t_Mo t_Mo_ok n_Mo hown hK hP hD hS 0 rfl rfl 11 (by decide) (hT _ tw_k191) (fun _ h9 => h9) rfl hin rfl (by decide +kernel) rfl rfl (Nat.le_of_ble_eq_true rfl) d_Mo_init_77 (fun H locs hP hD hS => ?_)
  have hP : va_P D classes [(h0, .inr (3, [.int (nI 0), .ref q1, .ref q2, .ref q3, .ref q4, .ref q5, .ref q6, .int (nI 0), .ref q7, .int (nI 0), .ref q8, .ref q9, .null])), (q1, .inl (cI, 60, .inl (cN (fun _ => 0)))), (q2, .inl (cI, 60, .inl (cN (fun _ => 0)))), (q3, .inl (cI, 60, .inl (cN (fun _ => 0)))), (q4, .inl (cI, 60, .inl (cN (fun _ => 0)))), (q5, .inl (cI, 60, .inl (cN (fun _ => 0)))), (q6, .inl (cB, 255, .inl (cT (fun _ => 0)))), (q7, .inl (cB, 255, .inl (cT (fun _ => 0)))), (q8, .inl (cZ, 256, .inl (c0Z))), (q9, .inl (cZ, 256, .inl (c0Z)))] H := hP
  have hD : va_D A [(h0, .inr (3, [.int (nI 0), .ref q1, .ref q2, .ref q3, .ref q4, .ref q5, .ref q6, .int (nI 0), .ref q7, .int (nI 0), .ref q8, .ref q9, .null])), (q1, .inl (cI, 60, .inl (cN (fun _ => 0)))), (q2, .inl (cI, 60, .inl (cN (fun _ => 0)))), (q3, .inl (cI, 60, .inl (cN (fun _ => 0)))), (q4, .inl (cI, 60, .inl (cN (fun _ => 0)))), (q5, .inl (cI, 60, .inl (cN (fun _ => 0)))), (q6, .inl (cB, 255, .inl (cT (fun _ => 0)))), (q7, .inl (cB, 255, .inl (cT (fun _ => 0)))), (q8, .inl (cZ, 256, .inl (c0Z))), (q9, .inl (cZ, 256, .inl (c0Z)))] := hD
  refine lv_aload_n hx hb d_Mo_init_80 rfl (lv_at hl 0 rfl) ?_
  refine lv_sipush (v := nI 256) hx hb d_Mo_init_81 (by decide) ?_
  refine y_newa (atype := .int) (ty := .int) (N' := 256) (a0 := (256, .inl (cN (fun _ => 0)))) hx hb (hT _ tw_k81) rfl 0 rfl (fun _ _ h9 => h9) hK hP hD hS hA (a0I 256) (by decide) (by decide) (Nat.le_of_ble_eq_true rfl) (Nat.le_of_ble_eq_true rfl) d_Mo_init_84 (fun q10 H hP hD hS => ?_)
  refine W.widen (k := 10) (n := 1578) (Nat.le_of_ble_eq_true rfl) (Nat.le_of_ble_eq_true rfl) ?_
  have hP : va_P D classes [(h0, .inr (3, [.int (nI 0), .ref q1, .ref q2, .ref q3, .ref q4, .ref q5, .ref q6, .int (nI 0), .ref q7, .int (nI 0), .ref q8, .ref q9, .null])), (q1, .inl (cI, 60, .inl (cN (fun _ => 0)))), (q2, .inl (cI, 60, .inl (cN (fun _ => 0)))), (q3, .inl (cI, 60, .inl (cN (fun _ => 0)))), (q4, .inl (cI, 60, .inl (cN (fun _ => 0)))), (q5, .inl (cI, 60, .inl (cN (fun _ => 0)))), (q6, .inl (cB, 255, .inl (cT (fun _ => 0)))), (q7, .inl (cB, 255, .inl (cT (fun _ => 0)))), (q8, .inl (cZ, 256, .inl (c0Z))), (q9, .inl (cZ, 256, .inl (c0Z))), (q10, .inl (cI, 256, .inl (cN (fun _ => 0))))] H := hP
  have hD : va_D A [(h0, .inr (3, [.int (nI 0), .ref q1, .ref q2, .ref q3, .ref q4, .ref q5, .ref q6, .int (nI 0), .ref q7, .int (nI 0), .ref q8, .ref q9, .null])), (q1, .inl (cI, 60, .inl (cN (fun _ => 0)))), (q2, .inl (cI, 60, .inl (cN (fun _ => 0)))), (q3, .inl (cI, 60, .inl (cN (fun _ => 0)))), (q4, .inl (cI, 60, .inl (cN (fun _ => 0)))), (q5, .inl (cI, 60, .inl (cN (fun _ => 0)))), (q6, .inl (cB, 255, .inl (cT (fun _ => 0)))), (q7, .inl (cB, 255, .inl (cT (fun _ => 0)))), (q8, .inl (cZ, 256, .inl (c0Z))), (q9, .inl (cZ, 256, .inl (c0Z))), (q10, .inl (cI, 256, .inl (cN (fun _ => 0))))] := hD
  refine va_putF (D := D) (ci := 3) (v := .ref q10) (ty := .array .int) (C := R_Mo) (T := F_Mo) (N := 13) hx hb hT i_Mo t_Mo t_Mo_ok n_Mo hown hK hP hD hS 0 rfl rfl 12 (by decide) (hT _ tw_k192) (fun _ h9 => h9) rfl hin rfl (by decide +kernel) rfl rfl (Nat.le_of_ble_eq_true rfl) d_Mo_init_86 (fun H locs hP hD hS => ?_)
  have hP : va_P D classes [(h0, .inr (3, [.int (nI 0), .ref q1, .ref q2, .ref q3, .ref q4, .ref q5, .ref q6, .int (nI 0), .ref q7, .int (nI 0), .ref q8, .ref q9, .ref q10])), (q1, .inl (cI, 60, .inl (cN (fun _ => 0)))), (q2, .inl (cI, 60, .inl (cN (fun _ => 0)))), (q3, .inl (cI, 60, .inl (cN (fun _ => 0)))), (q4, .inl (cI, 60, .inl (cN (fun _ => 0)))), (q5, .inl (cI, 60, .inl (cN (fun _ => 0)))), (q6, .inl (cB, 255, .inl (cT (fun _ => 0)))), (q7, .inl (cB, 255, .inl (cT (fun _ => 0)))), (q8, .inl (cZ, 256, .inl (c0Z))), (q9, .inl (cZ, 256, .inl (c0Z))), (q10, .inl (cI, 256, .inl (cN (fun _ => 0))))] H := hP
  have hD : va_D A [(h0, .inr (3, [.int (nI 0), .ref q1, .ref q2, .ref q3, .ref q4, .ref q5, .ref q6, .int (nI 0), .ref q7, .int (nI 0), .ref q8, .ref q9, .ref q10])), (q1, .inl (cI, 60, .inl (cN (fun _ => 0)))), (q2, .inl (cI, 60, .inl (cN (fun _ => 0)))), (q3, .inl (cI, 60, .inl (cN (fun _ => 0)))), (q4, .inl (cI, 60, .inl (cN (fun _ => 0)))), (q5, .inl (cI, 60, .inl (cN (fun _ => 0)))), (q6, .inl (cB, 255, .inl (cT (fun _ => 0)))), (q7, .inl (cB, 255, .inl (cT (fun _ => 0)))), (q8, .inl (cZ, 256, .inl (c0Z))), (q9, .inl (cZ, 256, .inl (c0Z))), (q10, .inl (cI, 256, .inl (cN (fun _ => 0))))] := hD
  exact y_vret hx hb hr hlocks hK (fun k => [h0, q1, q2, q3, q4, q5, q6, q7, q8, q9, q10].getD k 0) hP hD hS (rfl) d_Mo_init_89
end
section
set_option maxHeartbeats 4000000 in
set_option maxRecDepth 100000 in
/-- PatternSieve() -/
theorem c_Sv_init (l : Launch) (D : va_G) (cI cB cZ : ClassId) (h0 : Nat) (sz : Nat) : Met l y_Sv_init cw_Sv_init ({ frames := 2, cells := 12, slots := 1933, locals := 32 }) (va_Pc [.ref h0] (Bp D cI cB cZ ([(h0, .inr (0, [.null, .null]))] : va_W) sz)) (va_Qv (S := Nat → Nat) (fun v_ => v_ 12 = h0) (fun v_ => Bq D cI cB cZ (va_A ([(h0, .inr (0, [.null, .null]))] : va_W) sz) (wS cI cB cZ v_ 0 0 (fun _ => 0) (fun _ => 0) (fun _ => 0) (fun _ => 0) (fun _ => 0) (fun _ => 0) (fun _ => False) (fun _ => False) (fun _ => False) 0 (fun _ => 0))) (va_A ([(h0, .inr (0, [.null, .null]))] : va_W) sz)) 12 1933 (va_A ([(h0, .inr (0, [.null, .null]))] : va_W) sz) := by
  refine Met.ofW (cc := b_Sv_init) (maxL := 1) (ret := none) (by decide) rfl ?_
  intro p e s m args below meth c1 s₁ B hml hv
  obtain ⟨rfl, hsz, hP, hK, hD0, hN⟩ := hv
  subst hsz
  have hx := B.exec
  have hb := B.bytes
  have hr := B.returns
  have hT : ∀ w ∈ tw_, w.before _ s = true := fun w h => atoms_spec (ws := cw_Sv_init) B.pre w (List.mem_cons_of_mem _ h)
  have hown : s.vm.findClass R_Sv = some m.cls := findClass_of_methodNamed B.named
  have hlocks := B.notSynchronized
  have hin : meth.name = "<init>" := (name_of_methodNamed B.named B.method).1
  have hD := hD0.self (sz := s.heap.size)
  generalize hAe : va_A ([(h0, .inr (0, [.null, .null]))] : va_W) s.heap.size = A at hD ⊢
  have hA : ∀ q : Nat, s.heap.size ≤ q → A q := fun q h => by rw [← hAe]; exact Or.inr h
  have hS : va_S A s.heap s.heap [] := va_S.rf
  have hl := lv_entry ([.ref h0]) (n := 1) (Nat.le_of_ble_eq_true rfl)
  rw [lg_entry_eq]
  generalize (lg_sl ([.ref h0]) ++ List.replicate (1 - (lg_sl ([.ref h0])).length) Slot.unset).toArray = ls at hl ⊢
  have hl : lv_has ls 1 [(0, .ref h0)] := hl
  refine lv_aload_n hx hb d_Sv_init_0 rfl (lv_at hl 0 rfl) ?_
  refine W.objInit hx hb hown (hT _ tw_k17) (hT _ tw_k18) (hT _ tw_k19) rfl (by rw [hml]; exact hl.1) rfl d_Sv_init_1 (Nat.le_of_ble_eq_true rfl) (Nat.le_of_ble_eq_true rfl) ?_
  refine W.eq (g2 := F0 m 4 ls []) rfl ?_
  refine lv_aload_n hx hb d_Sv_init_4 rfl (lv_at hl 0 rfl) ?_
  refine va_new (ci := 2) (fs := [.null, .int (nI 0)]) (C := R_Pi) (T := F_Pi) (N := 2) hx hb hT i_Pi t_Pi t_Pi_ok hown (hT _ tw_k20) (hT _ tw_k21) (hT _ tw_k8) hK hP hD hS hA rfl (fun j hj => by rcases (show j = 0 ∨ j = 1 by omega) with rfl | rfl <;> rfl) (Nat.le_of_ble_eq_true rfl) (Nat.le_of_ble_eq_true rfl) d_Sv_init_5 (fun g0 H hP hD hS => ?_)
  refine W.widen (k := 1) (n := 2) (Nat.le_of_ble_eq_true rfl) (Nat.le_of_ble_eq_true rfl) ?_
  have hP : va_P D classes [(h0, .inr (0, [.null, .null])), (g0, .inr (2, [.null, .int (nI 0)]))] H := hP
  have hD : va_D A [(h0, .inr (0, [.null, .null])), (g0, .inr (2, [.null, .int (nI 0)]))] := hD
  refine lv_dup hx hb d_Sv_init_8 rfl ?_
  refine y_va (w0 := ([(g0, .inr (2, [.null, .int (nI 0)]))] : va_W)) (wr := [_]) hP hD hS hA [1] [0] rfl rfl (by decide) (by decide) (y_runIN (n := 0) (rm := { frames := 1, cells := 1, slots := 256, locals := 12 }) (w0 := ([(g0, .inr (2, [.null, .int (nI 0)]))] : va_W)) (b := g0) (As := []) (rest := [.ref g0, .ref h0]) hx hb hml hown hT hN hK hP hD (c_Pi_init l D cI cB cZ g0 _) ⟨tw_k24, tw_k8⟩ (Nst.n22 hN) (by decide +kernel) ⟨rfl, tw_k23⟩ [1] rfl (by decide) ⟨Nat.le_of_ble_eq_true rfl, Nat.le_of_ble_eq_true rfl⟩ rfl hl.1 rfl (Nat.le_of_ble_eq_true rfl) d_Sv_init_9 ⟨Nat.le_of_ble_eq_true rfl, Nat.le_of_ble_eq_true rfl⟩) (fun g1 H locs hp hP hD hS => ?_)
  refine W.widen (k := 2) (n := 258) (Nat.le_of_ble_eq_true rfl) (Nat.le_of_ble_eq_true rfl) ?_
  have hP : va_P D classes [(h0, .inr (0, [.null, .null])), (g0, .inr (2, [.ref g1, .int (nI 0)])), (g1, .inl (cB, 256, .inl (cT (fun _ => 0))))] H := hP
  have hD : va_D A [(h0, .inr (0, [.null, .null])), (g0, .inr (2, [.ref g1, .int (nI 0)])), (g1, .inl (cB, 256, .inl (cT (fun _ => 0))))] := hD
  refine va_putF (D := D) (ci := 0) (v := .ref g0) (ty := .object "PatternSieve$Pile") (C := R_Sv) (T := F_Sv) (N := 2) hx hb hT i_Sv t_Sv t_Sv_ok n_Sv hown hK hP hD hS 0 rfl rfl 0 (by decide) (hT _ tw_k83) (fun _ h9 => h9) rfl hin rfl (by decide +kernel) rfl rfl (Nat.le_of_ble_eq_true rfl) d_Sv_init_12 (fun H locs hP hD hS => ?_)
  have hP : va_P D classes [(h0, .inr (0, [.ref g0, .null])), (g0, .inr (2, [.ref g1, .int (nI 0)])), (g1, .inl (cB, 256, .inl (cT (fun _ => 0))))] H := hP
  have hD : va_D A [(h0, .inr (0, [.ref g0, .null])), (g0, .inr (2, [.ref g1, .int (nI 0)])), (g1, .inl (cB, 256, .inl (cT (fun _ => 0))))] := hD
  refine lv_aload_n hx hb d_Sv_init_15 rfl (lv_at hl 0 rfl) ?_
  refine va_new (ci := 1) (fs := [.null, .null, .null, .null, .null, .null, .null, .null, .null, .int (nI 0), .int (nI 0)]) (C := R_Pt) (T := F_Pt) (N := 11) hx hb hT i_Pt t_Pt t_Pt_ok hown (hT _ tw_k36) (hT _ tw_k37) (hT _ tw_k9) hK hP hD hS hA rfl (fun j hj => by rcases (show j = 0 ∨ j = 1 ∨ j = 2 ∨ j = 3 ∨ j = 4 ∨ j = 5 ∨ j = 6 ∨ j = 7 ∨ j = 8 ∨ j = 9 ∨ j = 10 by omega) with rfl | rfl | rfl | rfl | rfl | rfl | rfl | rfl | rfl | rfl | rfl <;> rfl) (Nat.le_of_ble_eq_true rfl) (Nat.le_of_ble_eq_true rfl) d_Sv_init_16 (fun p0 H hP hD hS => ?_)
  refine W.widen (k := 3) (n := 269) (Nat.le_of_ble_eq_true rfl) (Nat.le_of_ble_eq_true rfl) ?_
  have hP : va_P D classes [(h0, .inr (0, [.ref g0, .null])), (g0, .inr (2, [.ref g1, .int (nI 0)])), (g1, .inl (cB, 256, .inl (cT (fun _ => 0)))), (p0, .inr (1, [.null, .null, .null, .null, .null, .null, .null, .null, .null, .int (nI 0), .int (nI 0)]))] H := hP
  have hD : va_D A [(h0, .inr (0, [.ref g0, .null])), (g0, .inr (2, [.ref g1, .int (nI 0)])), (g1, .inl (cB, 256, .inl (cT (fun _ => 0)))), (p0, .inr (1, [.null, .null, .null, .null, .null, .null, .null, .null, .null, .int (nI 0), .int (nI 0)]))] := hD
  refine lv_dup hx hb d_Sv_init_19 rfl ?_
  refine y_va (w0 := ([(p0, .inr (1, [.null, .null, .null, .null, .null, .null, .null, .null, .null, .int (nI 0), .int (nI 0)]))] : va_W)) (wr := [_, _, _]) hP hD hS hA [3] [0, 1, 2] rfl rfl (by decide) (by decide) (y_runIN (n := 0) (rm := { frames := 1, cells := 9, slots := 1664, locals := 12 }) (w0 := ([(p0, .inr (1, [.null, .null, .null, .null, .null, .null, .null, .null, .null, .int (nI 0), .int (nI 0)]))] : va_W)) (b := p0) (As := []) (rest := [.ref p0, .ref h0]) hx hb hml hown hT hN hK hP hD (c_Pt_init l D cI cB cZ p0 _) ⟨tw_k40, tw_k9⟩ (Nst.n38 hN) (by decide +kernel) ⟨rfl, tw_k39⟩ [3] rfl (by decide) ⟨Nat.le_of_ble_eq_true rfl, Nat.le_of_ble_eq_true rfl⟩ rfl hl.1 rfl (Nat.le_of_ble_eq_true rfl) d_Sv_init_20 ⟨Nat.le_of_ble_eq_true rfl, Nat.le_of_ble_eq_true rfl⟩) (fun av H locs hp hP hD hS => ?_)
  refine W.widen (k := 12) (n := 1933) (Nat.le_of_ble_eq_true rfl) (Nat.le_of_ble_eq_true rfl) ?_
  rw [show p0 = av 0 from Eq.symm hp]
  have hP : va_P D classes (((h0, .inr (0, [.ref g0, .null])) :: [(g0, .inr (2, [.ref g1, .int (nI 0)])), (g1, .inl (cB, 256, .inl (cT (fun _ => 0))))]) ++ wPt cI cB cZ av 0 0 (fun _ => 0) (fun _ => 0) (fun _ => 0) (fun _ => 0) (fun _ => 0) (fun _ => 0) (fun _ => False) (fun _ => False) (fun _ => False)) H := hP
  have hD : va_D A (((h0, .inr (0, [.ref g0, .null])) :: [(g0, .inr (2, [.ref g1, .int (nI 0)])), (g1, .inl (cB, 256, .inl (cT (fun _ => 0))))]) ++ wPt cI cB cZ av 0 0 (fun _ => 0) (fun _ => 0) (fun _ => 0) (fun _ => 0) (fun _ => 0) (fun _ => 0) (fun _ => False) (fun _ => False) (fun _ => False)) := hD
  refine va_putF (D := D) (ci := 0) (v := .ref (av 0)) (ty := .object "PatternSieve$Pattern") (C := R_Sv) (T := F_Sv) (N := 2) hx hb hT i_Sv t_Sv t_Sv_ok n_Sv hown hK hP hD hS 0 rfl rfl 1 (by decide) (hT _ tw_k84) (fun _ h9 => h9) rfl hin rfl (by decide +kernel) rfl rfl (Nat.le_of_ble_eq_true rfl) d_Sv_init_23 (fun H locs hP hD hS => ?_)
  have hP : va_P D classes (((h0, .inr (0, [.ref g0, .ref (av 0)])) :: [(g0, .inr (2, [.ref g1, .int (nI 0)])), (g1, .inl (cB, 256, .inl (cT (fun _ => 0))))]) ++ wPt cI cB cZ av 0 0 (fun _ => 0) (fun _ => 0) (fun _ => 0) (fun _ => 0) (fun _ => 0) (fun _ => 0) (fun _ => False) (fun _ => False) (fun _ => False)) H := hP
  have hD : va_D A (((h0, .inr (0, [.ref g0, .ref (av 0)])) :: [(g0, .inr (2, [.ref g1, .int (nI 0)])), (g1, .inl (cB, 256, .inl (cT (fun _ => 0))))]) ++ wPt cI cB cZ av 0 0 (fun _ => 0) (fun _ => 0) (fun _ => 0) (fun _ => 0) (fun _ => 0) (fun _ => 0) (fun _ => False) (fun _ => False) (fun _ => False)) := hD
  have hP := hP.sub (ws' := wS cI cB cZ (fun k => [av 0, av 1, av 2, av 3, av 4, av 5, av 6, av 7, av 8, av 9, g0, g1, h0].getD k 0) 0 0 (fun _ => 0) (fun _ => 0) (fun _ => 0) (fun _ => 0) (fun _ => 0) (fun _ => 0) (fun _ => False) (fun _ => False) (fun _ => False) 0 (fun _ => 0)) [0, 3, 4, 5, 6, 7, 8, 9, 10, 11, 12, 1, 2] rfl
  have hD := hD.sub (ws' := wS cI cB cZ (fun k => [av 0, av 1, av 2, av 3, av 4, av 5, av 6, av 7, av 8, av 9, g0, g1, h0].getD k 0) 0 0 (fun _ => 0) (fun _ => 0) (fun _ => 0) (fun _ => 0) (fun _ => 0) (fun _ => 0) (fun _ => False) (fun _ => False) (fun _ => False) 0 (fun _ => 0)) [0, 3, 4, 5, 6, 7, 8, 9, 10, 11, 12, 1, 2] (by decide) rfl
  exact y_vret hx hb hr hlocks hK (fun k => [av 0, av 1, av 2, av 3, av 4, av 5, av 6, av 7, av 8, av 9, g0, g1, h0].getD k 0) hP hD hS (rfl) d_Sv_init_26
end
section
/-! the invariant of the law's loop; the script's own rows -/
def IP (v : PS) : Prop := v.1 ≤ 60 ∧ v.2.1 ≤ 255 ∧ (∀ k, v.2.2.1 k ≤ 255) ∧ (∀ k, v.2.2.2.1 k ≤ 255) ∧ (∀ k, v.2.2.2.2.1 k < 128) ∧ (∀ k, v.2.2.2.2.2.2.1 k ≤ 255) ∧ (∀ k, k < v.1 → v.2.2.2.2.2.1 k + v.2.2.2.2.2.2.1 k ≤ v.2.1)
theorem up_le {f : Nat → Nat} {k x b : Nat} (h : ∀ j, f j ≤ b) (hx : x ≤ b) : ∀ j, va_up f k x j ≤ b := by
  intro j
  unfold va_up
  split
  · exact hx
  · exact h j
theorem IP_clear {v : PS} (h : IP v) : IP (0, 0, v.2.2) := by
  obtain ⟨h1, h2, h3, h4, h5, h6, h7⟩ := h
  exact ⟨Nat.zero_le _, Nat.zero_le _, h3, h4, h5, h6, fun k hk => absurd hk (Nat.not_lt_zero k)⟩
theorem IP_P {c u : Nat} {L M C F S : Nat → Nat} {li : Nat → Int8} {x y : Int32} (h : IP (c, u, L, M, C, F, S, li)) : IP (stP c u L M C F S li x y) := by
  unfold stP
  by_cases g : okP c x y
  · rw [iff_t g]
    obtain ⟨h1, h2, h3, h4, h5, h6, h7⟩ := h
    obtain ⟨g1, ⟨p, hp, rfl⟩, ⟨q, hq, rfl⟩⟩ := g
    dsimp only at h1 h2 h3 h4 h5 h6 h7
    refine ⟨by show c + 1 ≤ 60; omega, h2, up_le h3 (by rw [nI_clamp (by omega)]; exact hp), up_le h4 (by rw [nI_clamp (by omega)]; exact hq), fun k => Nat.lt_succ_of_le (up_le (fun j => Nat.le_of_lt_succ (h5 j)) (Nat.zero_le _) k), up_le h6 (Nat.zero_le _), fun k hk => ?_⟩
    show va_up F c u k + va_up S c 0 k ≤ u
    have hk : k < c + 1 := hk
    unfold va_up
    by_cases e : k = c
    · rw [if_pos e, if_pos e]; omega
    · rw [if_neg e, if_neg e]; exact h7 k (by show k < c; omega)
  · rw [iff_f g]; exact h
theorem IP_L {c u : Nat} {L M C F S : Nat → Nat} {li : Nat → Int8} {x : Int32} (h : IP (c, u, L, M, C, F, S, li)) : IP (stL c u L M C F S li x) := by
  unfold stL
  by_cases g : okL c S x
  · rw [iff_t g]
    obtain ⟨h1, h2, h3, h4, h5, h6, h7⟩ := h
    refine ⟨h1, h2, h3, h4, fun k => ?_, h6, h7⟩
    refine Nat.lt_succ_of_le (up_le (b := 127) (fun j => Nat.le_of_lt_succ (h5 j)) ?_ k)
    exact Nat.le_of_lt_succ (Nat.or_lt_two_pow (n := 7) (h5 _) (bitN_lt x))
  · rw [iff_f g]; exact h
theorem IP_T {c u : Nat} {L M C F S : Nat → Nat} {li : Nat → Int8} {x : Int32} (h : IP (c, u, L, M, C, F, S, li)) : IP (stT c u L M C F S li x) := by
  unfold stT
  by_cases g : okT c u C
  · rw [iff_t g]
    obtain ⟨h1, h2, h3, h4, h5, h6, h7⟩ := h
    obtain ⟨g1, g2, g3⟩ := g
    dsimp only at h1 h2 h3 h4 h5 h6 h7
    have hl := h7 (c - 1) (by omega)
    refine ⟨h1, by show u + 1 ≤ 255; omega, h3, h4, h5, up_le h6 (by omega), fun k hk => ?_⟩
    show F k + va_up S (c - 1) (S (c - 1) + 1) k ≤ u + 1
    have hk : k < c := hk
    unfold va_up
    by_cases e : k = c - 1
    · rw [if_pos e, e]; omega
    · rw [if_neg e]; have := h7 k hk; omega
  · rw [iff_f g]; exact h
theorem IA_ {z : Nat} {tx : Nat → Int8} {x : Int32} (h : z ≤ 255) : (stA z tx x).1 ≤ 255 := by
  unfold stA
  by_cases g : z ≠ 255
  · rw [iff_t g]; show z + 1 ≤ 255; omega
  · rw [iff_f g]; exact h
theorem lw_cmp {n i : Nat} (hn : n ≤ 1536) (hi : i ≤ 1536) : (nI n - nI 3 < nI i) ↔ n < i + 3 := by
  rw [Int32.lt_iff_toInt_lt, pk_sub_toInt (by omega) (by decide), nI_toInt (by omega)]
  omega
section YS
variable {p : Program} {l : Launch} {e : Env} {R : Room} {s : State} {m : MethodId} {args : Array Value} {below : List Frame} {meth : Method} {c : Code} {H : Heap} {locs : List Loc} {cells slots : Nat} {Q : State → Prop}
variable {cc : ByteArray} {pc : Nat} {ls : Array Slot} {rest : List Value} {A : Nat → Prop} {H0 : Heap}
theorem y_sld (hexec : p.tables.exec = Jvm.exec) (hb : c.code = cc) {b L : Nat} {xs : Nat → Int32} (hX : va_X b L xs s H0) (hbl : b < H0.size) (hbA : ¬ A b) (hS : va_S A H0 H locs) {i : Nat} (hi : i < L) (hL : L < 2 ^ 31) (hdg : decode cc pc = .ok (.iaload, 1))
    (kk : W p l e R s m args below meth c H locs cells slots Q (F0 m (pc + 1) ls (.int (xs i) :: rest))) : W p l e R s m args below meth c H locs cells slots Q (F0 m pc ls (.int (nI i) :: .ref b :: rest)) :=
  va_sld hexec hb hX hbl hbA hS (vp_in_nI hi hL) hdg (by rw [nI_clamp (Nat.lt_trans hi hL)]; exact kk)
end YS
end
section
/-! THE CLAIM OUT OF ONE WALK OF THE LAW'S BODY. Your part is whole_start (and what it stands on); all else here is the same for every law, but numbers. -/
def R_law : String := "PatternSieveLaw"
def lw_P (b : Addr) (xs : List Int32) (args : Array Value) (s : State) : Prop := args = #[.ref b] ∧ s.IntsAt b xs ∧ xs.length ≤ 1536 ∧ (Jvm.Cond.and given_1 narrow_1).before args s = true
def lw_Q (_ : Array Value) (s : State) (o : Outcome) (t : State) : Prop := o = .returned (some (.int 1)) ∧ Framed s o t [] 24 3526
def lw_Z (below : List Frame) (a : Array Value) (s : State) : State → Prop := fun t => ∃ o, t.status = .running ∧ Ended t below o ∧ lw_Q a s o t
/-- the law's own end, with 1 on the stack, nothing written that was there before, its room as the claim has it -/
theorem lw_ret {p : Program} {l : Launch} {e : Env} {s : State} {m : MethodId} {below : List Frame} {meth : Method} {c : Code} {b : Nat} (hx : p.tables.exec = Jvm.exec) (hb : c.code = code) (hr : meth.sig.returnType = ret) (hlocks : meth.locks = false) {pc : Nat} {H : Heap} {ls : Array Slot} (hdg : decode code pc = .ok (.ireturn, 1)) : W p l e room_1 s m #[Value.ref b] below meth c H [] 24 3526 (lw_Z below #[Value.ref b] s) (F0 m pc ls [.int 1]) := by
  intro T hT X
  obtain ⟨fs, hret, hrun, hended, hW, hframe⟩ := X.leave (v := some (.int 1)) (hlocks := hlocks) (fun h => by rw [hr] at h; cases h)
  have hmeth' : T.vm.method? m = some meth := X.method'
  refine ⟨T.setFrames fs, ?_, .returned (some (.int 1)), hrun, hended, rfl, ⟨_, rfl⟩, hW, hframe⟩
  jvm_step X.here [X.here.top, hx, hb, hdg, hmeth', hr, ret, narrow_b1]
  (try refine ⟨rfl, ?_⟩); (try refine ⟨rfl, ?_⟩)
  first | (intro acts; rw [hret _ acts rfl rfl rfl]) | rw [hret _ _ rfl rfl rfl]
  exact Steps.refl _
/-- what holds at the law's entry: the machine, the code, the tables' words (any of lw_tbl by 'hts w (by decide +kernel)'), the script of L ints xs at the cell b, what the Statement gives of the start (any of its parts by flat_of_before) -/
def lw_At (p : Program) (s : State) (m : MethodId) (meth : Method) (c : Code) (b L : Nat) (xs : Nat → Int32) : Prop :=
  p.tables.exec = Jvm.exec ∧ c.code = code ∧ meth.sig.returnType = ret ∧ c.maxLocals = 4 ∧ s.vm.findClass R_law = some m.cls ∧ (∀ w ∈ lw_tbl, w.before #[Value.ref b] s = true) ∧ va_X b L xs s s.heap ∧ b < s.heap.size ∧ meth.locks = false ∧ (Jvm.Cond.and given_1 narrow_1).before #[Value.ref b] s = true
end
section
set_option maxHeartbeats 1000000 in
set_option maxRecDepth 100000 in
/-- THE LAW, from its entry -/
theorem whole_start {p : Program} {e : Env} {s : State} {m : MethodId} {below : List Frame} {meth : Method} {c : Code} (l : Launch) {b L : Nat} {xs : Nat → Int32} (hL : L ≤ 1536) (C0 : lw_At p s m meth c b L xs) : W p l e room_1 s m #[Value.ref b] below meth c s.heap [] 0 0 (lw_Z below #[Value.ref b] s) (entryFrame m ([Value.ref b] : List Value).toArray 4) := by
  obtain ⟨hx, hb, hr, hml, hown, hts, hX, hbl, hlocks, hgv⟩ := id C0
  obtain ⟨bs, rfl⟩ : ∃ bs, bs = b := ⟨_, rfl⟩
  obtain ⟨Ls, rfl⟩ : ∃ Ls, Ls = L := ⟨_, rfl⟩
  have hL0 : Ls ≤ 1536 := hL
  clear hL
  obtain ⟨A, hAe⟩ : ∃ A : Nat → Prop, A = fun q : Nat => s.heap.size ≤ q := ⟨_, rfl⟩
  have hA : ∀ q : Nat, s.heap.size ≤ q → A q := fun q h => by rw [hAe]; exact h
  have hbA : ¬ A bs := by rw [hAe]; exact Nat.not_le.mpr hbl
  have hT : ∀ w ∈ tw_, w.before #[Value.ref bs] s = true := fun w h => hts w (tw_sub w h)
  have hN : Nst s := Nst.of hts
  obtain ⟨c0, iS0, hKn0⟩ := u_known (C := R_Sv) (T := F_Sv) (N := 2) (n := 2) hT i_Sv (hT _ tw_k13)
  obtain ⟨c1, iS1, hKn1⟩ := u_known (C := R_Pt) (T := F_Pt) (N := 11) (n := 11) hT i_Pt (hT _ tw_k37)
  obtain ⟨c2, iS2, hKn2⟩ := u_known (C := R_Pi) (T := F_Pi) (N := 2) (n := 2) hT i_Pi (hT _ tw_k21)
  obtain ⟨c3, iS3, hKn3⟩ := u_known (C := R_Mo) (T := F_Mo) (N := 13) (n := 13) hT i_Mo (hT _ tw_k175)
  obtain ⟨D, hKc⟩ : ∃ (D : va_G), ∀ (k : Nat) (q : vw_C), classes[k]? = some q → u_Kn s q.1 q.2.1 q.2.2 (D.1 k) (D.2 k) := by
    refine ⟨(fun k => if k = 0 then c0 else if k = 1 then c1 else if k = 2 then c2 else c3, fun k => if k = 0 then iS0 else if k = 1 then iS1 else if k = 2 then iS2 else iS3), ?_⟩
    intro k q hq
    match k, hq with
    | 0, hq => cases hq; exact hKn0
    | 1, hq => cases hq; exact hKn1
    | 2, hq => cases hq; exact hKn2
    | 3, hq => cases hq; exact hKn3
    | k + 4, hq => simp [classes] at hq
  obtain ⟨cI, kI, coI, hI1, hI2, hI3⟩ := Cond.arrayClass_spec (hT _ tw_k81)
  obtain ⟨cB, kB, coB, hB1, hB2, hB3⟩ := Cond.arrayClass_spec (hT _ tw_k35)
  obtain ⟨cZ, kZ, coZ, hZ1, hZ2, hZ3⟩ := Cond.arrayClass_spec (hT _ tw_k82)
  have hK : va_K D classes (tyl cI cB cZ) s := by
    refine ⟨hKc, fun k q hq => ?_⟩
    match k, hq with
    | 0, hq => cases hq; exact ⟨fun n z => ⟨fun k h => (by cases h), kI, hI2, coI, hI3⟩, hI1⟩
    | 1, hq => cases hq; exact ⟨fun n z => ⟨fun k h => (by cases h), kB, hB2, coB, hB3⟩, hB1⟩
    | 2, hq => cases hq; exact ⟨fun n z => ⟨fun k h => (by cases h), kZ, hZ2, coZ, hZ3⟩, hZ1⟩
    | k + 3, hq => simp at hq
  have hS : va_S A s.heap s.heap [] := va_S.rf
  have hP : va_P D classes [] s.heap := fun k q h => by simp at h
  have hD : va_D A [] := ⟨fun i j p q h => by simp at h, fun k q h => by simp at h⟩
  have hl := lv_entry ([.ref bs]) (n := 4) (Nat.le_of_ble_eq_true rfl)
  rw [lg_entry_eq]
  generalize (lg_sl ([.ref bs]) ++ List.replicate (4 - (lg_sl ([.ref bs])).length) Slot.unset).toArray = ls at hl ⊢
  have hl : lv_has ls 4 [(0, .ref bs)] := hl
  refine va_new (D := D) (ci := 0) (fs := [.null, .null]) (C := R_Sv) (T := F_Sv) (N := 2) hx hb hT i_Sv t_Sv t_Sv_ok hown (hT _ tw_k12) (hT _ tw_k13) (hT _ tw_k7) hK hP hD hS hA rfl (fun j hj => by rcases (show j = 0 ∨ j = 1 by omega) with rfl | rfl <;> rfl) (Nat.le_of_ble_eq_true rfl) (Nat.le_of_ble_eq_true rfl) d_law_law_0 (fun x0 H hP hD hS => ?_)
  refine W.widen (k := 1) (n := 2) (Nat.le_of_ble_eq_true rfl) (Nat.le_of_ble_eq_true rfl) ?_
  have hP : va_P D classes [(x0, .inr (0, [.null, .null]))] H := hP
  have hD : va_D A [(x0, .inr (0, [.null, .null]))] := hD
  refine lv_dup hx hb d_law_law_3 rfl ?_
  refine y_va (w0 := ([(x0, .inr (0, [.null, .null]))] : va_W)) (wr := []) hP hD hS hA [0] [] rfl rfl (by decide) (by decide) (y_runI (n := 0) (rm := { frames := 2, cells := 12, slots := 1933, locals := 32 }) (w0 := ([(x0, .inr (0, [.null, .null]))] : va_W)) (b := x0) (As := []) (rest := [.ref x0]) hx hb hml hown hT hN hK hP hD (c_Sv_init l D cI cB cZ x0 _) ⟨tw_k16, tw_k7, tw_k14, by decide +kernel⟩ ⟨rfl, tw_k15⟩ [0] rfl (by decide) ⟨Nat.le_of_ble_eq_true rfl, Nat.le_of_ble_eq_true rfl⟩ rfl hl.1 rfl (Nat.le_of_ble_eq_true rfl) d_law_law_4 ⟨Nat.le_of_ble_eq_true rfl, Nat.le_of_ble_eq_true rfl⟩) (fun a H locs hpa hP hD hS => ?_)
  refine W.widen (k := 13) (n := 1935) (Nat.le_of_ble_eq_true rfl) (Nat.le_of_ble_eq_true rfl) ?_
  rw [show x0 = a 12 from Eq.symm hpa]
  have hP : va_P D classes (wS cI cB cZ a 0 0 (fun _ => 0) (fun _ => 0) (fun _ => 0) (fun _ => 0) (fun _ => 0) (fun _ => 0) (fun _ => False) (fun _ => False) (fun _ => False) 0 (fun _ => 0)) H := hP
  have hD : va_D A (wS cI cB cZ a 0 0 (fun _ => 0) (fun _ => 0) (fun _ => 0) (fun _ => 0) (fun _ => 0) (fun _ => 0) (fun _ => False) (fun _ => False) (fun _ => False) 0 (fun _ => 0)) := hD
  refine lv_astore_n (lv' := [(1, .ref (a 12)), (0, .ref bs)]) hx hb d_law_law_7 rfl hl (by decide) rfl (fun ls hl => ?_)
  refine va_new (D := D) (ci := 3) (fs := [.int (nI 0), .null, .null, .null, .null, .null, .null, .int (nI 0), .null, .int (nI 0), .null, .null, .null]) (C := R_Mo) (T := F_Mo) (N := 13) hx hb hT i_Mo t_Mo t_Mo_ok hown (hT _ tw_k174) (hT _ tw_k175) (hT _ tw_k10) hK hP hD hS hA rfl (fun j hj => by rcases (show j = 0 ∨ j = 1 ∨ j = 2 ∨ j = 3 ∨ j = 4 ∨ j = 5 ∨ j = 6 ∨ j = 7 ∨ j = 8 ∨ j = 9 ∨ j = 10 ∨ j = 11 ∨ j = 12 by omega) with rfl | rfl | rfl | rfl | rfl | rfl | rfl | rfl | rfl | rfl | rfl | rfl | rfl <;> rfl) (Nat.le_of_ble_eq_true rfl) (Nat.le_of_ble_eq_true rfl) d_law_law_8 (fun m0 H hP hD hS => ?_)
  refine W.widen (k := 14) (n := 1948) (Nat.le_of_ble_eq_true rfl) (Nat.le_of_ble_eq_true rfl) ?_
  have hP : va_P D classes (wS cI cB cZ a 0 0 (fun _ => 0) (fun _ => 0) (fun _ => 0) (fun _ => 0) (fun _ => 0) (fun _ => 0) (fun _ => False) (fun _ => False) (fun _ => False) 0 (fun _ => 0) ++ [(m0, .inr (3, [.int (nI 0), .null, .null, .null, .null, .null, .null, .int (nI 0), .null, .int (nI 0), .null, .null, .null]))]) H := hP
  have hD : va_D A (wS cI cB cZ a 0 0 (fun _ => 0) (fun _ => 0) (fun _ => 0) (fun _ => 0) (fun _ => 0) (fun _ => 0) (fun _ => False) (fun _ => False) (fun _ => False) 0 (fun _ => 0) ++ [(m0, .inr (3, [.int (nI 0), .null, .null, .null, .null, .null, .null, .int (nI 0), .null, .int (nI 0), .null, .null, .null]))]) := hD
  refine lv_dup hx hb d_law_law_11 rfl ?_
  refine y_va (w0 := ([(m0, .inr (3, [.int (nI 0), .null, .null, .null, .null, .null, .null, .int (nI 0), .null, .int (nI 0), .null, .null, .null]))] : va_W)) (wr := [_, _, _, _, _, _, _, _, _, _, _, _, _]) hP hD hS hA [13] [0, 1, 2, 3, 4, 5, 6, 7, 8, 9, 10, 11, 12] rfl rfl (by decide) (by decide) (y_runI (n := 0) (rm := { frames := 1, cells := 10, slots := 1578, locals := 12 }) (w0 := ([(m0, .inr (3, [.int (nI 0), .null, .null, .null, .null, .null, .null, .int (nI 0), .null, .int (nI 0), .null, .null, .null]))] : va_W)) (b := m0) (As := []) (rest := [.ref m0]) hx hb hml hown hT hN hK hP hD (c_Mo_init l D cI cB cZ m0 _) ⟨tw_k178, tw_k10, tw_k176, by decide +kernel⟩ ⟨rfl, tw_k177⟩ [13] rfl (by decide) ⟨Nat.le_of_ble_eq_true rfl, Nat.le_of_ble_eq_true rfl⟩ rfl hl.1 rfl (Nat.le_of_ble_eq_true rfl) d_law_law_12 ⟨Nat.le_of_ble_eq_true rfl, Nat.le_of_ble_eq_true rfl⟩) (fun b H locs hpb hP hD hS => ?_)
  refine W.widen (k := 24) (n := 3526) (Nat.le_of_ble_eq_true rfl) (Nat.le_of_ble_eq_true rfl) ?_
  rw [show m0 = b 0 from Eq.symm hpb]
  have hP : va_P D classes (wS cI cB cZ a 0 0 (fun _ => 0) (fun _ => 0) (fun _ => 0) (fun _ => 0) (fun _ => 0) (fun _ => 0) (fun _ => False) (fun _ => False) (fun _ => False) 0 (fun _ => 0) ++ wM cI cB cZ b 0 0 0 (fun _ => 0) (fun _ => 0) (fun _ => 0) (fun _ => 0) (fun _ => 0) (fun _ => 0) (fun _ => 0) (fun _ => False) (fun _ => False) (fun _ => 0)) H := hP
  have hD : va_D A (wS cI cB cZ a 0 0 (fun _ => 0) (fun _ => 0) (fun _ => 0) (fun _ => 0) (fun _ => 0) (fun _ => 0) (fun _ => False) (fun _ => False) (fun _ => False) 0 (fun _ => 0) ++ wM cI cB cZ b 0 0 0 (fun _ => 0) (fun _ => 0) (fun _ => 0) (fun _ => 0) (fun _ => 0) (fun _ => 0) (fun _ => 0) (fun _ => False) (fun _ => False) (fun _ => 0)) := hD
  refine lv_astore_n (lv' := [(2, .ref (b 0)), (1, .ref (a 12)), (0, .ref bs)]) hx hb d_law_law_15 rfl hl (by decide) rfl (fun ls hl => ?_)
  refine lv_iconst (v := nI 0) hx hb d_law_law_16 (by decide) ?_
  refine lv_istore_n (lv' := [(3, .int (nI 0)), (2, .ref (b 0)), (1, .ref (a 12)), (0, .ref bs)]) hx hb d_law_law_17 rfl hl (by decide) rfl (fun ls hl => ?_)
  refine y_loop (fun n_ H locs ls => ∃ (i : Nat) (P : PS) (T : TS) (a b : Nat → Nat) (no th ro gd nx : Nat → Prop) (tm : Nat → Nat), n_ = Ls - i ∧ va_P D classes ((wS cI cB cZ a P.1 P.2.1 P.2.2.1 P.2.2.2.1 P.2.2.2.2.1 P.2.2.2.2.2.1 P.2.2.2.2.2.2.1 P.2.2.2.2.2.2.2 no th ro T.1 T.2) ++ (wM cI cB cZ b P.1 P.2.1 T.1 P.2.2.1 P.2.2.2.1 P.2.2.2.2.1 P.2.2.2.2.2.2.1 P.2.2.2.2.2.1 P.2.2.2.2.2.2.2 T.2 gd nx tm)) H ∧ va_D A ((wS cI cB cZ a P.1 P.2.1 P.2.2.1 P.2.2.2.1 P.2.2.2.2.1 P.2.2.2.2.2.1 P.2.2.2.2.2.2.1 P.2.2.2.2.2.2.2 no th ro T.1 T.2) ++ (wM cI cB cZ b P.1 P.2.1 T.1 P.2.2.1 P.2.2.2.1 P.2.2.2.2.1 P.2.2.2.2.2.2.1 P.2.2.2.2.2.1 P.2.2.2.2.2.2.2 T.2 gd nx tm)) ∧ va_S A s.heap H locs ∧ lv_has ls 4 [(3, .int (nI i)), (2, .ref (b 0)), (1, .ref (a 12)), (0, .ref bs)] ∧ (i ≤ Ls) ∧ (IP P) ∧ (T.1 ≤ 255)) (Ls - 0) ⟨0, (0, 0, (fun _ => 0), (fun _ => 0), (fun _ => 0), (fun _ => 0), (fun _ => 0), (fun _ => 0)), (0, (fun _ => 0)), a, b, (fun _ => False), (fun _ => False), (fun _ => False), (fun _ => False), (fun _ => False), (fun _ => 0), rfl, hP, hD, hS, lv_sub hl [0, 1, 2, 3] rfl, Nat.zero_le _, ⟨Nat.zero_le _, Nat.zero_le _, fun _ => Nat.zero_le _, fun _ => Nat.zero_le _, fun _ => (by decide : 0 < 128), fun _ => Nat.zero_le _, fun k hk => absurd hk (Nat.not_lt_zero k)⟩, Nat.zero_le _⟩ (fun n_ H locs ls hI1 ih1 => ?_)
  obtain ⟨i, P, T, a, b, no, th, ro, gd, nx, tm, hn1, hP, hD, hS, hl, hv1_1, hv1_2, hv1_3⟩ := hI1
  obtain ⟨hc, hu, hL, hM, hC, hSz, hFu⟩ := id hv1_2
  have hFS : ∀ k, k < P.1 → P.2.2.2.2.2.1 k + P.2.2.2.2.2.2.1 k ≤ 255 := fun k hk => Nat.le_trans (hFu k hk) hu
  refine lv_iload_n hx hb d_law_law_18 rfl (lv_at hl 0 rfl) ?_
  refine lv_aload_n hx hb d_law_law_19 rfl (lv_at hl 3 rfl) ?_
  refine va_slen hx hb hX hbl hbA hS d_law_law_20 ?_
  refine lv_iconst (v := nI 3) hx hb d_law_law_21 (by decide) ?_
  refine lv_isub hx hb d_law_law_22 ?_
  refine lv_icmp_gt (tgt := 273) hx hb d_law_law_23 (by decide) (fun h1 => ?_) (fun h1 => ?_)
  · refine va_forget (fun q hq => by have := hS.2.2 q hq; rw [hAe] at this; exact this) ?_
    refine lv_iconst (v := 1) hx hb d_law_law_273 (by decide) ?_
    exact lw_ret hx hb hr hlocks d_law_law_274
  · have hi3 : i + 3 ≤ Ls := Nat.not_lt.mp (fun q => h1 ((lw_cmp hL0 (by omega)).mpr q))
    refine lv_aload_n hx hb d_law_law_26 rfl (lv_at hl 3 rfl) ?_
    refine lv_iload_n hx hb d_law_law_27 rfl (lv_at hl 0 rfl) ?_
    refine y_sld hx hb hX hbl hbA hS (by omega) (by omega) d_law_law_28 ?_
    refine lv_bipush (v := nI 15) hx hb d_law_law_29 (by decide) ?_
    refine lv_iand hx hb d_law_law_31 ?_
    obtain ⟨j, hj, ej⟩ := pk_andE (xs i) (m := nI 15) 4 (by decide)
    refine y_to ej ?_
    rcases (show j = 0 ∨ j = 1 ∨ j = 2 ∨ j = 3 ∨ j = 4 ∨ j = 5 ∨ j = 6 ∨ j = 7 ∨ j = 8 ∨ 9 ≤ j by omega) with rfl | rfl | rfl | rfl | rfl | rfl | rfl | rfl | rfl | h9
    · refine lv_tableIn (off := 52) (tgt := 84) hx hb d_law_law_32 (by decide) (by decide) (by decide) (by decide) ?_
      refine lv_aload_n hx hb d_law_law_84 rfl (lv_at hl 2 rfl) ?_
      refine y_v (w0 := (wS cI cB cZ a P.1 P.2.1 P.2.2.1 P.2.2.2.1 P.2.2.2.2.1 P.2.2.2.2.2.1 P.2.2.2.2.2.2.1 P.2.2.2.2.2.2.2 no th ro T.1 T.2)) (wr := [_, _, _, _, _, _, _, _, _, _, _]) hP hD hS hA [0, 1, 2, 3, 4, 5, 6, 7, 8, 9, 10, 11, 12] [13, 14, 15, 16, 17, 18, 19, 20, 21, 22, 23] rfl rfl (by decide) (by decide) (y_runV (n := 0) (rm := { frames := 1, cells := 0, slots := 0, locals := 20 }) (w0 := (wS cI cB cZ a P.1 P.2.1 P.2.2.1 P.2.2.2.1 P.2.2.2.2.1 P.2.2.2.2.2.1 P.2.2.2.2.2.2.1 P.2.2.2.2.2.2.2 no th ro T.1 T.2)) (q0 := 0) (b := a 12) (As := []) (rest := []) hx hb hml hown hT hN hK hP hD (c_Sv_clear l D cI cB cZ a P.1 P.2.1 P.2.2.1 P.2.2.2.1 P.2.2.2.2.1 P.2.2.2.2.2.1 P.2.2.2.2.2.2.1 P.2.2.2.2.2.2.2 no th ro T.1 T.2  _) ⟨tw_k93, tw_k7, tw_k90, by decide +kernel⟩ ⟨tw_k91, tw_k92⟩ [0, 1, 2, 3, 4, 5, 6, 7, 8, 9, 10, 11, 12] rfl (by decide) rfl rfl ⟨Nat.le_of_ble_eq_true rfl, Nat.le_of_ble_eq_true rfl⟩ rfl hl.1 rfl (Nat.le_of_ble_eq_true rfl) d_law_law_85 ⟨Nat.le_of_ble_eq_true rfl, Nat.le_of_ble_eq_true rfl⟩) (fun _ H locs hp hP hD hS => ?_)
      have hP := hP.sub (ws' := ((wS cI cB cZ a 0 0 P.2.2.1 P.2.2.2.1 P.2.2.2.2.1 P.2.2.2.2.2.1 P.2.2.2.2.2.2.1 P.2.2.2.2.2.2.2 no th ro T.1 T.2) ++ (wM cI cB cZ b P.1 P.2.1 T.1 P.2.2.1 P.2.2.2.1 P.2.2.2.2.1 P.2.2.2.2.2.2.1 P.2.2.2.2.2.1 P.2.2.2.2.2.2.2 T.2 gd nx tm))) [11, 12, 13, 14, 15, 16, 17, 18, 19, 20, 21, 22, 23, 0, 1, 2, 3, 4, 5, 6, 7, 8, 9, 10] rfl
      have hD := hD.sub (ws' := ((wS cI cB cZ a 0 0 P.2.2.1 P.2.2.2.1 P.2.2.2.2.1 P.2.2.2.2.2.1 P.2.2.2.2.2.2.1 P.2.2.2.2.2.2.2 no th ro T.1 T.2) ++ (wM cI cB cZ b P.1 P.2.1 T.1 P.2.2.1 P.2.2.2.1 P.2.2.2.2.1 P.2.2.2.2.2.2.1 P.2.2.2.2.2.1 P.2.2.2.2.2.2.2 T.2 gd nx tm))) [11, 12, 13, 14, 15, 16, 17, 18, 19, 20, 21, 22, 23, 0, 1, 2, 3, 4, 5, 6, 7, 8, 9, 10] (by decide) rfl
      refine lv_aload_n hx hb d_law_law_88 rfl (lv_at hl 1 rfl) ?_
      refine y_v (w0 := (wM cI cB cZ b P.1 P.2.1 T.1 P.2.2.1 P.2.2.2.1 P.2.2.2.2.1 P.2.2.2.2.2.2.1 P.2.2.2.2.2.1 P.2.2.2.2.2.2.2 T.2 gd nx tm)) (wr := [_, _, _, _, _, _, _, _, _, _, _, _, _]) hP hD hS hA [13, 14, 15, 16, 17, 18, 19, 20, 21, 22, 23] [0, 1, 2, 3, 4, 5, 6, 7, 8, 9, 10, 11, 12] rfl rfl (by decide) (by decide) (y_runV (n := 0) (rm := { frames := 0, cells := 0, slots := 0, locals := 0 }) (w0 := (wM cI cB cZ b P.1 P.2.1 T.1 P.2.2.1 P.2.2.2.1 P.2.2.2.2.1 P.2.2.2.2.2.2.1 P.2.2.2.2.2.1 P.2.2.2.2.2.2.2 T.2 gd nx tm)) (q0 := 13) (b := b 0) (As := []) (rest := []) hx hb hml hown hT hN hK hP hD (c_Mo_clear l D cI cB cZ b P.1 P.2.1 T.1 P.2.2.1 P.2.2.2.1 P.2.2.2.2.1 P.2.2.2.2.2.2.1 P.2.2.2.2.2.1 P.2.2.2.2.2.2.2 T.2 gd nx tm  _) ⟨tw_k223, tw_k10, tw_k220, by decide +kernel⟩ ⟨tw_k221, tw_k222⟩ [13, 14, 15, 16, 17, 18, 19, 20, 21, 22, 23] rfl (by decide) rfl rfl ⟨Nat.le_of_ble_eq_true rfl, Nat.le_of_ble_eq_true rfl⟩ rfl hl.1 rfl (Nat.le_of_ble_eq_true rfl) d_law_law_89 ⟨Nat.le_of_ble_eq_true rfl, Nat.le_of_ble_eq_true rfl⟩) (fun _ H locs hp hP hD hS => ?_)
      have hP : va_P D classes ((wS cI cB cZ a 0 0 P.2.2.1 P.2.2.2.1 P.2.2.2.2.1 P.2.2.2.2.2.1 P.2.2.2.2.2.2.1 P.2.2.2.2.2.2.2 no th ro T.1 T.2) ++ (wM cI cB cZ b 0 0 T.1 P.2.2.1 P.2.2.2.1 P.2.2.2.2.1 P.2.2.2.2.2.2.1 P.2.2.2.2.2.1 P.2.2.2.2.2.2.2 T.2 gd nx tm)) H := hP
      have hD : va_D A ((wS cI cB cZ a 0 0 P.2.2.1 P.2.2.2.1 P.2.2.2.2.1 P.2.2.2.2.2.1 P.2.2.2.2.2.2.1 P.2.2.2.2.2.2.2 no th ro T.1 T.2) ++ (wM cI cB cZ b 0 0 T.1 P.2.2.1 P.2.2.2.1 P.2.2.2.2.1 P.2.2.2.2.2.2.1 P.2.2.2.2.2.1 P.2.2.2.2.2.2.2 T.2 gd nx tm)) := hD
      refine lv_goto (tgt := 267) hx hb d_law_law_92 (by decide) ?_
      refine lv_iinc (v := (nI (i + 3))) (lv' := [(3, .int (nI (i + 3))), (2, .ref (b 0)), (1, .ref (a 12)), (0, .ref bs)]) hx hb d_law_law_267 hl (k := 0) rfl (nI_add _ 3) (by decide) rfl (fun ls hl => ?_)
      refine lv_goto (tgt := 18) hx hb d_law_law_270 (by decide) ?_
      exact ih1 _ _ _ _ (by omega) ⟨i + 3, (0, 0, P.2.2), T, a, b, no, th, ro, gd, nx, tm, rfl, hP, hD, hS, lv_sub hl [0, 1, 2, 3] rfl, by omega, IP_clear hv1_2, hv1_3⟩
    · refine lv_tableIn (off := 63) (tgt := 95) hx hb d_law_law_32 (by decide) (by decide) (by decide) (by decide) ?_
      refine lv_aload_n hx hb d_law_law_95 rfl (lv_at hl 2 rfl) ?_
      refine lv_aload_n hx hb d_law_law_96 rfl (lv_at hl 3 rfl) ?_
      refine lv_iload_n hx hb d_law_law_97 rfl (lv_at hl 0 rfl) ?_
      refine lv_iconst (v := nI 1) hx hb d_law_law_98 (by decide) ?_
      refine y_iadd hx hb d_law_law_99 ?_
      refine y_sld hx hb hX hbl hbA hS (by omega) (by omega) d_law_law_100 ?_
      refine lv_aload_n hx hb d_law_law_101 rfl (lv_at hl 3 rfl) ?_
      refine lv_iload_n hx hb d_law_law_102 rfl (lv_at hl 0 rfl) ?_
      refine lv_iconst (v := nI 2) hx hb d_law_law_103 (by decide) ?_
      refine y_iadd hx hb d_law_law_104 ?_
      refine y_sld hx hb hX hbl hbA hS (by omega) (by omega) d_law_law_105 ?_
      refine y_i (w0 := (wS cI cB cZ a P.1 P.2.1 P.2.2.1 P.2.2.2.1 P.2.2.2.2.1 P.2.2.2.2.2.1 P.2.2.2.2.2.2.1 P.2.2.2.2.2.2.2 no th ro T.1 T.2)) (wr := [_, _, _, _, _, _, _, _, _, _, _]) hP hD hS hA [0, 1, 2, 3, 4, 5, 6, 7, 8, 9, 10, 11, 12] [13, 14, 15, 16, 17, 18, 19, 20, 21, 22, 23] rfl rfl (by decide) (by decide) (y_runV (n := 2) (rm := { frames := 1, cells := 0, slots := 0, locals := 22 }) (w0 := (wS cI cB cZ a P.1 P.2.1 P.2.2.1 P.2.2.2.1 P.2.2.2.2.1 P.2.2.2.2.2.1 P.2.2.2.2.2.2.1 P.2.2.2.2.2.2.2 no th ro T.1 T.2)) (q0 := 0) (b := a 12) (As := [.int (xs (i + 1)), .int (xs (i + 2))]) (rest := []) hx hb hml hown hT hN hK hP hD (c_Sv_part l D cI cB cZ a P.1 P.2.1 P.2.2.1 P.2.2.2.1 P.2.2.2.2.1 P.2.2.2.2.2.1 P.2.2.2.2.2.2.1 P.2.2.2.2.2.2.2 no th ro T.1 T.2 (xs (i + 1)) (xs (i + 2)) hc _) ⟨tw_k101, tw_k7, tw_k98, by decide +kernel⟩ ⟨tw_k99, tw_k100⟩ [0, 1, 2, 3, 4, 5, 6, 7, 8, 9, 10, 11, 12] rfl (by decide) rfl rfl ⟨Nat.le_of_ble_eq_true rfl, Nat.le_of_ble_eq_true rfl⟩ rfl hl.1 rfl (Nat.le_of_ble_eq_true rfl) d_law_law_106 ⟨Nat.le_of_ble_eq_true rfl, Nat.le_of_ble_eq_true rfl⟩) (fun r1 v1 H locs hp1 hP hD hS => ?_)
      have hP := hP.sub (ws' := ((wS cI cB cZ a v1.1 v1.2.1 v1.2.2.1 v1.2.2.2.1 v1.2.2.2.2.1 v1.2.2.2.2.2.1 v1.2.2.2.2.2.2.1 v1.2.2.2.2.2.2.2 no th ro T.1 T.2) ++ (wM cI cB cZ b P.1 P.2.1 T.1 P.2.2.1 P.2.2.2.1 P.2.2.2.2.1 P.2.2.2.2.2.2.1 P.2.2.2.2.2.1 P.2.2.2.2.2.2.2 T.2 gd nx tm))) [11, 12, 13, 14, 15, 16, 17, 18, 19, 20, 21, 22, 23, 0, 1, 2, 3, 4, 5, 6, 7, 8, 9, 10] rfl
      have hD := hD.sub (ws' := ((wS cI cB cZ a v1.1 v1.2.1 v1.2.2.1 v1.2.2.2.1 v1.2.2.2.2.1 v1.2.2.2.2.2.1 v1.2.2.2.2.2.2.1 v1.2.2.2.2.2.2.2 no th ro T.1 T.2) ++ (wM cI cB cZ b P.1 P.2.1 T.1 P.2.2.1 P.2.2.2.1 P.2.2.2.2.1 P.2.2.2.2.2.2.1 P.2.2.2.2.2.1 P.2.2.2.2.2.2.2 T.2 gd nx tm))) [11, 12, 13, 14, 15, 16, 17, 18, 19, 20, 21, 22, 23, 0, 1, 2, 3, 4, 5, 6, 7, 8, 9, 10] (by decide) rfl
      refine lv_aload_n hx hb d_law_law_109 rfl (lv_at hl 1 rfl) ?_
      refine lv_aload_n hx hb d_law_law_110 rfl (lv_at hl 3 rfl) ?_
      refine lv_iload_n hx hb d_law_law_111 rfl (lv_at hl 0 rfl) ?_
      refine lv_iconst (v := nI 1) hx hb d_law_law_112 (by decide) ?_
      refine y_iadd hx hb d_law_law_113 ?_
      refine y_sld hx hb hX hbl hbA hS (by omega) (by omega) d_law_law_114 ?_
      refine lv_aload_n hx hb d_law_law_115 rfl (lv_at hl 3 rfl) ?_
      refine lv_iload_n hx hb d_law_law_116 rfl (lv_at hl 0 rfl) ?_
      refine lv_iconst (v := nI 2) hx hb d_law_law_117 (by decide) ?_
      refine y_iadd hx hb d_law_law_118 ?_
      refine y_sld hx hb hX hbl hbA hS (by omega) (by omega) d_law_law_119 ?_
      refine y_i (w0 := (wM cI cB cZ b P.1 P.2.1 T.1 P.2.2.1 P.2.2.2.1 P.2.2.2.2.1 P.2.2.2.2.2.2.1 P.2.2.2.2.2.1 P.2.2.2.2.2.2.2 T.2 gd nx tm)) (wr := [_, _, _, _, _, _, _, _, _, _, _, _, _]) hP hD hS hA [13, 14, 15, 16, 17, 18, 19, 20, 21, 22, 23] [0, 1, 2, 3, 4, 5, 6, 7, 8, 9, 10, 11, 12] rfl rfl (by decide) (by decide) (y_runV (n := 2) (rm := { frames := 1, cells := 0, slots := 0, locals := 20 }) (w0 := (wM cI cB cZ b P.1 P.2.1 T.1 P.2.2.1 P.2.2.2.1 P.2.2.2.2.1 P.2.2.2.2.2.2.1 P.2.2.2.2.2.1 P.2.2.2.2.2.2.2 T.2 gd nx tm)) (q0 := 13) (b := b 0) (As := [.int (xs (i + 1)), .int (xs (i + 2))]) (rest := [.int r1]) hx hb hml hown hT hN hK hP hD (c_Mo_part l D cI cB cZ b P.1 P.2.1 T.1 P.2.2.1 P.2.2.2.1 P.2.2.2.2.1 P.2.2.2.2.2.2.1 P.2.2.2.2.2.1 P.2.2.2.2.2.2.2 T.2 gd nx tm (xs (i + 1)) (xs (i + 2)) hc _) ⟨tw_k227, tw_k10, tw_k224, by decide +kernel⟩ ⟨tw_k225, tw_k226⟩ [13, 14, 15, 16, 17, 18, 19, 20, 21, 22, 23] rfl (by decide) rfl rfl ⟨Nat.le_of_ble_eq_true rfl, Nat.le_of_ble_eq_true rfl⟩ rfl hl.1 rfl (Nat.le_of_ble_eq_true rfl) d_law_law_120 ⟨Nat.le_of_ble_eq_true rfl, Nat.le_of_ble_eq_true rfl⟩) (fun r2 v2 H locs hp2 hP hD hS => ?_)
      have hP : va_P D classes ((wS cI cB cZ a v1.1 v1.2.1 v1.2.2.1 v1.2.2.2.1 v1.2.2.2.2.1 v1.2.2.2.2.2.1 v1.2.2.2.2.2.2.1 v1.2.2.2.2.2.2.2 no th ro T.1 T.2) ++ (wM cI cB cZ b v2.1 v2.2.1 T.1 v2.2.2.1 v2.2.2.2.1 v2.2.2.2.2.1 v2.2.2.2.2.2.2.1 v2.2.2.2.2.2.1 v2.2.2.2.2.2.2.2 T.2 gd nx tm)) H := hP
      have hD : va_D A ((wS cI cB cZ a v1.1 v1.2.1 v1.2.2.1 v1.2.2.2.1 v1.2.2.2.2.1 v1.2.2.2.2.2.1 v1.2.2.2.2.2.2.1 v1.2.2.2.2.2.2.2 no th ro T.1 T.2) ++ (wM cI cB cZ b v2.1 v2.2.1 T.1 v2.2.2.1 v2.2.2.2.1 v2.2.2.2.2.1 v2.2.2.2.2.2.2.1 v2.2.2.2.2.2.1 v2.2.2.2.2.2.2.2 T.2 gd nx tm)) := hD
      obtain ⟨hr1, rfl⟩ := hp1
      obtain ⟨hr2, rfl⟩ := hp2
      refine lv_icmp_eq (tgt := 267) hx hb d_law_law_123 (by decide) (fun hne => ?_) (fun hne => ?_)
      · refine lv_iinc (v := (nI (i + 3))) (lv' := [(3, .int (nI (i + 3))), (2, .ref (b 0)), (1, .ref (a 12)), (0, .ref bs)]) hx hb d_law_law_267 hl (k := 0) rfl (nI_add _ 3) (by decide) rfl (fun ls hl => ?_)
        refine lv_goto (tgt := 18) hx hb d_law_law_270 (by decide) ?_
        exact ih1 _ _ _ _ (by omega) ⟨i + 3, (stP P.1 P.2.1 P.2.2.1 P.2.2.2.1 P.2.2.2.2.1 P.2.2.2.2.2.1 P.2.2.2.2.2.2.1 P.2.2.2.2.2.2.2 (xs (i + 1)) (xs (i + 2))), T, a, b, no, th, ro, gd, nx, tm, rfl, hP, hD, hS, lv_sub hl [0, 1, 2, 3] rfl, by omega, IP_P hv1_2, hv1_3⟩
      · exact absurd (hr1.trans hr2.symm) hne
    · refine lv_tableIn (off := 96) (tgt := 128) hx hb d_law_law_32 (by decide) (by decide) (by decide) (by decide) ?_
      refine lv_aload_n hx hb d_law_law_128 rfl (lv_at hl 2 rfl) ?_
      refine lv_aload_n hx hb d_law_law_129 rfl (lv_at hl 3 rfl) ?_
      refine lv_iload_n hx hb d_law_law_130 rfl (lv_at hl 0 rfl) ?_
      refine lv_iconst (v := nI 1) hx hb d_law_law_131 (by decide) ?_
      refine y_iadd hx hb d_law_law_132 ?_
      refine y_sld hx hb hX hbl hbA hS (by omega) (by omega) d_law_law_133 ?_
      refine y_i (w0 := (wS cI cB cZ a P.1 P.2.1 P.2.2.1 P.2.2.2.1 P.2.2.2.2.1 P.2.2.2.2.2.1 P.2.2.2.2.2.2.1 P.2.2.2.2.2.2.2 no th ro T.1 T.2)) (wr := [_, _, _, _, _, _, _, _, _, _, _]) hP hD hS hA [0, 1, 2, 3, 4, 5, 6, 7, 8, 9, 10, 11, 12] [13, 14, 15, 16, 17, 18, 19, 20, 21, 22, 23] rfl rfl (by decide) (by decide) (y_runV (n := 1) (rm := { frames := 1, cells := 0, slots := 0, locals := 22 }) (w0 := (wS cI cB cZ a P.1 P.2.1 P.2.2.1 P.2.2.2.1 P.2.2.2.2.1 P.2.2.2.2.2.1 P.2.2.2.2.2.2.1 P.2.2.2.2.2.2.2 no th ro T.1 T.2)) (q0 := 0) (b := a 12) (As := [.int (xs (i + 1))]) (rest := []) hx hb hml hown hT hN hK hP hD (c_Sv_letter l D cI cB cZ a P.1 P.2.1 P.2.2.1 P.2.2.2.1 P.2.2.2.2.1 P.2.2.2.2.2.1 P.2.2.2.2.2.2.1 P.2.2.2.2.2.2.2 no th ro T.1 T.2 (xs (i + 1)) hc hSz _) ⟨tw_k112, tw_k7, tw_k109, by decide +kernel⟩ ⟨tw_k110, tw_k111⟩ [0, 1, 2, 3, 4, 5, 6, 7, 8, 9, 10, 11, 12] rfl (by decide) rfl rfl ⟨Nat.le_of_ble_eq_true rfl, Nat.le_of_ble_eq_true rfl⟩ rfl hl.1 rfl (Nat.le_of_ble_eq_true rfl) d_law_law_134 ⟨Nat.le_of_ble_eq_true rfl, Nat.le_of_ble_eq_true rfl⟩) (fun r1 v1 H locs hp1 hP hD hS => ?_)
      have hP := hP.sub (ws' := ((wS cI cB cZ a v1.1 v1.2.1 v1.2.2.1 v1.2.2.2.1 v1.2.2.2.2.1 v1.2.2.2.2.2.1 v1.2.2.2.2.2.2.1 v1.2.2.2.2.2.2.2 no th ro T.1 T.2) ++ (wM cI cB cZ b P.1 P.2.1 T.1 P.2.2.1 P.2.2.2.1 P.2.2.2.2.1 P.2.2.2.2.2.2.1 P.2.2.2.2.2.1 P.2.2.2.2.2.2.2 T.2 gd nx tm))) [11, 12, 13, 14, 15, 16, 17, 18, 19, 20, 21, 22, 23, 0, 1, 2, 3, 4, 5, 6, 7, 8, 9, 10] rfl
      have hD := hD.sub (ws' := ((wS cI cB cZ a v1.1 v1.2.1 v1.2.2.1 v1.2.2.2.1 v1.2.2.2.2.1 v1.2.2.2.2.2.1 v1.2.2.2.2.2.2.1 v1.2.2.2.2.2.2.2 no th ro T.1 T.2) ++ (wM cI cB cZ b P.1 P.2.1 T.1 P.2.2.1 P.2.2.2.1 P.2.2.2.2.1 P.2.2.2.2.2.2.1 P.2.2.2.2.2.1 P.2.2.2.2.2.2.2 T.2 gd nx tm))) [11, 12, 13, 14, 15, 16, 17, 18, 19, 20, 21, 22, 23, 0, 1, 2, 3, 4, 5, 6, 7, 8, 9, 10] (by decide) rfl
      refine lv_aload_n hx hb d_law_law_137 rfl (lv_at hl 1 rfl) ?_
      refine lv_aload_n hx hb d_law_law_138 rfl (lv_at hl 3 rfl) ?_
      refine lv_iload_n hx hb d_law_law_139 rfl (lv_at hl 0 rfl) ?_
      refine lv_iconst (v := nI 1) hx hb d_law_law_140 (by decide) ?_
      refine y_iadd hx hb d_law_law_141 ?_
      refine y_sld hx hb hX hbl hbA hS (by omega) (by omega) d_law_law_142 ?_
      refine y_i (w0 := (wM cI cB cZ b P.1 P.2.1 T.1 P.2.2.1 P.2.2.2.1 P.2.2.2.2.1 P.2.2.2.2.2.2.1 P.2.2.2.2.2.1 P.2.2.2.2.2.2.2 T.2 gd nx tm)) (wr := [_, _, _, _, _, _, _, _, _, _, _, _, _]) hP hD hS hA [13, 14, 15, 16, 17, 18, 19, 20, 21, 22, 23] [0, 1, 2, 3, 4, 5, 6, 7, 8, 9, 10, 11, 12] rfl rfl (by decide) (by decide) (y_runV (n := 1) (rm := { frames := 1, cells := 0, slots := 0, locals := 20 }) (w0 := (wM cI cB cZ b P.1 P.2.1 T.1 P.2.2.1 P.2.2.2.1 P.2.2.2.2.1 P.2.2.2.2.2.2.1 P.2.2.2.2.2.1 P.2.2.2.2.2.2.2 T.2 gd nx tm)) (q0 := 13) (b := b 0) (As := [.int (xs (i + 1))]) (rest := [.int r1]) hx hb hml hown hT hN hK hP hD (c_Mo_letter l D cI cB cZ b P.1 P.2.1 T.1 P.2.2.1 P.2.2.2.1 P.2.2.2.2.1 P.2.2.2.2.2.2.1 P.2.2.2.2.2.1 P.2.2.2.2.2.2.2 T.2 gd nx tm (xs (i + 1)) hc hSz _) ⟨tw_k234, tw_k10, tw_k231, by decide +kernel⟩ ⟨tw_k232, tw_k233⟩ [13, 14, 15, 16, 17, 18, 19, 20, 21, 22, 23] rfl (by decide) rfl rfl ⟨Nat.le_of_ble_eq_true rfl, Nat.le_of_ble_eq_true rfl⟩ rfl hl.1 rfl (Nat.le_of_ble_eq_true rfl) d_law_law_143 ⟨Nat.le_of_ble_eq_true rfl, Nat.le_of_ble_eq_true rfl⟩) (fun r2 v2 H locs hp2 hP hD hS => ?_)
      have hP : va_P D classes ((wS cI cB cZ a v1.1 v1.2.1 v1.2.2.1 v1.2.2.2.1 v1.2.2.2.2.1 v1.2.2.2.2.2.1 v1.2.2.2.2.2.2.1 v1.2.2.2.2.2.2.2 no th ro T.1 T.2) ++ (wM cI cB cZ b v2.1 v2.2.1 T.1 v2.2.2.1 v2.2.2.2.1 v2.2.2.2.2.1 v2.2.2.2.2.2.2.1 v2.2.2.2.2.2.1 v2.2.2.2.2.2.2.2 T.2 gd nx tm)) H := hP
      have hD : va_D A ((wS cI cB cZ a v1.1 v1.2.1 v1.2.2.1 v1.2.2.2.1 v1.2.2.2.2.1 v1.2.2.2.2.2.1 v1.2.2.2.2.2.2.1 v1.2.2.2.2.2.2.2 no th ro T.1 T.2) ++ (wM cI cB cZ b v2.1 v2.2.1 T.1 v2.2.2.1 v2.2.2.2.1 v2.2.2.2.2.1 v2.2.2.2.2.2.2.1 v2.2.2.2.2.2.1 v2.2.2.2.2.2.2.2 T.2 gd nx tm)) := hD
      obtain ⟨hr1, rfl⟩ := hp1
      obtain ⟨hr2, rfl⟩ := hp2
      refine lv_icmp_eq (tgt := 267) hx hb d_law_law_146 (by decide) (fun hne => ?_) (fun hne => ?_)
      · refine lv_iinc (v := (nI (i + 3))) (lv' := [(3, .int (nI (i + 3))), (2, .ref (b 0)), (1, .ref (a 12)), (0, .ref bs)]) hx hb d_law_law_267 hl (k := 0) rfl (nI_add _ 3) (by decide) rfl (fun ls hl => ?_)
        refine lv_goto (tgt := 18) hx hb d_law_law_270 (by decide) ?_
        exact ih1 _ _ _ _ (by omega) ⟨i + 3, (stL P.1 P.2.1 P.2.2.1 P.2.2.2.1 P.2.2.2.2.1 P.2.2.2.2.2.1 P.2.2.2.2.2.2.1 P.2.2.2.2.2.2.2 (xs (i + 1))), T, a, b, no, th, ro, gd, nx, tm, rfl, hP, hD, hS, lv_sub hl [0, 1, 2, 3] rfl, by omega, IP_L hv1_2, hv1_3⟩
      · exact absurd (hr1.trans hr2.symm) hne
    · refine lv_tableIn (off := 119) (tgt := 151) hx hb d_law_law_32 (by decide) (by decide) (by decide) (by decide) ?_
      refine lv_aload_n hx hb d_law_law_151 rfl (lv_at hl 2 rfl) ?_
      refine lv_aload_n hx hb d_law_law_152 rfl (lv_at hl 3 rfl) ?_
      refine lv_iload_n hx hb d_law_law_153 rfl (lv_at hl 0 rfl) ?_
      refine lv_iconst (v := nI 1) hx hb d_law_law_154 (by decide) ?_
      refine y_iadd hx hb d_law_law_155 ?_
      refine y_sld hx hb hX hbl hbA hS (by omega) (by omega) d_law_law_156 ?_
      refine y_i (w0 := (wS cI cB cZ a P.1 P.2.1 P.2.2.1 P.2.2.2.1 P.2.2.2.2.1 P.2.2.2.2.2.1 P.2.2.2.2.2.2.1 P.2.2.2.2.2.2.2 no th ro T.1 T.2)) (wr := [_, _, _, _, _, _, _, _, _, _, _]) hP hD hS hA [0, 1, 2, 3, 4, 5, 6, 7, 8, 9, 10, 11, 12] [13, 14, 15, 16, 17, 18, 19, 20, 21, 22, 23] rfl rfl (by decide) (by decide) (y_runV (n := 1) (rm := { frames := 1, cells := 0, slots := 0, locals := 21 }) (w0 := (wS cI cB cZ a P.1 P.2.1 P.2.2.1 P.2.2.2.1 P.2.2.2.2.1 P.2.2.2.2.2.1 P.2.2.2.2.2.2.1 P.2.2.2.2.2.2.2 no th ro T.1 T.2)) (q0 := 0) (b := a 12) (As := [.int (xs (i + 1))]) (rest := []) hx hb hml hown hT hN hK hP hD (c_Sv_literal l D cI cB cZ a P.1 P.2.1 P.2.2.1 P.2.2.2.1 P.2.2.2.2.1 P.2.2.2.2.2.1 P.2.2.2.2.2.2.1 P.2.2.2.2.2.2.2 no th ro T.1 T.2 (xs (i + 1)) hc hu hC _) ⟨tw_k123, tw_k7, tw_k120, by decide +kernel⟩ ⟨tw_k121, tw_k122⟩ [0, 1, 2, 3, 4, 5, 6, 7, 8, 9, 10, 11, 12] rfl (by decide) rfl rfl ⟨Nat.le_of_ble_eq_true rfl, Nat.le_of_ble_eq_true rfl⟩ rfl hl.1 rfl (Nat.le_of_ble_eq_true rfl) d_law_law_157 ⟨Nat.le_of_ble_eq_true rfl, Nat.le_of_ble_eq_true rfl⟩) (fun r1 v1 H locs hp1 hP hD hS => ?_)
      have hP := hP.sub (ws' := ((wS cI cB cZ a v1.1 v1.2.1 v1.2.2.1 v1.2.2.2.1 v1.2.2.2.2.1 v1.2.2.2.2.2.1 v1.2.2.2.2.2.2.1 v1.2.2.2.2.2.2.2 no th ro T.1 T.2) ++ (wM cI cB cZ b P.1 P.2.1 T.1 P.2.2.1 P.2.2.2.1 P.2.2.2.2.1 P.2.2.2.2.2.2.1 P.2.2.2.2.2.1 P.2.2.2.2.2.2.2 T.2 gd nx tm))) [11, 12, 13, 14, 15, 16, 17, 18, 19, 20, 21, 22, 23, 0, 1, 2, 3, 4, 5, 6, 7, 8, 9, 10] rfl
      have hD := hD.sub (ws' := ((wS cI cB cZ a v1.1 v1.2.1 v1.2.2.1 v1.2.2.2.1 v1.2.2.2.2.1 v1.2.2.2.2.2.1 v1.2.2.2.2.2.2.1 v1.2.2.2.2.2.2.2 no th ro T.1 T.2) ++ (wM cI cB cZ b P.1 P.2.1 T.1 P.2.2.1 P.2.2.2.1 P.2.2.2.2.1 P.2.2.2.2.2.2.1 P.2.2.2.2.2.1 P.2.2.2.2.2.2.2 T.2 gd nx tm))) [11, 12, 13, 14, 15, 16, 17, 18, 19, 20, 21, 22, 23, 0, 1, 2, 3, 4, 5, 6, 7, 8, 9, 10] (by decide) rfl
      refine lv_aload_n hx hb d_law_law_160 rfl (lv_at hl 1 rfl) ?_
      refine lv_aload_n hx hb d_law_law_161 rfl (lv_at hl 3 rfl) ?_
      refine lv_iload_n hx hb d_law_law_162 rfl (lv_at hl 0 rfl) ?_
      refine lv_iconst (v := nI 1) hx hb d_law_law_163 (by decide) ?_
      refine y_iadd hx hb d_law_law_164 ?_
      refine y_sld hx hb hX hbl hbA hS (by omega) (by omega) d_law_law_165 ?_
      refine y_i (w0 := (wM cI cB cZ b P.1 P.2.1 T.1 P.2.2.1 P.2.2.2.1 P.2.2.2.2.1 P.2.2.2.2.2.2.1 P.2.2.2.2.2.1 P.2.2.2.2.2.2.2 T.2 gd nx tm)) (wr := [_, _, _, _, _, _, _, _, _, _, _, _, _]) hP hD hS hA [13, 14, 15, 16, 17, 18, 19, 20, 21, 22, 23] [0, 1, 2, 3, 4, 5, 6, 7, 8, 9, 10, 11, 12] rfl rfl (by decide) (by decide) (y_runV (n := 1) (rm := { frames := 0, cells := 0, slots := 0, locals := 0 }) (w0 := (wM cI cB cZ b P.1 P.2.1 T.1 P.2.2.1 P.2.2.2.1 P.2.2.2.2.1 P.2.2.2.2.2.2.1 P.2.2.2.2.2.1 P.2.2.2.2.2.2.2 T.2 gd nx tm)) (q0 := 13) (b := b 0) (As := [.int (xs (i + 1))]) (rest := [.int r1]) hx hb hml hown hT hN hK hP hD (c_Mo_literal l D cI cB cZ b P.1 P.2.1 T.1 P.2.2.1 P.2.2.2.1 P.2.2.2.2.1 P.2.2.2.2.2.2.1 P.2.2.2.2.2.1 P.2.2.2.2.2.2.2 T.2 gd nx tm (xs (i + 1)) hc hu hC _) ⟨tw_k241, tw_k10, tw_k238, by decide +kernel⟩ ⟨tw_k239, tw_k240⟩ [13, 14, 15, 16, 17, 18, 19, 20, 21, 22, 23] rfl (by decide) rfl rfl ⟨Nat.le_of_ble_eq_true rfl, Nat.le_of_ble_eq_true rfl⟩ rfl hl.1 rfl (Nat.le_of_ble_eq_true rfl) d_law_law_166 ⟨Nat.le_of_ble_eq_true rfl, Nat.le_of_ble_eq_true rfl⟩) (fun r2 v2 H locs hp2 hP hD hS => ?_)
      have hP : va_P D classes ((wS cI cB cZ a v1.1 v1.2.1 v1.2.2.1 v1.2.2.2.1 v1.2.2.2.2.1 v1.2.2.2.2.2.1 v1.2.2.2.2.2.2.1 v1.2.2.2.2.2.2.2 no th ro T.1 T.2) ++ (wM cI cB cZ b v2.1 v2.2.1 T.1 v2.2.2.1 v2.2.2.2.1 v2.2.2.2.2.1 v2.2.2.2.2.2.2.1 v2.2.2.2.2.2.1 v2.2.2.2.2.2.2.2 T.2 gd nx tm)) H := hP
      have hD : va_D A ((wS cI cB cZ a v1.1 v1.2.1 v1.2.2.1 v1.2.2.2.1 v1.2.2.2.2.1 v1.2.2.2.2.2.1 v1.2.2.2.2.2.2.1 v1.2.2.2.2.2.2.2 no th ro T.1 T.2) ++ (wM cI cB cZ b v2.1 v2.2.1 T.1 v2.2.2.1 v2.2.2.2.1 v2.2.2.2.2.1 v2.2.2.2.2.2.2.1 v2.2.2.2.2.2.1 v2.2.2.2.2.2.2.2 T.2 gd nx tm)) := hD
      obtain ⟨hr1, rfl⟩ := hp1
      obtain ⟨hr2, rfl⟩ := hp2
      refine lv_icmp_eq (tgt := 267) hx hb d_law_law_169 (by decide) (fun hne => ?_) (fun hne => ?_)
      · refine lv_iinc (v := (nI (i + 3))) (lv' := [(3, .int (nI (i + 3))), (2, .ref (b 0)), (1, .ref (a 12)), (0, .ref bs)]) hx hb d_law_law_267 hl (k := 0) rfl (nI_add _ 3) (by decide) rfl (fun ls hl => ?_)
        refine lv_goto (tgt := 18) hx hb d_law_law_270 (by decide) ?_
        exact ih1 _ _ _ _ (by omega) ⟨i + 3, (stT P.1 P.2.1 P.2.2.1 P.2.2.2.1 P.2.2.2.2.1 P.2.2.2.2.2.1 P.2.2.2.2.2.2.1 P.2.2.2.2.2.2.2 (xs (i + 1))), T, a, b, no, th, ro, gd, nx, tm, rfl, hP, hD, hS, lv_sub hl [0, 1, 2, 3] rfl, by omega, IP_T hv1_2, hv1_3⟩
      · exact absurd (hr1.trans hr2.symm) hne
    · refine lv_tableIn (off := 142) (tgt := 174) hx hb d_law_law_32 (by decide) (by decide) (by decide) (by decide) ?_
      refine lv_aload_n hx hb d_law_law_174 rfl (lv_at hl 2 rfl) ?_
      refine y_v (w0 := (wS cI cB cZ a P.1 P.2.1 P.2.2.1 P.2.2.2.1 P.2.2.2.2.1 P.2.2.2.2.2.1 P.2.2.2.2.2.2.1 P.2.2.2.2.2.2.2 no th ro T.1 T.2)) (wr := [_, _, _, _, _, _, _, _, _, _, _]) hP hD hS hA [0, 1, 2, 3, 4, 5, 6, 7, 8, 9, 10, 11, 12] [13, 14, 15, 16, 17, 18, 19, 20, 21, 22, 23] rfl rfl (by decide) (by decide) (y_runV (n := 0) (rm := { frames := 0, cells := 0, slots := 0, locals := 0 }) (w0 := (wS cI cB cZ a P.1 P.2.1 P.2.2.1 P.2.2.2.1 P.2.2.2.2.1 P.2.2.2.2.2.1 P.2.2.2.2.2.2.1 P.2.2.2.2.2.2.2 no th ro T.1 T.2)) (q0 := 0) (b := a 12) (As := []) (rest := []) hx hb hml hown hT hN hK hP hD (c_Sv_begin l D cI cB cZ a P.1 P.2.1 P.2.2.1 P.2.2.2.1 P.2.2.2.2.1 P.2.2.2.2.2.1 P.2.2.2.2.2.2.1 P.2.2.2.2.2.2.2 no th ro T.1 T.2  _) ⟨tw_k131, tw_k7, tw_k128, by decide +kernel⟩ ⟨tw_k129, tw_k130⟩ [0, 1, 2, 3, 4, 5, 6, 7, 8, 9, 10, 11, 12] rfl (by decide) rfl rfl ⟨Nat.le_of_ble_eq_true rfl, Nat.le_of_ble_eq_true rfl⟩ rfl hl.1 rfl (Nat.le_of_ble_eq_true rfl) d_law_law_175 ⟨Nat.le_of_ble_eq_true rfl, Nat.le_of_ble_eq_true rfl⟩) (fun _ H locs hp hP hD hS => ?_)
      have hP := hP.sub (ws' := ((wS cI cB cZ a P.1 P.2.1 P.2.2.1 P.2.2.2.1 P.2.2.2.2.1 P.2.2.2.2.2.1 P.2.2.2.2.2.2.1 P.2.2.2.2.2.2.2 no th ro 0 T.2) ++ (wM cI cB cZ b P.1 P.2.1 T.1 P.2.2.1 P.2.2.2.1 P.2.2.2.2.1 P.2.2.2.2.2.2.1 P.2.2.2.2.2.1 P.2.2.2.2.2.2.2 T.2 gd nx tm))) [11, 12, 13, 14, 15, 16, 17, 18, 19, 20, 21, 22, 23, 0, 1, 2, 3, 4, 5, 6, 7, 8, 9, 10] rfl
      have hD := hD.sub (ws' := ((wS cI cB cZ a P.1 P.2.1 P.2.2.1 P.2.2.2.1 P.2.2.2.2.1 P.2.2.2.2.2.1 P.2.2.2.2.2.2.1 P.2.2.2.2.2.2.2 no th ro 0 T.2) ++ (wM cI cB cZ b P.1 P.2.1 T.1 P.2.2.1 P.2.2.2.1 P.2.2.2.2.1 P.2.2.2.2.2.2.1 P.2.2.2.2.2.1 P.2.2.2.2.2.2.2 T.2 gd nx tm))) [11, 12, 13, 14, 15, 16, 17, 18, 19, 20, 21, 22, 23, 0, 1, 2, 3, 4, 5, 6, 7, 8, 9, 10] (by decide) rfl
      refine lv_aload_n hx hb d_law_law_178 rfl (lv_at hl 1 rfl) ?_
      refine y_v (w0 := (wM cI cB cZ b P.1 P.2.1 T.1 P.2.2.1 P.2.2.2.1 P.2.2.2.2.1 P.2.2.2.2.2.2.1 P.2.2.2.2.2.1 P.2.2.2.2.2.2.2 T.2 gd nx tm)) (wr := [_, _, _, _, _, _, _, _, _, _, _, _, _]) hP hD hS hA [13, 14, 15, 16, 17, 18, 19, 20, 21, 22, 23] [0, 1, 2, 3, 4, 5, 6, 7, 8, 9, 10, 11, 12] rfl rfl (by decide) (by decide) (y_runV (n := 0) (rm := { frames := 0, cells := 0, slots := 0, locals := 0 }) (w0 := (wM cI cB cZ b P.1 P.2.1 T.1 P.2.2.1 P.2.2.2.1 P.2.2.2.2.1 P.2.2.2.2.2.2.1 P.2.2.2.2.2.1 P.2.2.2.2.2.2.2 T.2 gd nx tm)) (q0 := 13) (b := b 0) (As := []) (rest := []) hx hb hml hown hT hN hK hP hD (c_Mo_begin l D cI cB cZ b P.1 P.2.1 T.1 P.2.2.1 P.2.2.2.1 P.2.2.2.2.1 P.2.2.2.2.2.2.1 P.2.2.2.2.2.1 P.2.2.2.2.2.2.2 T.2 gd nx tm  _) ⟨tw_k245, tw_k10, tw_k242, by decide +kernel⟩ ⟨tw_k243, tw_k244⟩ [13, 14, 15, 16, 17, 18, 19, 20, 21, 22, 23] rfl (by decide) rfl rfl ⟨Nat.le_of_ble_eq_true rfl, Nat.le_of_ble_eq_true rfl⟩ rfl hl.1 rfl (Nat.le_of_ble_eq_true rfl) d_law_law_179 ⟨Nat.le_of_ble_eq_true rfl, Nat.le_of_ble_eq_true rfl⟩) (fun _ H locs hp hP hD hS => ?_)
      have hP : va_P D classes ((wS cI cB cZ a P.1 P.2.1 P.2.2.1 P.2.2.2.1 P.2.2.2.2.1 P.2.2.2.2.2.1 P.2.2.2.2.2.2.1 P.2.2.2.2.2.2.2 no th ro 0 T.2) ++ (wM cI cB cZ b P.1 P.2.1 0 P.2.2.1 P.2.2.2.1 P.2.2.2.2.1 P.2.2.2.2.2.2.1 P.2.2.2.2.2.1 P.2.2.2.2.2.2.2 T.2 gd nx tm)) H := hP
      have hD : va_D A ((wS cI cB cZ a P.1 P.2.1 P.2.2.1 P.2.2.2.1 P.2.2.2.2.1 P.2.2.2.2.2.1 P.2.2.2.2.2.2.1 P.2.2.2.2.2.2.2 no th ro 0 T.2) ++ (wM cI cB cZ b P.1 P.2.1 0 P.2.2.1 P.2.2.2.1 P.2.2.2.2.1 P.2.2.2.2.2.2.1 P.2.2.2.2.2.1 P.2.2.2.2.2.2.2 T.2 gd nx tm)) := hD
      refine lv_goto (tgt := 267) hx hb d_law_law_182 (by decide) ?_
      refine lv_iinc (v := (nI (i + 3))) (lv' := [(3, .int (nI (i + 3))), (2, .ref (b 0)), (1, .ref (a 12)), (0, .ref bs)]) hx hb d_law_law_267 hl (k := 0) rfl (nI_add _ 3) (by decide) rfl (fun ls hl => ?_)
      refine lv_goto (tgt := 18) hx hb d_law_law_270 (by decide) ?_
      exact ih1 _ _ _ _ (by omega) ⟨i + 3, P, (0, T.2), a, b, no, th, ro, gd, nx, tm, rfl, hP, hD, hS, lv_sub hl [0, 1, 2, 3] rfl, by omega, hv1_2, Nat.zero_le _⟩
    · refine lv_tableIn (off := 153) (tgt := 185) hx hb d_law_law_32 (by decide) (by decide) (by decide) (by decide) ?_
      refine lv_aload_n hx hb d_law_law_185 rfl (lv_at hl 2 rfl) ?_
      refine lv_aload_n hx hb d_law_law_186 rfl (lv_at hl 3 rfl) ?_
      refine lv_iload_n hx hb d_law_law_187 rfl (lv_at hl 0 rfl) ?_
      refine lv_iconst (v := nI 1) hx hb d_law_law_188 (by decide) ?_
      refine y_iadd hx hb d_law_law_189 ?_
      refine y_sld hx hb hX hbl hbA hS (by omega) (by omega) d_law_law_190 ?_
      refine y_i (w0 := (wS cI cB cZ a P.1 P.2.1 P.2.2.1 P.2.2.2.1 P.2.2.2.2.1 P.2.2.2.2.2.1 P.2.2.2.2.2.2.1 P.2.2.2.2.2.2.2 no th ro T.1 T.2)) (wr := [_, _, _, _, _, _, _, _, _, _, _]) hP hD hS hA [0, 1, 2, 3, 4, 5, 6, 7, 8, 9, 10, 11, 12] [13, 14, 15, 16, 17, 18, 19, 20, 21, 22, 23] rfl rfl (by decide) (by decide) (y_runV (n := 1) (rm := { frames := 0, cells := 0, slots := 0, locals := 0 }) (w0 := (wS cI cB cZ a P.1 P.2.1 P.2.2.1 P.2.2.2.1 P.2.2.2.2.1 P.2.2.2.2.2.1 P.2.2.2.2.2.2.1 P.2.2.2.2.2.2.2 no th ro T.1 T.2)) (q0 := 0) (b := a 12) (As := [.int (xs (i + 1))]) (rest := []) hx hb hml hown hT hN hK hP hD (c_Sv_add l D cI cB cZ a P.1 P.2.1 P.2.2.1 P.2.2.2.1 P.2.2.2.2.1 P.2.2.2.2.2.1 P.2.2.2.2.2.2.1 P.2.2.2.2.2.2.2 no th ro T.1 T.2 (xs (i + 1)) hv1_3 _) ⟨tw_k135, tw_k7, tw_k132, by decide +kernel⟩ ⟨tw_k133, tw_k134⟩ [0, 1, 2, 3, 4, 5, 6, 7, 8, 9, 10, 11, 12] rfl (by decide) rfl rfl ⟨Nat.le_of_ble_eq_true rfl, Nat.le_of_ble_eq_true rfl⟩ rfl hl.1 rfl (Nat.le_of_ble_eq_true rfl) d_law_law_191 ⟨Nat.le_of_ble_eq_true rfl, Nat.le_of_ble_eq_true rfl⟩) (fun r1 v1 H locs hp1 hP hD hS => ?_)
      have hP := hP.sub (ws' := ((wS cI cB cZ a P.1 P.2.1 P.2.2.1 P.2.2.2.1 P.2.2.2.2.1 P.2.2.2.2.2.1 P.2.2.2.2.2.2.1 P.2.2.2.2.2.2.2 no th ro v1.1 v1.2) ++ (wM cI cB cZ b P.1 P.2.1 T.1 P.2.2.1 P.2.2.2.1 P.2.2.2.2.1 P.2.2.2.2.2.2.1 P.2.2.2.2.2.1 P.2.2.2.2.2.2.2 T.2 gd nx tm))) [11, 12, 13, 14, 15, 16, 17, 18, 19, 20, 21, 22, 23, 0, 1, 2, 3, 4, 5, 6, 7, 8, 9, 10] rfl
      have hD := hD.sub (ws' := ((wS cI cB cZ a P.1 P.2.1 P.2.2.1 P.2.2.2.1 P.2.2.2.2.1 P.2.2.2.2.2.1 P.2.2.2.2.2.2.1 P.2.2.2.2.2.2.2 no th ro v1.1 v1.2) ++ (wM cI cB cZ b P.1 P.2.1 T.1 P.2.2.1 P.2.2.2.1 P.2.2.2.2.1 P.2.2.2.2.2.2.1 P.2.2.2.2.2.1 P.2.2.2.2.2.2.2 T.2 gd nx tm))) [11, 12, 13, 14, 15, 16, 17, 18, 19, 20, 21, 22, 23, 0, 1, 2, 3, 4, 5, 6, 7, 8, 9, 10] (by decide) rfl
      refine lv_aload_n hx hb d_law_law_194 rfl (lv_at hl 1 rfl) ?_
      refine lv_aload_n hx hb d_law_law_195 rfl (lv_at hl 3 rfl) ?_
      refine lv_iload_n hx hb d_law_law_196 rfl (lv_at hl 0 rfl) ?_
      refine lv_iconst (v := nI 1) hx hb d_law_law_197 (by decide) ?_
      refine y_iadd hx hb d_law_law_198 ?_
      refine y_sld hx hb hX hbl hbA hS (by omega) (by omega) d_law_law_199 ?_
      refine y_i (w0 := (wM cI cB cZ b P.1 P.2.1 T.1 P.2.2.1 P.2.2.2.1 P.2.2.2.2.1 P.2.2.2.2.2.2.1 P.2.2.2.2.2.1 P.2.2.2.2.2.2.2 T.2 gd nx tm)) (wr := [_, _, _, _, _, _, _, _, _, _, _, _, _]) hP hD hS hA [13, 14, 15, 16, 17, 18, 19, 20, 21, 22, 23] [0, 1, 2, 3, 4, 5, 6, 7, 8, 9, 10, 11, 12] rfl rfl (by decide) (by decide) (y_runV (n := 1) (rm := { frames := 0, cells := 0, slots := 0, locals := 0 }) (w0 := (wM cI cB cZ b P.1 P.2.1 T.1 P.2.2.1 P.2.2.2.1 P.2.2.2.2.1 P.2.2.2.2.2.2.1 P.2.2.2.2.2.1 P.2.2.2.2.2.2.2 T.2 gd nx tm)) (q0 := 13) (b := b 0) (As := [.int (xs (i + 1))]) (rest := [.int r1]) hx hb hml hown hT hN hK hP hD (c_Mo_add l D cI cB cZ b P.1 P.2.1 T.1 P.2.2.1 P.2.2.2.1 P.2.2.2.2.1 P.2.2.2.2.2.2.1 P.2.2.2.2.2.1 P.2.2.2.2.2.2.2 T.2 gd nx tm (xs (i + 1)) hv1_3 _) ⟨tw_k249, tw_k10, tw_k246, by decide +kernel⟩ ⟨tw_k247, tw_k248⟩ [13, 14, 15, 16, 17, 18, 19, 20, 21, 22, 23] rfl (by decide) rfl rfl ⟨Nat.le_of_ble_eq_true rfl, Nat.le_of_ble_eq_true rfl⟩ rfl hl.1 rfl (Nat.le_of_ble_eq_true rfl) d_law_law_200 ⟨Nat.le_of_ble_eq_true rfl, Nat.le_of_ble_eq_true rfl⟩) (fun r2 v2 H locs hp2 hP hD hS => ?_)
      have hP : va_P D classes ((wS cI cB cZ a P.1 P.2.1 P.2.2.1 P.2.2.2.1 P.2.2.2.2.1 P.2.2.2.2.2.1 P.2.2.2.2.2.2.1 P.2.2.2.2.2.2.2 no th ro v1.1 v1.2) ++ (wM cI cB cZ b P.1 P.2.1 v2.1 P.2.2.1 P.2.2.2.1 P.2.2.2.2.1 P.2.2.2.2.2.2.1 P.2.2.2.2.2.1 P.2.2.2.2.2.2.2 v2.2 gd nx tm)) H := hP
      have hD : va_D A ((wS cI cB cZ a P.1 P.2.1 P.2.2.1 P.2.2.2.1 P.2.2.2.2.1 P.2.2.2.2.2.1 P.2.2.2.2.2.2.1 P.2.2.2.2.2.2.2 no th ro v1.1 v1.2) ++ (wM cI cB cZ b P.1 P.2.1 v2.1 P.2.2.1 P.2.2.2.1 P.2.2.2.2.1 P.2.2.2.2.2.2.1 P.2.2.2.2.2.1 P.2.2.2.2.2.2.2 v2.2 gd nx tm)) := hD
      obtain ⟨hr1, rfl⟩ := hp1
      obtain ⟨hr2, rfl⟩ := hp2
      refine lv_icmp_eq (tgt := 267) hx hb d_law_law_203 (by decide) (fun hne => ?_) (fun hne => ?_)
      · refine lv_iinc (v := (nI (i + 3))) (lv' := [(3, .int (nI (i + 3))), (2, .ref (b 0)), (1, .ref (a 12)), (0, .ref bs)]) hx hb d_law_law_267 hl (k := 0) rfl (nI_add _ 3) (by decide) rfl (fun ls hl => ?_)
        refine lv_goto (tgt := 18) hx hb d_law_law_270 (by decide) ?_
        exact ih1 _ _ _ _ (by omega) ⟨i + 3, P, (stA T.1 T.2 (xs (i + 1))), a, b, no, th, ro, gd, nx, tm, rfl, hP, hD, hS, lv_sub hl [0, 1, 2, 3] rfl, by omega, hv1_2, IA_ hv1_3⟩
      · exact absurd (hr1.trans hr2.symm) hne
    · refine lv_tableIn (off := 176) (tgt := 208) hx hb d_law_law_32 (by decide) (by decide) (by decide) (by decide) ?_
      refine lv_aload_n hx hb d_law_law_208 rfl (lv_at hl 2 rfl) ?_
      refine y_i (w0 := (wS cI cB cZ a P.1 P.2.1 P.2.2.1 P.2.2.2.1 P.2.2.2.2.1 P.2.2.2.2.2.1 P.2.2.2.2.2.2.1 P.2.2.2.2.2.2.2 no th ro T.1 T.2)) (wr := [_, _, _, _, _, _, _, _, _, _, _]) hP hD hS hA [0, 1, 2, 3, 4, 5, 6, 7, 8, 9, 10, 11, 12] [13, 14, 15, 16, 17, 18, 19, 20, 21, 22, 23] rfl rfl (by decide) (by decide) (y_runV (n := 0) (rm := { frames := 5, cells := 0, slots := 0, locals := 119 }) (w0 := (wS cI cB cZ a P.1 P.2.1 P.2.2.1 P.2.2.2.1 P.2.2.2.2.1 P.2.2.2.2.2.1 P.2.2.2.2.2.2.1 P.2.2.2.2.2.2.2 no th ro T.1 T.2)) (q0 := 0) (b := a 12) (As := []) (rest := []) hx hb hml hown hT hN hK hP hD (c_Sv_fits l D cI cB cZ a P.1 P.2.1 P.2.2.1 P.2.2.2.1 P.2.2.2.2.1 P.2.2.2.2.2.1 P.2.2.2.2.2.2.1 P.2.2.2.2.2.2.2 no th ro T.1 T.2 hc hv1_3 hL hM hC hFS _) ⟨tw_k139, tw_k7, tw_k136, by decide +kernel⟩ ⟨tw_k137, tw_k138⟩ [0, 1, 2, 3, 4, 5, 6, 7, 8, 9, 10, 11, 12] rfl (by decide) rfl rfl ⟨Nat.le_of_ble_eq_true rfl, Nat.le_of_ble_eq_true rfl⟩ rfl hl.1 rfl (Nat.le_of_ble_eq_true rfl) d_law_law_209 ⟨Nat.le_of_ble_eq_true rfl, Nat.le_of_ble_eq_true rfl⟩) (fun r1 v1 H locs hr1 hP hD hS => ?_)
      have hP := hP.sub (ws' := ((wS cI cB cZ a P.1 P.2.1 P.2.2.1 P.2.2.2.1 P.2.2.2.2.1 P.2.2.2.2.2.1 P.2.2.2.2.2.2.1 P.2.2.2.2.2.2.2 v1.1 v1.2.1 v1.2.2 T.1 T.2) ++ (wM cI cB cZ b P.1 P.2.1 T.1 P.2.2.1 P.2.2.2.1 P.2.2.2.2.1 P.2.2.2.2.2.2.1 P.2.2.2.2.2.1 P.2.2.2.2.2.2.2 T.2 gd nx tm))) [11, 12, 13, 14, 15, 16, 17, 18, 19, 20, 21, 22, 23, 0, 1, 2, 3, 4, 5, 6, 7, 8, 9, 10] rfl
      have hD := hD.sub (ws' := ((wS cI cB cZ a P.1 P.2.1 P.2.2.1 P.2.2.2.1 P.2.2.2.2.1 P.2.2.2.2.2.1 P.2.2.2.2.2.2.1 P.2.2.2.2.2.2.2 v1.1 v1.2.1 v1.2.2 T.1 T.2) ++ (wM cI cB cZ b P.1 P.2.1 T.1 P.2.2.1 P.2.2.2.1 P.2.2.2.2.1 P.2.2.2.2.2.2.1 P.2.2.2.2.2.1 P.2.2.2.2.2.2.2 T.2 gd nx tm))) [11, 12, 13, 14, 15, 16, 17, 18, 19, 20, 21, 22, 23, 0, 1, 2, 3, 4, 5, 6, 7, 8, 9, 10] (by decide) rfl
      refine lv_aload_n hx hb d_law_law_212 rfl (lv_at hl 1 rfl) ?_
      refine y_i (w0 := (wM cI cB cZ b P.1 P.2.1 T.1 P.2.2.1 P.2.2.2.1 P.2.2.2.2.1 P.2.2.2.2.2.2.1 P.2.2.2.2.2.1 P.2.2.2.2.2.2.2 T.2 gd nx tm)) (wr := [_, _, _, _, _, _, _, _, _, _, _, _, _]) hP hD hS hA [13, 14, 15, 16, 17, 18, 19, 20, 21, 22, 23] [0, 1, 2, 3, 4, 5, 6, 7, 8, 9, 10, 11, 12] rfl rfl (by decide) (by decide) (y_runV (n := 0) (rm := { frames := 5, cells := 0, slots := 0, locals := 118 }) (w0 := (wM cI cB cZ b P.1 P.2.1 T.1 P.2.2.1 P.2.2.2.1 P.2.2.2.2.1 P.2.2.2.2.2.2.1 P.2.2.2.2.2.1 P.2.2.2.2.2.2.2 T.2 gd nx tm)) (q0 := 13) (b := b 0) (As := []) (rest := [.int r1]) hx hb hml hown hT hN hK hP hD (c_Mo_fits l D cI cB cZ b P.1 P.2.1 T.1 P.2.2.1 P.2.2.2.1 P.2.2.2.2.1 P.2.2.2.2.2.2.1 P.2.2.2.2.2.1 P.2.2.2.2.2.2.2 T.2 gd nx tm hc hv1_3 hL hM hC hFS _) ⟨tw_k253, tw_k10, tw_k250, by decide +kernel⟩ ⟨tw_k251, tw_k252⟩ [13, 14, 15, 16, 17, 18, 19, 20, 21, 22, 23] rfl (by decide) rfl rfl ⟨Nat.le_of_ble_eq_true rfl, Nat.le_of_ble_eq_true rfl⟩ rfl hl.1 rfl (Nat.le_of_ble_eq_true rfl) d_law_law_213 ⟨Nat.le_of_ble_eq_true rfl, Nat.le_of_ble_eq_true rfl⟩) (fun r2 v2 H locs hr2 hP hD hS => ?_)
      have hP : va_P D classes ((wS cI cB cZ a P.1 P.2.1 P.2.2.1 P.2.2.2.1 P.2.2.2.2.1 P.2.2.2.2.2.1 P.2.2.2.2.2.2.1 P.2.2.2.2.2.2.2 v1.1 v1.2.1 v1.2.2 T.1 T.2) ++ (wM cI cB cZ b P.1 P.2.1 T.1 P.2.2.1 P.2.2.2.1 P.2.2.2.2.1 P.2.2.2.2.2.2.1 P.2.2.2.2.2.1 P.2.2.2.2.2.2.2 T.2 v2.1 v2.2.1 v2.2.2)) H := hP
      have hD : va_D A ((wS cI cB cZ a P.1 P.2.1 P.2.2.1 P.2.2.2.1 P.2.2.2.2.1 P.2.2.2.2.2.1 P.2.2.2.2.2.2.1 P.2.2.2.2.2.2.2 v1.1 v1.2.1 v1.2.2 T.1 T.2) ++ (wM cI cB cZ b P.1 P.2.1 T.1 P.2.2.1 P.2.2.2.1 P.2.2.2.2.1 P.2.2.2.2.2.2.1 P.2.2.2.2.2.1 P.2.2.2.2.2.2.2 T.2 v2.1 v2.2.1 v2.2.2)) := hD
      refine lv_icmp_eq (tgt := 267) hx hb d_law_law_216 (by decide) (fun hne => ?_) (fun hne => ?_)
      · refine lv_iinc (v := (nI (i + 3))) (lv' := [(3, .int (nI (i + 3))), (2, .ref (b 0)), (1, .ref (a 12)), (0, .ref bs)]) hx hb d_law_law_267 hl (k := 0) rfl (nI_add _ 3) (by decide) rfl (fun ls hl => ?_)
        refine lv_goto (tgt := 18) hx hb d_law_law_270 (by decide) ?_
        exact ih1 _ _ _ _ (by omega) ⟨i + 3, P, T, a, b, v1.1, v1.2.1, v1.2.2, v2.1, v2.2.1, v2.2.2, rfl, hP, hD, hS, lv_sub hl [0, 1, 2, 3] rfl, by omega, hv1_2, hv1_3⟩
      · exact absurd (hr1.trans hr2.symm) hne
    · refine lv_tableIn (off := 189) (tgt := 221) hx hb d_law_law_32 (by decide) (by decide) (by decide) (by decide) ?_
      refine lv_aload_n hx hb d_law_law_221 rfl (lv_at hl 2 rfl) ?_
      refine lv_aload_n hx hb d_law_law_222 rfl (lv_at hl 3 rfl) ?_
      refine lv_iload_n hx hb d_law_law_223 rfl (lv_at hl 0 rfl) ?_
      refine lv_iconst (v := nI 1) hx hb d_law_law_224 (by decide) ?_
      refine y_iadd hx hb d_law_law_225 ?_
      refine y_sld hx hb hX hbl hbA hS (by omega) (by omega) d_law_law_226 ?_
      refine y_i (w0 := (wS cI cB cZ a P.1 P.2.1 P.2.2.1 P.2.2.2.1 P.2.2.2.2.1 P.2.2.2.2.2.1 P.2.2.2.2.2.2.1 P.2.2.2.2.2.2.2 no th ro T.1 T.2)) (wr := [_, _, _, _, _, _, _, _, _, _, _]) hP hD hS hA [0, 1, 2, 3, 4, 5, 6, 7, 8, 9, 10, 11, 12] [13, 14, 15, 16, 17, 18, 19, 20, 21, 22, 23] rfl rfl (by decide) (by decide) (y_runV (n := 1) (rm := { frames := 5, cells := 0, slots := 0, locals := 119 }) (w0 := (wS cI cB cZ a P.1 P.2.1 P.2.2.1 P.2.2.2.1 P.2.2.2.2.1 P.2.2.2.2.2.1 P.2.2.2.2.2.2.1 P.2.2.2.2.2.2.2 no th ro T.1 T.2)) (q0 := 0) (b := a 12) (As := [.int (xs (i + 1))]) (rest := []) hx hb hml hown hT hN hK hP hD (c_Sv_prefix l D cI cB cZ a P.1 P.2.1 P.2.2.1 P.2.2.2.1 P.2.2.2.2.1 P.2.2.2.2.2.1 P.2.2.2.2.2.2.1 P.2.2.2.2.2.2.2 no th ro T.1 T.2 (xs (i + 1)) hc hv1_3 hL hM hC hFS _) ⟨tw_k169, tw_k7, tw_k166, by decide +kernel⟩ ⟨tw_k167, tw_k168⟩ [0, 1, 2, 3, 4, 5, 6, 7, 8, 9, 10, 11, 12] rfl (by decide) rfl rfl ⟨Nat.le_of_ble_eq_true rfl, Nat.le_of_ble_eq_true rfl⟩ rfl hl.1 rfl (Nat.le_of_ble_eq_true rfl) d_law_law_227 ⟨Nat.le_of_ble_eq_true rfl, Nat.le_of_ble_eq_true rfl⟩) (fun r1 v1 H locs hr1 hP hD hS => ?_)
      have hP := hP.sub (ws' := ((wS cI cB cZ a P.1 P.2.1 P.2.2.1 P.2.2.2.1 P.2.2.2.2.1 P.2.2.2.2.2.1 P.2.2.2.2.2.2.1 P.2.2.2.2.2.2.2 v1.1 v1.2.1 v1.2.2 T.1 T.2) ++ (wM cI cB cZ b P.1 P.2.1 T.1 P.2.2.1 P.2.2.2.1 P.2.2.2.2.1 P.2.2.2.2.2.2.1 P.2.2.2.2.2.1 P.2.2.2.2.2.2.2 T.2 gd nx tm))) [11, 12, 13, 14, 15, 16, 17, 18, 19, 20, 21, 22, 23, 0, 1, 2, 3, 4, 5, 6, 7, 8, 9, 10] rfl
      have hD := hD.sub (ws' := ((wS cI cB cZ a P.1 P.2.1 P.2.2.1 P.2.2.2.1 P.2.2.2.2.1 P.2.2.2.2.2.1 P.2.2.2.2.2.2.1 P.2.2.2.2.2.2.2 v1.1 v1.2.1 v1.2.2 T.1 T.2) ++ (wM cI cB cZ b P.1 P.2.1 T.1 P.2.2.1 P.2.2.2.1 P.2.2.2.2.1 P.2.2.2.2.2.2.1 P.2.2.2.2.2.1 P.2.2.2.2.2.2.2 T.2 gd nx tm))) [11, 12, 13, 14, 15, 16, 17, 18, 19, 20, 21, 22, 23, 0, 1, 2, 3, 4, 5, 6, 7, 8, 9, 10] (by decide) rfl
      refine lv_aload_n hx hb d_law_law_230 rfl (lv_at hl 1 rfl) ?_
      refine lv_aload_n hx hb d_law_law_231 rfl (lv_at hl 3 rfl) ?_
      refine lv_iload_n hx hb d_law_law_232 rfl (lv_at hl 0 rfl) ?_
      refine lv_iconst (v := nI 1) hx hb d_law_law_233 (by decide) ?_
      refine y_iadd hx hb d_law_law_234 ?_
      refine y_sld hx hb hX hbl hbA hS (by omega) (by omega) d_law_law_235 ?_
      refine y_i (w0 := (wM cI cB cZ b P.1 P.2.1 T.1 P.2.2.1 P.2.2.2.1 P.2.2.2.2.1 P.2.2.2.2.2.2.1 P.2.2.2.2.2.1 P.2.2.2.2.2.2.2 T.2 gd nx tm)) (wr := [_, _, _, _, _, _, _, _, _, _, _, _, _]) hP hD hS hA [13, 14, 15, 16, 17, 18, 19, 20, 21, 22, 23] [0, 1, 2, 3, 4, 5, 6, 7, 8, 9, 10, 11, 12] rfl rfl (by decide) (by decide) (y_runV (n := 1) (rm := { frames := 5, cells := 0, slots := 0, locals := 118 }) (w0 := (wM cI cB cZ b P.1 P.2.1 T.1 P.2.2.1 P.2.2.2.1 P.2.2.2.2.1 P.2.2.2.2.2.2.1 P.2.2.2.2.2.1 P.2.2.2.2.2.2.2 T.2 gd nx tm)) (q0 := 13) (b := b 0) (As := [.int (xs (i + 1))]) (rest := [.int r1]) hx hb hml hown hT hN hK hP hD (c_Mo_prefix l D cI cB cZ b P.1 P.2.1 T.1 P.2.2.1 P.2.2.2.1 P.2.2.2.2.1 P.2.2.2.2.2.2.1 P.2.2.2.2.2.1 P.2.2.2.2.2.2.2 T.2 gd nx tm (xs (i + 1)) hc hv1_3 hL hM hC hFS _) ⟨tw_k276, tw_k10, tw_k273, by decide +kernel⟩ ⟨tw_k274, tw_k275⟩ [13, 14, 15, 16, 17, 18, 19, 20, 21, 22, 23] rfl (by decide) rfl rfl ⟨Nat.le_of_ble_eq_true rfl, Nat.le_of_ble_eq_true rfl⟩ rfl hl.1 rfl (Nat.le_of_ble_eq_true rfl) d_law_law_236 ⟨Nat.le_of_ble_eq_true rfl, Nat.le_of_ble_eq_true rfl⟩) (fun r2 v2 H locs hr2 hP hD hS => ?_)
      have hP : va_P D classes ((wS cI cB cZ a P.1 P.2.1 P.2.2.1 P.2.2.2.1 P.2.2.2.2.1 P.2.2.2.2.2.1 P.2.2.2.2.2.2.1 P.2.2.2.2.2.2.2 v1.1 v1.2.1 v1.2.2 T.1 T.2) ++ (wM cI cB cZ b P.1 P.2.1 T.1 P.2.2.1 P.2.2.2.1 P.2.2.2.2.1 P.2.2.2.2.2.2.1 P.2.2.2.2.2.1 P.2.2.2.2.2.2.2 T.2 v2.1 v2.2.1 v2.2.2)) H := hP
      have hD : va_D A ((wS cI cB cZ a P.1 P.2.1 P.2.2.1 P.2.2.2.1 P.2.2.2.2.1 P.2.2.2.2.2.1 P.2.2.2.2.2.2.1 P.2.2.2.2.2.2.2 v1.1 v1.2.1 v1.2.2 T.1 T.2) ++ (wM cI cB cZ b P.1 P.2.1 T.1 P.2.2.1 P.2.2.2.1 P.2.2.2.2.1 P.2.2.2.2.2.2.1 P.2.2.2.2.2.1 P.2.2.2.2.2.2.2 T.2 v2.1 v2.2.1 v2.2.2)) := hD
      refine lv_icmp_eq (tgt := 267) hx hb d_law_law_239 (by decide) (fun hne => ?_) (fun hne => ?_)
      · refine lv_iinc (v := (nI (i + 3))) (lv' := [(3, .int (nI (i + 3))), (2, .ref (b 0)), (1, .ref (a 12)), (0, .ref bs)]) hx hb d_law_law_267 hl (k := 0) rfl (nI_add _ 3) (by decide) rfl (fun ls hl => ?_)
        refine lv_goto (tgt := 18) hx hb d_law_law_270 (by decide) ?_
        exact ih1 _ _ _ _ (by omega) ⟨i + 3, P, T, a, b, v1.1, v1.2.1, v1.2.2, v2.1, v2.2.1, v2.2.2, rfl, hP, hD, hS, lv_sub hl [0, 1, 2, 3] rfl, by omega, hv1_2, hv1_3⟩
      · exact absurd (hr1.trans hr2.symm) hne
    · refine lv_tableIn (off := 212) (tgt := 244) hx hb d_law_law_32 (by decide) (by decide) (by decide) (by decide) ?_
      refine lv_aload_n hx hb d_law_law_244 rfl (lv_at hl 2 rfl) ?_
      refine lv_aload_n hx hb d_law_law_245 rfl (lv_at hl 3 rfl) ?_
      refine lv_iload_n hx hb d_law_law_246 rfl (lv_at hl 0 rfl) ?_
      refine lv_iconst (v := nI 1) hx hb d_law_law_247 (by decide) ?_
      refine y_iadd hx hb d_law_law_248 ?_
      refine y_sld hx hb hX hbl hbA hS (by omega) (by omega) d_law_law_249 ?_
      refine y_i (w0 := (wS cI cB cZ a P.1 P.2.1 P.2.2.1 P.2.2.2.1 P.2.2.2.2.1 P.2.2.2.2.2.1 P.2.2.2.2.2.2.1 P.2.2.2.2.2.2.2 no th ro T.1 T.2)) (wr := [_, _, _, _, _, _, _, _, _, _, _]) hP hD hS hA [0, 1, 2, 3, 4, 5, 6, 7, 8, 9, 10, 11, 12] [13, 14, 15, 16, 17, 18, 19, 20, 21, 22, 23] rfl rfl (by decide) (by decide) (y_runV (n := 1) (rm := { frames := 0, cells := 0, slots := 0, locals := 0 }) (w0 := (wS cI cB cZ a P.1 P.2.1 P.2.2.1 P.2.2.2.1 P.2.2.2.2.1 P.2.2.2.2.2.1 P.2.2.2.2.2.2.1 P.2.2.2.2.2.2.2 no th ro T.1 T.2)) (q0 := 0) (b := a 12) (As := [.int (xs (i + 1))]) (rest := []) hx hb hml hown hT hN hK hP hD (c_Sv_count l D cI cB cZ a P.1 P.2.1 P.2.2.1 P.2.2.2.1 P.2.2.2.2.1 P.2.2.2.2.2.1 P.2.2.2.2.2.2.1 P.2.2.2.2.2.2.2 no th ro T.1 T.2 (xs (i + 1)) _) ⟨tw_k173, tw_k7, tw_k170, by decide +kernel⟩ ⟨tw_k171, tw_k172⟩ [0, 1, 2, 3, 4, 5, 6, 7, 8, 9, 10, 11, 12] rfl (by decide) rfl rfl ⟨Nat.le_of_ble_eq_true rfl, Nat.le_of_ble_eq_true rfl⟩ rfl hl.1 rfl (Nat.le_of_ble_eq_true rfl) d_law_law_250 ⟨Nat.le_of_ble_eq_true rfl, Nat.le_of_ble_eq_true rfl⟩) (fun r1 _ H locs hr1 hP hD hS => ?_)
      have hP := hP.sub (ws' := ((wS cI cB cZ a P.1 P.2.1 P.2.2.1 P.2.2.2.1 P.2.2.2.2.1 P.2.2.2.2.2.1 P.2.2.2.2.2.2.1 P.2.2.2.2.2.2.2 no th ro T.1 T.2) ++ (wM cI cB cZ b P.1 P.2.1 T.1 P.2.2.1 P.2.2.2.1 P.2.2.2.2.1 P.2.2.2.2.2.2.1 P.2.2.2.2.2.1 P.2.2.2.2.2.2.2 T.2 gd nx tm))) [11, 12, 13, 14, 15, 16, 17, 18, 19, 20, 21, 22, 23, 0, 1, 2, 3, 4, 5, 6, 7, 8, 9, 10] rfl
      have hD := hD.sub (ws' := ((wS cI cB cZ a P.1 P.2.1 P.2.2.1 P.2.2.2.1 P.2.2.2.2.1 P.2.2.2.2.2.1 P.2.2.2.2.2.2.1 P.2.2.2.2.2.2.2 no th ro T.1 T.2) ++ (wM cI cB cZ b P.1 P.2.1 T.1 P.2.2.1 P.2.2.2.1 P.2.2.2.2.1 P.2.2.2.2.2.2.1 P.2.2.2.2.2.1 P.2.2.2.2.2.2.2 T.2 gd nx tm))) [11, 12, 13, 14, 15, 16, 17, 18, 19, 20, 21, 22, 23, 0, 1, 2, 3, 4, 5, 6, 7, 8, 9, 10] (by decide) rfl
      refine lv_aload_n hx hb d_law_law_253 rfl (lv_at hl 1 rfl) ?_
      refine lv_aload_n hx hb d_law_law_254 rfl (lv_at hl 3 rfl) ?_
      refine lv_iload_n hx hb d_law_law_255 rfl (lv_at hl 0 rfl) ?_
      refine lv_iconst (v := nI 1) hx hb d_law_law_256 (by decide) ?_
      refine y_iadd hx hb d_law_law_257 ?_
      refine y_sld hx hb hX hbl hbA hS (by omega) (by omega) d_law_law_258 ?_
      refine y_i (w0 := (wM cI cB cZ b P.1 P.2.1 T.1 P.2.2.1 P.2.2.2.1 P.2.2.2.2.1 P.2.2.2.2.2.2.1 P.2.2.2.2.2.1 P.2.2.2.2.2.2.2 T.2 gd nx tm)) (wr := [_, _, _, _, _, _, _, _, _, _, _, _, _]) hP hD hS hA [13, 14, 15, 16, 17, 18, 19, 20, 21, 22, 23] [0, 1, 2, 3, 4, 5, 6, 7, 8, 9, 10, 11, 12] rfl rfl (by decide) (by decide) (y_runV (n := 1) (rm := { frames := 0, cells := 0, slots := 0, locals := 0 }) (w0 := (wM cI cB cZ b P.1 P.2.1 T.1 P.2.2.1 P.2.2.2.1 P.2.2.2.2.1 P.2.2.2.2.2.2.1 P.2.2.2.2.2.1 P.2.2.2.2.2.2.2 T.2 gd nx tm)) (q0 := 13) (b := b 0) (As := [.int (xs (i + 1))]) (rest := [.int r1]) hx hb hml hown hT hN hK hP hD (c_Mo_count l D cI cB cZ b P.1 P.2.1 T.1 P.2.2.1 P.2.2.2.1 P.2.2.2.2.1 P.2.2.2.2.2.2.1 P.2.2.2.2.2.1 P.2.2.2.2.2.2.2 T.2 gd nx tm (xs (i + 1)) _) ⟨tw_k280, tw_k10, tw_k277, by decide +kernel⟩ ⟨tw_k278, tw_k279⟩ [13, 14, 15, 16, 17, 18, 19, 20, 21, 22, 23] rfl (by decide) rfl rfl ⟨Nat.le_of_ble_eq_true rfl, Nat.le_of_ble_eq_true rfl⟩ rfl hl.1 rfl (Nat.le_of_ble_eq_true rfl) d_law_law_259 ⟨Nat.le_of_ble_eq_true rfl, Nat.le_of_ble_eq_true rfl⟩) (fun r2 _ H locs hr2 hP hD hS => ?_)
      have hP : va_P D classes ((wS cI cB cZ a P.1 P.2.1 P.2.2.1 P.2.2.2.1 P.2.2.2.2.1 P.2.2.2.2.2.1 P.2.2.2.2.2.2.1 P.2.2.2.2.2.2.2 no th ro T.1 T.2) ++ (wM cI cB cZ b P.1 P.2.1 T.1 P.2.2.1 P.2.2.2.1 P.2.2.2.2.1 P.2.2.2.2.2.2.1 P.2.2.2.2.2.1 P.2.2.2.2.2.2.2 T.2 gd nx tm)) H := hP
      have hD : va_D A ((wS cI cB cZ a P.1 P.2.1 P.2.2.1 P.2.2.2.1 P.2.2.2.2.1 P.2.2.2.2.2.1 P.2.2.2.2.2.2.1 P.2.2.2.2.2.2.2 no th ro T.1 T.2) ++ (wM cI cB cZ b P.1 P.2.1 T.1 P.2.2.1 P.2.2.2.1 P.2.2.2.2.1 P.2.2.2.2.2.2.1 P.2.2.2.2.2.1 P.2.2.2.2.2.2.2 T.2 gd nx tm)) := hD
      refine lv_icmp_eq (tgt := 267) hx hb d_law_law_262 (by decide) (fun hne => ?_) (fun hne => ?_)
      · refine lv_iinc (v := (nI (i + 3))) (lv' := [(3, .int (nI (i + 3))), (2, .ref (b 0)), (1, .ref (a 12)), (0, .ref bs)]) hx hb d_law_law_267 hl (k := 0) rfl (nI_add _ 3) (by decide) rfl (fun ls hl => ?_)
        refine lv_goto (tgt := 18) hx hb d_law_law_270 (by decide) ?_
        exact ih1 _ _ _ _ (by omega) ⟨i + 3, P, T, a, b, no, th, ro, gd, nx, tm, rfl, hP, hD, hS, lv_sub hl [0, 1, 2, 3] rfl, by omega, hv1_2, hv1_3⟩
      · exact absurd (hr1.trans hr2.symm) hne
    · refine lv_tableOut (tgt := 267) hx hb d_law_law_32 (Or.inr (by rw [nI_toInt (by omega)]; omega)) (by decide) ?_
      refine lv_iinc (v := (nI (i + 3))) (lv' := [(3, .int (nI (i + 3))), (2, .ref (b 0)), (1, .ref (a 12)), (0, .ref bs)]) hx hb d_law_law_267 hl (k := 0) rfl (nI_add _ 3) (by decide) rfl (fun ls hl => ?_)
      refine lv_goto (tgt := 18) hx hb d_law_law_270 (by decide) ?_
      exact ih1 _ _ _ _ (by omega) ⟨i + 3, P, T, a, b, no, th, ro, gd, nx, tm, rfl, hP, hD, hS, lv_sub hl [0, 1, 2, 3] rfl, by omega, hv1_2, hv1_3⟩
end
section
set_option maxHeartbeats 4000000 in
theorem lw_walk (l : Launch) (b : Addr) (xs : List Int32) : MetFree l x (headSpec (Jvm.Cond.code x code maxLocals ret :: tables_1) room_1) (lw_P b xs) (fun _ _ _ _ _ => True) lw_Q := by
  refine MetFree.of_bodyS (code := code) (maxLocals := maxLocals) (ret := ret) (by decide) ?_ ?_
  · intro args s m h hn
    obtain ⟨meth, c, h1, h2, h3, h4, h5, h6, -, -⟩ := Cond.code_spec hn (atoms_spec (ws := Jvm.Cond.code x code maxLocals ret :: tables_1) h _ List.mem_cons_self)
    exact ⟨meth, c, h1, h2, h3, h4, h5, h6⟩
  · intro p e s m args below meth c s₁ B hml0 hP _
    obtain ⟨rfl, hx, hbd, hgv⟩ := hP
    obtain ⟨scr, harrAt, hlist, hof, hsmall⟩ := hx
    obtain ⟨hcb, hkn, -, -⟩ := State.arrayAt?_spec harrAt
    have hown : s.vm.findClass R_law = some m.cls := findClass_of_methodNamed B.named
    have hts0 : ∀ c ∈ (Jvm.Cond.code x code maxLocals ret :: tables_1), c.before #[Value.ref b] s = true := atoms_spec (ws := Jvm.Cond.code x code maxLocals ret :: tables_1) B.pre
    have hts : ∀ w ∈ lw_tbl, w.before #[Value.ref b] s = true := k2_hts_sels lw_privs (fun w hw => hts0 w (List.mem_cons_of_mem _ hw)) lw_privs_ok
    have hml : c.maxLocals = 4 := B.maxLocals_eq (hts0 _ List.mem_cons_self)
    have X₀ : Stand p l e room_1 s m #[Value.ref b] below meth c s₁ [] 0 0 := Stand.of_body B
    have hh0 : s₁.heap = s.heap := by rw [B.state]; rfl
    have hsz : scr.slots.size = xs.length := by rw [← Array.length_toList, hlist, List.length_map]
    have hval : ∀ j : Nat, j < xs.length → scr.slots[j]? = some (.int (xs.getD j 0)) := fun j hj => by
      rw [← Array.getElem?_toList, hlist]
      simp [hj]
    have hbl : b < s.heap.size := (Array.getElem?_eq_some_iff.mp hcb).1
    have hX : va_X b xs.length (fun j => xs.getD j 0) s s.heap := ⟨scr, hcb, hof, hkn, hsz, hval⟩
    have K : W p l e room_1 s m #[Value.ref b] below meth c s₁.heap [] 0 0 (lw_Z below #[Value.ref b] s) (entryFrame m ([Value.ref b] : List Value).toArray 4) := by
      rw [hh0]
      exact whole_start l hbd ⟨B.exec, B.bytes, B.returns, hml, hown, hts, hX, hbl, B.notSynchronized, hgv⟩
    obtain ⟨t, a1, o, b1, b2, b3⟩ := K s₁ rfl X₀
    exact ⟨t, o, a1, b1, b2, b3⟩
theorem lw_pre_spec {args : Array Value} {s : State} (h : (Jvm.Cond.and given_1 narrow_1).before args s = true) (hr : rest_1_c.before args s = true) : ∃ (b : Addr) (xs : List Int32), lw_P b xs args s := by
  have hs := flat_of_before _ h
  have hq := flat_of_before _ hr
  have hc : (Cond.count 1).before args s = true := hs _ (by decide +kernel)
  have harr : (Cond.arrayOf (.arg 0) .int).before args s = true := hs _ (by decide +kernel)
  have hle : (Cond.le (.length (.arg 0)) (.int 1536)).before args s = true := hs _ (by decide +kernel)
  have hlen : (Cond.isInt (.length (.arg 0))).before args s = true := hq _ (by decide +kernel)
  have hall : (Cond.all (.arg 0) (.isInt (.elem (.arg 0) (.index 0)))).before args s = true := hq _ (by decide +kernel)
  obtain ⟨b, xs, hb, hx⟩ := State.ints_of_pre rfl harr hlen hall
  have hsm : xs.length < 2 ^ 31 := hx.choose_spec.2.2.2
  have hev : (Term.length (.arg 0)).eval args s none [] s = some (.int xs.length.toInt32) := hx.length_eval hb
  have hv := Cond.le_ints hev (show (Term.int 1536).eval args s none [] s = some (.int 1536) from rfl)
  have hd : xs.length.toInt32 ≤ 1536 := by
    simpa [Cond.before, Cond.holds, hv] using hle
  have hN : xs.length ≤ 1536 := (Int32.ofNat_le_ofNat hsm (by decide)).mp (show Int32.ofNat xs.length ≤ Int32.ofNat 1536 from hd)
  exact ⟨b, xs, Cond.one_arg hc (show args[0]? = some (.ref b) from hb), hx, hN, h⟩
theorem lw_comes (l : Launch) : Comes l x (Jvm.Cond.code x code maxLocals ret :: tables_1) room_1 (fun tb e args s => Calls_1 tb e args s ∧ rest_1 tb e args s ∧ Pre_1 tb e args s)
    (fun _ _ args s o t => lw_Q args s o t) := by
  intro p e ha hc hk s m args below hf hfit hheap happ hpre
  obtain ⟨b, xs, hP⟩ := lw_pre_spec hpre.2.2 hpre.2.1
  obtain ⟨k, o, h1, h2, h3, hQ⟩ := lw_walk l b xs p e ha hc hk s m args below hf ((Spec.applies_iff_loose hf).mp happ).1 hP trivial
  exact ⟨k, o, h1, h2, h3, hQ⟩
theorem lw_frame {s t : State} {o : Outcome} {args : Array Value} (h : Framed s o t [] 24 3526) :
    Framed s o t (fieldLocs frame_1_writes args s ++ arrayLocs frame_1_arrays args s ++ staticLocs frame_1_statics s) 24 3526 := h
theorem lw_limb (L : Cond) (hL : ∀ (args : Array Value) (s t : State), L.after args s (.returned (some (.int 1))) t = true) :
    ArmFor flags0 classFile x code maxLocals ret World_1 tables_1 room_1 Calls_1 rest_1 Pre_1
      (fun tb e a s o t => postC L tb e a s o t ∧ Framed s o t (fieldLocs frame_1_writes a s ++ arrayLocs frame_1_arrays a s ++ staticLocs frame_1_statics s) 24 3526) := by
  intro l _ _ _ p e ha hc hk s m args below hf hfit hheap happ hpre
  obtain ⟨k, o, h1, h2, h3, rfl, hF⟩ := lw_comes l p e ha hc hk s m args below hf hfit hheap happ hpre
  exact ⟨k, _, h1, h2, h3, hL args s _, lw_frame hF⟩
theorem i_vc : Claimed_1_1 ∧ Claimed_1_2 := ⟨lw_limb limb_1_1 (fun args s t => by simp [limb_1_1, Cond.after, Cond.holds, Cond.value]), lw_limb limb_1_2 (fun args s t => Cond.after_iff.mpr (by
  first | (rw [show limb_1_2 = Cond.eq .result (.int 1) from rfl, Cond.eq_ints (x := 1) (y := 1) rfl rfl]; simp; done) | (simp [limb_1_2, Cond.value, Term.eval]; done)))⟩
end
