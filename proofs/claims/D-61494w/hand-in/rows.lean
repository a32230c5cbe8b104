section
-- ===== PART A: goes FIRST, ahead of the names: the tables' words, and 'selects' of the private methods out of them =====
/-- a private method of a class that the tables say can be made, by its rows of tables_1 -/
def lw_okq (q : MethodName × Nat) : Prop := (q.1.cls ≠ "java/lang/invoke/MethodHandle" ∧ q.1.cls ≠ "java/lang/invoke/VarHandle") ∧ Cond.instantiable q.1.cls q.2 ∈ tables_1 ∧ Cond.privateMethod q.1 ∈ tables_1 ∧ Cond.instanceMethod q.1 ∈ tables_1
theorem lw_p0 : lw_okq (⟨"BlockWorld", "set", "(II)V"⟩, 17) := ⟨⟨by decide +kernel, by decide +kernel⟩, List.mem_of_getElem? (i := 4) (by decide +kernel), List.mem_of_getElem? (i := 75) (by decide +kernel), List.mem_of_getElem? (i := 76) (by decide +kernel)⟩
theorem lw_p1 : lw_okq (⟨"BlockWorld", "changeRoof", "(I)V"⟩, 17) := ⟨⟨by decide +kernel, by decide +kernel⟩, List.mem_of_getElem? (i := 4) (by decide +kernel), List.mem_of_getElem? (i := 82) (by decide +kernel), List.mem_of_getElem? (i := 83) (by decide +kernel)⟩
theorem lw_p2 : lw_okq (⟨"BlockWorld", "renew", "(II)V"⟩, 17) := ⟨⟨by decide +kernel, by decide +kernel⟩, List.mem_of_getElem? (i := 4) (by decide +kernel), List.mem_of_getElem? (i := 86) (by decide +kernel), List.mem_of_getElem? (i := 87) (by decide +kernel)⟩
theorem lw_p3 : lw_okq (⟨"BlockWorld", "drop", "(II)V"⟩, 17) := ⟨⟨by decide +kernel, by decide +kernel⟩, List.mem_of_getElem? (i := 4) (by decide +kernel), List.mem_of_getElem? (i := 90) (by decide +kernel), List.mem_of_getElem? (i := 91) (by decide +kernel)⟩
theorem lw_p4 : lw_okq (⟨"BlockWorld", "touch", "(II)V"⟩, 17) := ⟨⟨by decide +kernel, by decide +kernel⟩, List.mem_of_getElem? (i := 4) (by decide +kernel), List.mem_of_getElem? (i := 94) (by decide +kernel), List.mem_of_getElem? (i := 95) (by decide +kernel)⟩
theorem lw_p5 : lw_okq (⟨"BlockWorld", "notice", "(I)V"⟩, 17) := ⟨⟨by decide +kernel, by decide +kernel⟩, List.mem_of_getElem? (i := 4) (by decide +kernel), List.mem_of_getElem? (i := 101) (by decide +kernel), List.mem_of_getElem? (i := 102) (by decide +kernel)⟩
theorem lw_p6 : lw_okq (⟨"BlockWorld", "unspread", "(I)V"⟩, 17) := ⟨⟨by decide +kernel, by decide +kernel⟩, List.mem_of_getElem? (i := 4) (by decide +kernel), List.mem_of_getElem? (i := 105) (by decide +kernel), List.mem_of_getElem? (i := 106) (by decide +kernel)⟩
theorem lw_p7 : lw_okq (⟨"BlockWorld", "raise", "(II)V"⟩, 17) := ⟨⟨by decide +kernel, by decide +kernel⟩, List.mem_of_getElem? (i := 4) (by decide +kernel), List.mem_of_getElem? (i := 109) (by decide +kernel), List.mem_of_getElem? (i := 110) (by decide +kernel)⟩
theorem lw_p8 : lw_okq (⟨"BlockWorld", "passes", "(II)Z"⟩, 17) := ⟨⟨by decide +kernel, by decide +kernel⟩, List.mem_of_getElem? (i := 4) (by decide +kernel), List.mem_of_getElem? (i := 113) (by decide +kernel), List.mem_of_getElem? (i := 114) (by decide +kernel)⟩
theorem lw_p9 : lw_okq (⟨"BlockWorld", "begins", "(II)I"⟩, 17) := ⟨⟨by decide +kernel, by decide +kernel⟩, List.mem_of_getElem? (i := 4) (by decide +kernel), List.mem_of_getElem? (i := 117) (by decide +kernel), List.mem_of_getElem? (i := 118) (by decide +kernel)⟩
theorem lw_p10 : lw_okq (⟨"BlockWorld", "shines", "(I)I"⟩, 17) := ⟨⟨by decide +kernel, by decide +kernel⟩, List.mem_of_getElem? (i := 4) (by decide +kernel), List.mem_of_getElem? (i := 121) (by decide +kernel), List.mem_of_getElem? (i := 122) (by decide +kernel)⟩
theorem lw_p11 : lw_okq (⟨"BlockWorld", "fedByMakers", "(I)Z"⟩, 17) := ⟨⟨by decide +kernel, by decide +kernel⟩, List.mem_of_getElem? (i := 4) (by decide +kernel), List.mem_of_getElem? (i := 125) (by decide +kernel), List.mem_of_getElem? (i := 126) (by decide +kernel)⟩
theorem lw_p12 : lw_okq (⟨"BlockWorld", "feeds", "(II)Z"⟩, 17) := ⟨⟨by decide +kernel, by decide +kernel⟩, List.mem_of_getElem? (i := 4) (by decide +kernel), List.mem_of_getElem? (i := 129) (by decide +kernel), List.mem_of_getElem? (i := 130) (by decide +kernel)⟩
theorem lw_p13 : lw_okq (⟨"BlockWorld", "spread", "(I)V"⟩, 17) := ⟨⟨by decide +kernel, by decide +kernel⟩, List.mem_of_getElem? (i := 4) (by decide +kernel), List.mem_of_getElem? (i := 133) (by decide +kernel), List.mem_of_getElem? (i := 134) (by decide +kernel)⟩
theorem lw_p14 : lw_okq (⟨"BlockWorld", "give", "(II)V"⟩, 17) := ⟨⟨by decide +kernel, by decide +kernel⟩, List.mem_of_getElem? (i := 4) (by decide +kernel), List.mem_of_getElem? (i := 137) (by decide +kernel), List.mem_of_getElem? (i := 138) (by decide +kernel)⟩
theorem lw_p15 : lw_okq (⟨"BlockWorld", "feedAround", "(I)V"⟩, 17) := ⟨⟨by decide +kernel, by decide +kernel⟩, List.mem_of_getElem? (i := 4) (by decide +kernel), List.mem_of_getElem? (i := 141) (by decide +kernel), List.mem_of_getElem? (i := 142) (by decide +kernel)⟩
def lw_privs_1 : List (MethodName × Nat) := [(⟨"BlockWorld", "set", "(II)V"⟩, 17), (⟨"BlockWorld", "changeRoof", "(I)V"⟩, 17), (⟨"BlockWorld", "renew", "(II)V"⟩, 17), (⟨"BlockWorld", "drop", "(II)V"⟩, 17), (⟨"BlockWorld", "touch", "(II)V"⟩, 17), (⟨"BlockWorld", "notice", "(I)V"⟩, 17), (⟨"BlockWorld", "unspread", "(I)V"⟩, 17), (⟨"BlockWorld", "raise", "(II)V"⟩, 17), (⟨"BlockWorld", "passes", "(II)Z"⟩, 17), (⟨"BlockWorld", "begins", "(II)I"⟩, 17), (⟨"BlockWorld", "shines", "(I)I"⟩, 17), (⟨"BlockWorld", "fedByMakers", "(I)Z"⟩, 17), (⟨"BlockWorld", "feeds", "(II)Z"⟩, 17), (⟨"BlockWorld", "spread", "(I)V"⟩, 17), (⟨"BlockWorld", "give", "(II)V"⟩, 17), (⟨"BlockWorld", "feedAround", "(I)V"⟩, 17)]
theorem lw_r1 : ∀ q ∈ lw_privs_1, lw_okq q := List.forall_mem_cons.mpr ⟨lw_p0, List.forall_mem_cons.mpr ⟨lw_p1, List.forall_mem_cons.mpr ⟨lw_p2, List.forall_mem_cons.mpr ⟨lw_p3, List.forall_mem_cons.mpr ⟨lw_p4, List.forall_mem_cons.mpr ⟨lw_p5, List.forall_mem_cons.mpr ⟨lw_p6, List.forall_mem_cons.mpr ⟨lw_p7, List.forall_mem_cons.mpr ⟨lw_p8, List.forall_mem_cons.mpr ⟨lw_p9, List.forall_mem_cons.mpr ⟨lw_p10, List.forall_mem_cons.mpr ⟨lw_p11, List.forall_mem_cons.mpr ⟨lw_p12, List.forall_mem_cons.mpr ⟨lw_p13, List.forall_mem_cons.mpr ⟨lw_p14, List.forall_mem_cons.mpr ⟨lw_p15, fun _ h => absurd h List.not_mem_nil⟩⟩⟩⟩⟩⟩⟩⟩⟩⟩⟩⟩⟩⟩⟩⟩
theorem lw_p16 : lw_okq (⟨"BlockWorld", "lampsLook", "()V"⟩, 17) := ⟨⟨by decide +kernel, by decide +kernel⟩, List.mem_of_getElem? (i := 4) (by decide +kernel), List.mem_of_getElem? (i := 145) (by decide +kernel), List.mem_of_getElem? (i := 146) (by decide +kernel)⟩
theorem lw_p17 : lw_okq (⟨"BlockWorld", "isFed", "(I)Z"⟩, 17) := ⟨⟨by decide +kernel, by decide +kernel⟩, List.mem_of_getElem? (i := 4) (by decide +kernel), List.mem_of_getElem? (i := 149) (by decide +kernel), List.mem_of_getElem? (i := 150) (by decide +kernel)⟩
theorem lw_p18 : lw_okq (⟨"BlockWorld", "invert", "()I"⟩, 17) := ⟨⟨by decide +kernel, by decide +kernel⟩, List.mem_of_getElem? (i := 4) (by decide +kernel), List.mem_of_getElem? (i := 184) (by decide +kernel), List.mem_of_getElem? (i := 185) (by decide +kernel)⟩
theorem lw_p19 : lw_okq (⟨"BlockWorld", "due", "(I)Z"⟩, 17) := ⟨⟨by decide +kernel, by decide +kernel⟩, List.mem_of_getElem? (i := 4) (by decide +kernel), List.mem_of_getElem? (i := 188) (by decide +kernel), List.mem_of_getElem? (i := 189) (by decide +kernel)⟩
theorem lw_p20 : lw_okq (⟨"BlockWorld", "fall", "()I"⟩, 17) := ⟨⟨by decide +kernel, by decide +kernel⟩, List.mem_of_getElem? (i := 4) (by decide +kernel), List.mem_of_getElem? (i := 192) (by decide +kernel), List.mem_of_getElem? (i := 193) (by decide +kernel)⟩
theorem lw_p21 : lw_okq (⟨"BlockWorld", "grow", "()V"⟩, 17) := ⟨⟨by decide +kernel, by decide +kernel⟩, List.mem_of_getElem? (i := 4) (by decide +kernel), List.mem_of_getElem? (i := 196) (by decide +kernel), List.mem_of_getElem? (i := 197) (by decide +kernel)⟩
theorem lw_p22 : lw_okq (⟨"BlockWorld", "stands", "(I)Z"⟩, 17) := ⟨⟨by decide +kernel, by decide +kernel⟩, List.mem_of_getElem? (i := 4) (by decide +kernel), List.mem_of_getElem? (i := 200) (by decide +kernel), List.mem_of_getElem? (i := 201) (by decide +kernel)⟩
theorem lw_p23 : lw_okq (⟨"BlockWorld", "belongs", "(II)Z"⟩, 17) := ⟨⟨by decide +kernel, by decide +kernel⟩, List.mem_of_getElem? (i := 4) (by decide +kernel), List.mem_of_getElem? (i := 220) (by decide +kernel), List.mem_of_getElem? (i := 221) (by decide +kernel)⟩
theorem lw_p24 : lw_okq (⟨"BlockWorldModel", "isCell", "(III)Z"⟩, 14) := ⟨⟨by decide +kernel, by decide +kernel⟩, List.mem_of_getElem? (i := 224) (by decide +kernel), List.mem_of_getElem? (i := 277) (by decide +kernel), List.mem_of_getElem? (i := 278) (by decide +kernel)⟩
theorem lw_p25 : lw_okq (⟨"BlockWorldModel", "among", "(II)Z"⟩, 14) := ⟨⟨by decide +kernel, by decide +kernel⟩, List.mem_of_getElem? (i := 224) (by decide +kernel), List.mem_of_getElem? (i := 281) (by decide +kernel), List.mem_of_getElem? (i := 282) (by decide +kernel)⟩
theorem lw_p26 : lw_okq (⟨"BlockWorldModel", "number", "(III)I"⟩, 14) := ⟨⟨by decide +kernel, by decide +kernel⟩, List.mem_of_getElem? (i := 224) (by decide +kernel), List.mem_of_getElem? (i := 285) (by decide +kernel), List.mem_of_getElem? (i := 286) (by decide +kernel)⟩
theorem lw_p27 : lw_okq (⟨"BlockWorldModel", "become", "(II)V"⟩, 14) := ⟨⟨by decide +kernel, by decide +kernel⟩, List.mem_of_getElem? (i := 224) (by decide +kernel), List.mem_of_getElem? (i := 289) (by decide +kernel), List.mem_of_getElem? (i := 290) (by decide +kernel)⟩
theorem lw_p28 : lw_okq (⟨"BlockWorldModel", "findLight", "()V"⟩, 14) := ⟨⟨by decide +kernel, by decide +kernel⟩, List.mem_of_getElem? (i := 224) (by decide +kernel), List.mem_of_getElem? (i := 305) (by decide +kernel), List.mem_of_getElem? (i := 306) (by decide +kernel)⟩
theorem lw_p29 : lw_okq (⟨"BlockWorldModel", "findPower", "()V"⟩, 14) := ⟨⟨by decide +kernel, by decide +kernel⟩, List.mem_of_getElem? (i := 224) (by decide +kernel), List.mem_of_getElem? (i := 309) (by decide +kernel), List.mem_of_getElem? (i := 310) (by decide +kernel)⟩
theorem lw_p30 : lw_okq (⟨"BlockWorldModel", "driven", "(I)Z"⟩, 14) := ⟨⟨by decide +kernel, by decide +kernel⟩, List.mem_of_getElem? (i := 224) (by decide +kernel), List.mem_of_getElem? (i := 313) (by decide +kernel), List.mem_of_getElem? (i := 314) (by decide +kernel)⟩
theorem lw_p31 : lw_okq (⟨"BlockWorldModel", "neighbour", "(II)I"⟩, 14) := ⟨⟨by decide +kernel, by decide +kernel⟩, List.mem_of_getElem? (i := 224) (by decide +kernel), List.mem_of_getElem? (i := 317) (by decide +kernel), List.mem_of_getElem? (i := 318) (by decide +kernel)⟩
def lw_privs_2 : List (MethodName × Nat) := [(⟨"BlockWorld", "lampsLook", "()V"⟩, 17), (⟨"BlockWorld", "isFed", "(I)Z"⟩, 17), (⟨"BlockWorld", "invert", "()I"⟩, 17), (⟨"BlockWorld", "due", "(I)Z"⟩, 17), (⟨"BlockWorld", "fall", "()I"⟩, 17), (⟨"BlockWorld", "grow", "()V"⟩, 17), (⟨"BlockWorld", "stands", "(I)Z"⟩, 17), (⟨"BlockWorld", "belongs", "(II)Z"⟩, 17), (⟨"BlockWorldModel", "isCell", "(III)Z"⟩, 14), (⟨"BlockWorldModel", "among", "(II)Z"⟩, 14), (⟨"BlockWorldModel", "number", "(III)I"⟩, 14), (⟨"BlockWorldModel", "become", "(II)V"⟩, 14), (⟨"BlockWorldModel", "findLight", "()V"⟩, 14), (⟨"BlockWorldModel", "findPower", "()V"⟩, 14), (⟨"BlockWorldModel", "driven", "(I)Z"⟩, 14), (⟨"BlockWorldModel", "neighbour", "(II)I"⟩, 14)]
theorem lw_r2 : ∀ q ∈ lw_privs_2, lw_okq q := List.forall_mem_cons.mpr ⟨lw_p16, List.forall_mem_cons.mpr ⟨lw_p17, List.forall_mem_cons.mpr ⟨lw_p18, List.forall_mem_cons.mpr ⟨lw_p19, List.forall_mem_cons.mpr ⟨lw_p20, List.forall_mem_cons.mpr ⟨lw_p21, List.forall_mem_cons.mpr ⟨lw_p22, List.forall_mem_cons.mpr ⟨lw_p23, List.forall_mem_cons.mpr ⟨lw_p24, List.forall_mem_cons.mpr ⟨lw_p25, List.forall_mem_cons.mpr ⟨lw_p26, List.forall_mem_cons.mpr ⟨lw_p27, List.forall_mem_cons.mpr ⟨lw_p28, List.forall_mem_cons.mpr ⟨lw_p29, List.forall_mem_cons.mpr ⟨lw_p30, List.forall_mem_cons.mpr ⟨lw_p31, fun _ h => absurd h List.not_mem_nil⟩⟩⟩⟩⟩⟩⟩⟩⟩⟩⟩⟩⟩⟩⟩⟩
theorem lw_p32 : lw_okq (⟨"BlockWorldModel", "around", "(II)I"⟩, 14) := ⟨⟨by decide +kernel, by decide +kernel⟩, List.mem_of_getElem? (i := 224) (by decide +kernel), List.mem_of_getElem? (i := 321) (by decide +kernel), List.mem_of_getElem? (i := 322) (by decide +kernel)⟩
theorem lw_p33 : lw_okq (⟨"BlockWorldModel", "feeds", "(I)Z"⟩, 14) := ⟨⟨by decide +kernel, by decide +kernel⟩, List.mem_of_getElem? (i := 224) (by decide +kernel), List.mem_of_getElem? (i := 325) (by decide +kernel), List.mem_of_getElem? (i := 326) (by decide +kernel)⟩
theorem lw_p34 : lw_okq (⟨"BlockWorldModel", "spread", "(I)V"⟩, 14) := ⟨⟨by decide +kernel, by decide +kernel⟩, List.mem_of_getElem? (i := 224) (by decide +kernel), List.mem_of_getElem? (i := 329) (by decide +kernel), List.mem_of_getElem? (i := 330) (by decide +kernel)⟩
theorem lw_p35 : lw_okq (⟨"BlockWorldModel", "opaque", "(I)Z"⟩, 14) := ⟨⟨by decide +kernel, by decide +kernel⟩, List.mem_of_getElem? (i := 224) (by decide +kernel), List.mem_of_getElem? (i := 333) (by decide +kernel), List.mem_of_getElem? (i := 334) (by decide +kernel)⟩
theorem lw_p36 : lw_okq (⟨"BlockWorldModel", "findSky", "()V"⟩, 14) := ⟨⟨by decide +kernel, by decide +kernel⟩, List.mem_of_getElem? (i := 224) (by decide +kernel), List.mem_of_getElem? (i := 341) (by decide +kernel), List.mem_of_getElem? (i := 342) (by decide +kernel)⟩
theorem lw_p37 : lw_okq (⟨"BlockWorldModel", "invert", "()I"⟩, 14) := ⟨⟨by decide +kernel, by decide +kernel⟩, List.mem_of_getElem? (i := 224) (by decide +kernel), List.mem_of_getElem? (i := 357) (by decide +kernel), List.mem_of_getElem? (i := 358) (by decide +kernel)⟩
theorem lw_p38 : lw_okq (⟨"BlockWorldModel", "quiet", "(I)Z"⟩, 14) := ⟨⟨by decide +kernel, by decide +kernel⟩, List.mem_of_getElem? (i := 224) (by decide +kernel), List.mem_of_getElem? (i := 361) (by decide +kernel), List.mem_of_getElem? (i := 362) (by decide +kernel)⟩
theorem lw_p39 : lw_okq (⟨"BlockWorldModel", "fall", "()I"⟩, 14) := ⟨⟨by decide +kernel, by decide +kernel⟩, List.mem_of_getElem? (i := 224) (by decide +kernel), List.mem_of_getElem? (i := 365) (by decide +kernel), List.mem_of_getElem? (i := 366) (by decide +kernel)⟩
theorem lw_p40 : lw_okq (⟨"BlockWorldModel", "grow", "()I"⟩, 14) := ⟨⟨by decide +kernel, by decide +kernel⟩, List.mem_of_getElem? (i := 224) (by decide +kernel), List.mem_of_getElem? (i := 369) (by decide +kernel), List.mem_of_getElem? (i := 370) (by decide +kernel)⟩
theorem lw_p41 : lw_okq (⟨"BlockWorldModel", "touches", "(I)Z"⟩, 14) := ⟨⟨by decide +kernel, by decide +kernel⟩, List.mem_of_getElem? (i := 224) (by decide +kernel), List.mem_of_getElem? (i := 389) (by decide +kernel), List.mem_of_getElem? (i := 390) (by decide +kernel)⟩
def lw_privs_3 : List (MethodName × Nat) := [(⟨"BlockWorldModel", "around", "(II)I"⟩, 14), (⟨"BlockWorldModel", "feeds", "(I)Z"⟩, 14), (⟨"BlockWorldModel", "spread", "(I)V"⟩, 14), (⟨"BlockWorldModel", "opaque", "(I)Z"⟩, 14), (⟨"BlockWorldModel", "findSky", "()V"⟩, 14), (⟨"BlockWorldModel", "invert", "()I"⟩, 14), (⟨"BlockWorldModel", "quiet", "(I)Z"⟩, 14), (⟨"BlockWorldModel", "fall", "()I"⟩, 14), (⟨"BlockWorldModel", "grow", "()I"⟩, 14), (⟨"BlockWorldModel", "touches", "(I)Z"⟩, 14)]
theorem lw_r3 : ∀ q ∈ lw_privs_3, lw_okq q := List.forall_mem_cons.mpr ⟨lw_p32, List.forall_mem_cons.mpr ⟨lw_p33, List.forall_mem_cons.mpr ⟨lw_p34, List.forall_mem_cons.mpr ⟨lw_p35, List.forall_mem_cons.mpr ⟨lw_p36, List.forall_mem_cons.mpr ⟨lw_p37, List.forall_mem_cons.mpr ⟨lw_p38, List.forall_mem_cons.mpr ⟨lw_p39, List.forall_mem_cons.mpr ⟨lw_p40, List.forall_mem_cons.mpr ⟨lw_p41, fun _ h => absurd h List.not_mem_nil⟩⟩⟩⟩⟩⟩⟩⟩⟩⟩
def lw_privs : List (MethodName × Nat) := lw_privs_1 ++ (lw_privs_2 ++ (lw_privs_3))
def lw_tbl : List Cond := k2_sels lw_privs ++ tables_1
theorem lw_privs_ok : ∀ q ∈ lw_privs, lw_okq q := by
  show ∀ q ∈ lw_privs_1 ++ (lw_privs_2 ++ (lw_privs_3)), lw_okq q
  exact List.forall_mem_append.mpr ⟨lw_r1, List.forall_mem_append.mpr ⟨lw_r2, lw_r3⟩⟩
-- ===== end of PART A; then your names; then what follows =====
end
section
/-! THE ABSTRACT MACHINE: one object and its arrays as a world of Ints (field number, index); weakest preconditions -/
abbrev jm_S : Type := Nat → Int → Int
abbrev jm_V : Type := Int ⊕ Option Nat
abbrev jm_L : Type := List (Option jm_V)
/-- a field: its type (an array's: of its elements), its length (0: no array), the range of its values -/
abbrev jm_F : Type := FieldType × Nat × Int × Int
/-- an instruction: its pc, itself, the next pc, its targets (of a switch: the default first) -/
abbrev jm_I : Type := Nat × Instr × Nat × List Nat
/-- a callee: static, how many arguments, void, what it asks, what it gives -/
abbrev jm_K : Type := Bool × Nat × Bool × (List Int → jm_S → Prop) × (List Int → jm_S → Int → jm_S → Prop)
def jm_up (σ : jm_S) (k : Nat) (i v : Int) : jm_S := fun k' => if k' = k then (fun i' => if i' = i then v else σ k i') else σ k'
def jm_okS (D : Nat → jm_F) (σ : jm_S) : Prop := ∀ (k : Nat) (i : Int), 0 ≤ i → (i < ((D k).2.1 : Int) ∨ i = 0) → (D k).2.2.1 ≤ σ k i ∧ σ k i ≤ (D k).2.2.2
def jm_at : List jm_I → Nat → Option jm_I
  | [], _ => none
  | e :: c, pc => bif Nat.beq e.1 pc then some e else jm_at c pc
def jm_look : List (Nat × jm_K) → Nat → Option jm_K
  | [], _ => none
  | e :: c, i => bif Nat.beq e.1 i then some e.2 else jm_look c i
def jm_mem : List Nat → Nat → Bool
  | [], _ => false
  | a :: l, x => bif Nat.beq a x then true else jm_mem l x
def jm_pop : Nat → List jm_V → List Int → Option (List Int × List jm_V)
  | 0, st, acc => some (acc, st)
  | n + 1, .inl x :: st, acc => jm_pop n st (x :: acc)
  | _ + 1, _, _ => none
def jm_b1 (st : List jm_V) (k : Int → List jm_V → Prop) : Prop := match st with
  | .inl x :: r => k x r
  | _ => False
def jm_b2 (st : List jm_V) (k : Int → Int → List jm_V → Prop) : Prop := match st with
  | .inl y :: .inl x :: r => k x y r
  | _ => False
def jm_ob (st : List jm_V) (k : List jm_V → Prop) : Prop := match st with
  | .inr none :: r => k r
  | _ => False
def jm_ix (st : List jm_V) (k : Nat → Int → List jm_V → Prop) : Prop := match st with
  | .inl i :: .inr (some a) :: r => k a i r
  | _ => False
def jm_li (ls : jm_L) (k : Nat) (f : Int → Prop) : Prop := match ls.getD k none with
  | some (.inl x) => f x
  | _ => False
def jm_lr (ls : jm_L) (k : Nat) (f : Option Nat → Prop) : Prop := match ls.getD k none with
  | some (.inr x) => f x
  | _ => False
def jm_sw (x : Int) (f : Nat → Prop) : Int → List Nat → Prop
  | _, [] => True
  | lo, t :: ts => (x = lo → f t) ∧ jm_sw x f (lo + 1) ts
def jm_fd (fi : Nat → Option Nat) (D : Nat → jm_F) (i : Nat) (f : Nat → FieldType → Nat → Int → Int → Prop) : Prop := match fi i with
  | some k => (match D k with
    | (ty, n, lo, hi) => f k ty n lo hi)
  | none => False
def jm_t1 (ts : List Nat) (f : Nat → Prop) : Prop := match ts with
  | t :: _ => f t
  | [] => False
def jm_bz (ty : FieldType) : Bool := match ty with
  | .byte => true
  | .boolean => true
  | _ => false
def jm_bi (ty : FieldType) : Bool := match ty with
  | .int => true
  | _ => false
def jm_bs (ty : FieldType) : Bool := match ty with
  | .short => true
  | _ => false
def jm_ld (D : Nat → jm_F) (tk : FieldType → Bool) (N : jm_L → List jm_V → jm_S → Prop) (ls : jm_L) (st : List jm_V) (σ : jm_S) : Prop :=
  jm_ix st fun a i r => match D a with
    | (ty, n, lo, hi) => bif tk ty then (0 ≤ i ∧ i < (n : Int)) ∧ ∀ v : Int, v = σ a i → lo ≤ v → v ≤ hi → N ls (.inl v :: r) σ else False
def jm_sto (D : Nat → jm_F) (tk : FieldType → Bool) (N : jm_L → List jm_V → jm_S → Prop) (ls : jm_L) (st : List jm_V) (σ : jm_S) : Prop :=
  jm_b1 st fun v r0 => jm_ix r0 fun a i r => match D a with
    | (ty, n, lo, hi) => bif tk ty then (0 ≤ i ∧ i < (n : Int)) ∧ (lo ≤ v ∧ v ≤ hi) ∧ N ls r (jm_up σ a i v) else False
def jm_call (D : Nat → jm_F) (void : Bool) (pre : List Int → jm_S → Prop) (post : List Int → jm_S → Int → jm_S → Prop) (N : jm_L → List jm_V → jm_S → Prop) (ls : jm_L) (as : List Int) (r : List jm_V) (σ : jm_S) : Prop :=
  bif Nat.ble r.length 8 then pre as σ ∧ (bif void then ∀ (x : Int) (σ' : jm_S), jm_okS D σ' → post as σ x σ' → N ls r σ' else ∀ (x : Int) (σ' : jm_S), jm_okS D σ' → post as σ x σ' → N ls (.inl x :: r) σ') else False
def jm_st1 (N : jm_L → List jm_V → jm_S → Prop) (ls : jm_L) (st : List jm_V) (σ : jm_S) (k : Nat) : Prop :=
  jm_b1 st fun x r => bif Nat.blt k ls.length then N (ls.set k (some (.inl x))) r σ else False
def jm_wp (D : Nat → jm_F) (fi : Nat → Option Nat) (cal : Nat → Option jm_K) (z : Option Bool) (Q : Int → jm_S → Prop) (N : jm_L → List jm_V → jm_S → Prop) (J : Nat → jm_L → List jm_V → jm_S → Prop) (ins : Instr) (ts : List Nat) (ls : jm_L) (st : List jm_V) (σ : jm_S) : Prop :=
  match ins with
  | .aload_n k => jm_lr ls k.val fun x => N ls (.inr x :: st) σ
  | .aload k => jm_lr ls k fun x => N ls (.inr x :: st) σ
  | .iload_n k => jm_li ls k.val fun x => N ls (.inl x :: st) σ
  | .iload k => jm_li ls k fun x => N ls (.inl x :: st) σ
  | .istore_n k => jm_st1 N ls st σ k.val
  | .istore k => jm_st1 N ls st σ k
  | .iinc k n => jm_li ls k fun x => bif Nat.blt k ls.length then (-2147483648 ≤ x + n ∧ x + n ≤ 2147483647) ∧ N (ls.set k (some (.inl (x + n)))) st σ else False
  | .iconst n => N ls (.inl n :: st) σ
  | .bipush n => N ls (.inl n :: st) σ
  | .sipush n => N ls (.inl n :: st) σ
  | .iadd => jm_b2 st fun x y r => (-2147483648 ≤ x + y ∧ x + y ≤ 2147483647) ∧ N ls (.inl (x + y) :: r) σ
  | .isub => jm_b2 st fun x y r => (-2147483648 ≤ x - y ∧ x - y ≤ 2147483647) ∧ N ls (.inl (x - y) :: r) σ
  | .imul => jm_b2 st fun x y r => (-2147483648 ≤ x * y ∧ x * y ≤ 2147483647) ∧ N ls (.inl (x * y) :: r) σ
  | .idiv => jm_b2 st fun x y r => (0 ≤ x ∧ 0 < y) ∧ N ls (.inl (x / y) :: r) σ
  | .irem => jm_b2 st fun x y r => (0 ≤ x ∧ 0 < y) ∧ N ls (.inl (x % y) :: r) σ
  | .iand => jm_b2 st fun x y r => if y = 7 then N ls (.inl (x % 8) :: r) σ else if y = 63 then N ls (.inl (x % 64) :: r) σ else if y = -8 then N ls (.inl (x - x % 8) :: r) σ else False
  | .ior => jm_b2 st fun x y r => (0 ≤ x ∧ x ≤ 1 ∧ 0 ≤ y ∧ y ≤ 1) ∧ N ls (.inl (if x = 0 then y else 1) :: r) σ
  | .ixor => jm_b2 st fun x y r => if y = 1 then (0 ≤ x ∧ x ≤ 7) ∧ N ls (.inl (x + 1 - 2 * (x % 2)) :: r) σ else False
  | .ishr => jm_b2 st fun x y r => if y = 3 then N ls (.inl (x / 8) :: r) σ else if y = 6 then N ls (.inl (x / 64) :: r) σ else False
  | .i2b => jm_b1 st fun x r => (-128 ≤ x ∧ x ≤ 127) ∧ N ls (.inl x :: r) σ
  | .i2s => jm_b1 st fun x r => (-32768 ≤ x ∧ x ≤ 32767) ∧ N ls (.inl x :: r) σ
  | .dup => (match st with
    | a :: r => N ls (a :: a :: r) σ
    | _ => False)
  | .dup2 => (match st with
    | a :: b :: r => N ls (a :: b :: a :: b :: r) σ
    | _ => False)
  | .dup_x1 => (match st with
    | a :: b :: r => N ls (a :: b :: a :: r) σ
    | _ => False)
  | .goto _ => jm_t1 ts fun t => J t ls st σ
  | .ifCond cd _ => jm_t1 ts fun t => jm_b1 st fun x r => (match cd with
    | .eq => (x = 0 → J t ls r σ) ∧ (¬ x = 0 → N ls r σ)
    | .ne => (¬ x = 0 → J t ls r σ) ∧ (x = 0 → N ls r σ)
    | .lt => (x < 0 → J t ls r σ) ∧ (0 ≤ x → N ls r σ)
    | .ge => (0 ≤ x → J t ls r σ) ∧ (x < 0 → N ls r σ)
    | .gt => (0 < x → J t ls r σ) ∧ (x ≤ 0 → N ls r σ)
    | .le => (x ≤ 0 → J t ls r σ) ∧ (0 < x → N ls r σ))
  | .if_icmp cd _ => jm_t1 ts fun t => jm_b2 st fun x y r => (match cd with
    | .eq => (x = y → J t ls r σ) ∧ (¬ x = y → N ls r σ)
    | .ne => (¬ x = y → J t ls r σ) ∧ (x = y → N ls r σ)
    | .lt => (x < y → J t ls r σ) ∧ (y ≤ x → N ls r σ)
    | .ge => (y ≤ x → J t ls r σ) ∧ (x < y → N ls r σ)
    | .gt => (y < x → J t ls r σ) ∧ (x ≤ y → N ls r σ)
    | .le => (x ≤ y → J t ls r σ) ∧ (y < x → N ls r σ))
  | .tableswitch _ lo hi _ => (match ts with
    | t :: us => jm_b1 st fun x r => jm_sw x (fun t => J t ls r σ) lo us ∧ ((x < lo ∨ hi < x) → J t ls r σ)
    | [] => False)
  | .getfield i => jm_ob st fun r => jm_fd fi D i fun k _ n lo hi => bif Nat.beq n 0 then ∀ v : Int, v = σ k 0 → lo ≤ v → v ≤ hi → N ls (.inl v :: r) σ else N ls (.inr (some k) :: r) σ
  | .putfield i => jm_b1 st fun v r0 => jm_ob r0 fun r => jm_fd fi D i fun k _ n lo hi => bif Nat.beq n 0 then (lo ≤ v ∧ v ≤ hi) ∧ N ls r (jm_up σ k 0 v) else False
  | .baload => jm_ld D jm_bz N ls st σ
  | .iaload => jm_ld D jm_bi N ls st σ
  | .saload => jm_ld D jm_bs N ls st σ
  | .bastore => jm_sto D jm_bz N ls st σ
  | .iastore => jm_sto D jm_bi N ls st σ
  | .sastore => jm_sto D jm_bs N ls st σ
  | .invokestatic i => (match cal i with
    | some (true, n, void, pre, post) => (match jm_pop n st [] with
      | some (as, r) => jm_call D void pre post N ls as r σ
      | none => False)
    | _ => False)
  | .invokevirtual i => (match cal i with
    | some (false, n, void, pre, post) => (match jm_pop n st [] with
      | some (as, r0) => jm_ob r0 fun r => jm_call D void pre post N ls as r σ
      | none => False)
    | _ => False)
  | .ireturn => (match st with
    | [.inl v] => (match z with
      | some true => (0 ≤ v ∧ v ≤ 1) ∧ Q v σ
      | some false => Q v σ
      | none => False)
    | _ => False)
  | .return_ => (match st with
    | [] => (match z with
      | none => Q 0 σ
      | _ => False)
    | _ => False)
  | _ => False
theorem jm_b1_mono {st : List jm_V} {k k' : Int → List jm_V → Prop} (h : ∀ x r, k x r → k' x r) : jm_b1 st k → jm_b1 st k' := by
  unfold jm_b1; split
  · exact h _ _
  · exact id
theorem jm_b2_mono {st : List jm_V} {k k' : Int → Int → List jm_V → Prop} (h : ∀ x y r, k x y r → k' x y r) : jm_b2 st k → jm_b2 st k' := by
  unfold jm_b2; split
  · exact h _ _ _
  · exact id
theorem jm_ob_mono {st : List jm_V} {k k' : List jm_V → Prop} (h : ∀ r, k r → k' r) : jm_ob st k → jm_ob st k' := by
  unfold jm_ob; split
  · exact h _
  · exact id
theorem jm_ix_mono {st : List jm_V} {k k' : Nat → Int → List jm_V → Prop} (h : ∀ a i r, k a i r → k' a i r) : jm_ix st k → jm_ix st k' := by
  unfold jm_ix; split
  · exact h _ _ _
  · exact id
theorem jm_li_mono {ls : jm_L} {k : Nat} {f f' : Int → Prop} (h : ∀ x, f x → f' x) : jm_li ls k f → jm_li ls k f' := by
  unfold jm_li; split
  · exact h _
  · exact id
theorem jm_lr_mono {ls : jm_L} {k : Nat} {f f' : Option Nat → Prop} (h : ∀ x, f x → f' x) : jm_lr ls k f → jm_lr ls k f' := by
  unfold jm_lr; split
  · exact h _
  · exact id
theorem jm_sw_mono {x : Int} {f f' : Nat → Prop} (h : ∀ t, f t → f' t) : ∀ (ts : List Nat) (lo : Int), jm_sw x f lo ts → jm_sw x f' lo ts
  | [], _, _ => trivial
  | t :: ts, lo, q => ⟨fun e => h t (q.1 e), jm_sw_mono h ts (lo + 1) q.2⟩
theorem jm_t1_mono {ts : List Nat} {f f' : Nat → Prop} (h : ∀ t, f t → f' t) : jm_t1 ts f → jm_t1 ts f' := by
  unfold jm_t1; split
  · exact h _
  · exact id
theorem jm_fd_mono {fi : Nat → Option Nat} {D : Nat → jm_F} {i : Nat} {f f' : Nat → FieldType → Nat → Int → Int → Prop} (h : ∀ k ty n lo hi, f k ty n lo hi → f' k ty n lo hi) : jm_fd fi D i f → jm_fd fi D i f' := by
  unfold jm_fd; split
  · exact h _ _ _ _ _
  · exact id
theorem jm_bif_mono {b : Bool} {p q p' q' : Prop} (h : p → p') (g : q → q') : (bif b then p else q) → (bif b then p' else q') := by
  cases b
  · exact g
  · exact h
theorem jm_ld_mono {D : Nat → jm_F} {tk : FieldType → Bool} {N N' : jm_L → List jm_V → jm_S → Prop} (h : ∀ ls st σ, N ls st σ → N' ls st σ) {ls : jm_L} {st : List jm_V} {σ : jm_S} : jm_ld D tk N ls st σ → jm_ld D tk N' ls st σ :=
  jm_ix_mono fun a i r => jm_bif_mono (fun q => ⟨q.1, fun v e1 e2 e3 => h _ _ _ (q.2 v e1 e2 e3)⟩) id
theorem jm_sto_mono {D : Nat → jm_F} {tk : FieldType → Bool} {N N' : jm_L → List jm_V → jm_S → Prop} (h : ∀ ls st σ, N ls st σ → N' ls st σ) {ls : jm_L} {st : List jm_V} {σ : jm_S} : jm_sto D tk N ls st σ → jm_sto D tk N' ls st σ :=
  jm_b1_mono fun v r0 => jm_ix_mono fun a i r => jm_bif_mono (fun q => ⟨q.1, q.2.1, h _ _ _ q.2.2⟩) id
theorem jm_call_mono {D : Nat → jm_F} {void : Bool} {pre : List Int → jm_S → Prop} {post : List Int → jm_S → Int → jm_S → Prop} {N N' : jm_L → List jm_V → jm_S → Prop} (h : ∀ ls st σ, N ls st σ → N' ls st σ) {ls : jm_L} {as : List Int} {r : List jm_V} {σ : jm_S} : jm_call D void pre post N ls as r σ → jm_call D void pre post N' ls as r σ :=
  jm_bif_mono (fun q => ⟨q.1, jm_bif_mono (fun g x s' e1 e => h _ _ _ (g x s' e1 e)) (fun g x s' e1 e => h _ _ _ (g x s' e1 e)) q.2⟩) id
theorem jm_st1_mono {N N' : jm_L → List jm_V → jm_S → Prop} (h : ∀ ls st σ, N ls st σ → N' ls st σ) {ls : jm_L} {st : List jm_V} {σ : jm_S} {k : Nat} : jm_st1 N ls st σ k → jm_st1 N' ls st σ k :=
  jm_b1_mono fun x r => jm_bif_mono (h _ _ _) id
theorem jm_wp_mono {D : Nat → jm_F} {fi : Nat → Option Nat} {cal : Nat → Option jm_K} {z : Option Bool} {Q : Int → jm_S → Prop} {N N' : jm_L → List jm_V → jm_S → Prop} {J J' : Nat → jm_L → List jm_V → jm_S → Prop}
    (h : ∀ ls st σ, N ls st σ → N' ls st σ) (g : ∀ t ls st σ, J t ls st σ → J' t ls st σ) {ins : Instr} {ts : List Nat} {ls : jm_L} {st : List jm_V} {σ : jm_S} :
    jm_wp D fi cal z Q N J ins ts ls st σ → jm_wp D fi cal z Q N' J' ins ts ls st σ := by
  unfold jm_wp
  split
  · exact jm_lr_mono fun x => h _ _ _
  · exact jm_lr_mono fun x => h _ _ _
  · exact jm_li_mono fun x => h _ _ _
  · exact jm_li_mono fun x => h _ _ _
  · exact jm_st1_mono h
  · exact jm_st1_mono h
  · exact jm_li_mono fun x => jm_bif_mono (fun q => ⟨q.1, h _ _ _ q.2⟩) id
  · exact h _ _ _
  · exact h _ _ _
  · exact h _ _ _
  · exact jm_b2_mono fun x y r q => ⟨q.1, h _ _ _ q.2⟩
  · exact jm_b2_mono fun x y r q => ⟨q.1, h _ _ _ q.2⟩
  · exact jm_b2_mono fun x y r q => ⟨q.1, h _ _ _ q.2⟩
  · exact jm_b2_mono fun x y r q => ⟨q.1, h _ _ _ q.2⟩
  · exact jm_b2_mono fun x y r q => ⟨q.1, h _ _ _ q.2⟩
  · refine jm_b2_mono fun x y r => ?_
    split
    · exact h _ _ _
    · split
      · exact h _ _ _
      · split
        · exact h _ _ _
        · exact id
  · exact jm_b2_mono fun x y r q => ⟨q.1, h _ _ _ q.2⟩
  · refine jm_b2_mono fun x y r => ?_
    split
    · exact fun q => ⟨q.1, h _ _ _ q.2⟩
    · exact id
  · refine jm_b2_mono fun x y r => ?_
    split
    · exact h _ _ _
    · split
      · exact h _ _ _
      · exact id
  · exact jm_b1_mono fun x r q => ⟨q.1, h _ _ _ q.2⟩
  · exact jm_b1_mono fun x r q => ⟨q.1, h _ _ _ q.2⟩
  · split
    · exact h _ _ _
    · exact id
  · split
    · exact h _ _ _
    · exact id
  · split
    · exact h _ _ _
    · exact id
  · exact jm_t1_mono fun t => g _ _ _ _
  · refine jm_t1_mono fun t => jm_b1_mono fun x r => ?_
    split <;> exact fun q => ⟨fun e => g _ _ _ _ (q.1 e), fun e => h _ _ _ (q.2 e)⟩
  · refine jm_t1_mono fun t => jm_b2_mono fun x y r => ?_
    split <;> exact fun q => ⟨fun e => g _ _ _ _ (q.1 e), fun e => h _ _ _ (q.2 e)⟩
  · split
    · exact jm_b1_mono fun x r q => ⟨jm_sw_mono (fun t => g _ _ _ _) _ _ q.1, fun e => g _ _ _ _ (q.2 e)⟩
    · exact id
  · exact jm_ob_mono fun r => jm_fd_mono fun k ty n lo hi => jm_bif_mono (fun q v e1 e2 e3 => h _ _ _ (q v e1 e2 e3)) (h _ _ _)
  · exact jm_b1_mono fun v r0 => jm_ob_mono fun r => jm_fd_mono fun k ty n lo hi => jm_bif_mono (fun q => ⟨q.1, h _ _ _ q.2⟩) id
  · exact jm_ld_mono h
  · exact jm_ld_mono h
  · exact jm_ld_mono h
  · exact jm_sto_mono h
  · exact jm_sto_mono h
  · exact jm_sto_mono h
  · split
    · split
      · exact jm_call_mono h
      · exact id
    · exact id
  · split
    · split
      · exact jm_ob_mono fun r => jm_call_mono h
      · exact id
    · exact id
  · exact id
  · exact id
  · exact id
/-- the least fixed point: from this state the method comes to a return with Q -/
def jm_Ok (D : Nat → jm_F) (fi : Nat → Option Nat) (cal : Nat → Option jm_K) (code : List jm_I) (z : Option Bool) (Q : Int → jm_S → Prop) (pc : Nat) (ls : jm_L) (st : List jm_V) (σ : jm_S) : Prop :=
  ∀ J : Nat → jm_L → List jm_V → jm_S → Prop, (∀ (e : jm_I) (pc : Nat) (ls : jm_L) (st : List jm_V) (σ : jm_S), jm_at code pc = some e → jm_wp D fi cal z Q (J e.2.2.1) J e.2.1 e.2.2.2 ls st σ → J pc ls st σ) → J pc ls st σ
theorem jm_Ok.step {D : Nat → jm_F} {fi : Nat → Option Nat} {cal : Nat → Option jm_K} {code : List jm_I} {z : Option Bool} {Q : Int → jm_S → Prop} {e : jm_I} {pc : Nat} {ls : jm_L} {st : List jm_V} {σ : jm_S}
    (he : jm_at code pc = some e) (h : jm_wp D fi cal z Q (jm_Ok D fi cal code z Q e.2.2.1) (jm_Ok D fi cal code z Q) e.2.1 e.2.2.2 ls st σ) : jm_Ok D fi cal code z Q pc ls st σ := by
  intro J hJ
  exact hJ e pc ls st σ he (jm_wp_mono (fun ls st σ q => q J hJ) (fun t ls st σ q => q J hJ) h)
/-- several instructions at once: up to the stops, or as many as f -/
def jm_go (D : Nat → jm_F) (fi : Nat → Option Nat) (cal : Nat → Option jm_K) (code : List jm_I) (z : Option Bool) (Q : Int → jm_S → Prop) (stop : List Nat) (J : Nat → jm_L → List jm_V → jm_S → Prop) : Nat → Nat → jm_L → List jm_V → jm_S → Prop
  | 0, pc, ls, st, σ => J pc ls st σ
  | f + 1, pc, ls, st, σ => match jm_at code pc with
    | none => False
    | some (_, ins, nx, ts) => jm_wp D fi cal z Q (bif jm_mem stop nx then J nx else jm_go D fi cal code z Q stop J f nx) (fun t => bif jm_mem stop t then J t else jm_go D fi cal code z Q stop J f t) ins ts ls st σ
theorem jm_go_ok {D : Nat → jm_F} {fi : Nat → Option Nat} {cal : Nat → Option jm_K} {code : List jm_I} {z : Option Bool} {Q : Int → jm_S → Prop} {stop : List Nat} : ∀ (f pc : Nat) (ls : jm_L) (st : List jm_V) (σ : jm_S), jm_go D fi cal code z Q stop (jm_Ok D fi cal code z Q) f pc ls st σ → jm_Ok D fi cal code z Q pc ls st σ
  | 0, pc, ls, st, σ, h => h
  | f + 1, pc, ls, st, σ, h => by
    unfold jm_go at h
    split at h
    · exact h.elim
    · rename_i pc' ins nx ts he
      have key : ∀ t ls st σ, (bif jm_mem stop t then jm_Ok D fi cal code z Q t else jm_go D fi cal code z Q stop (jm_Ok D fi cal code z Q) f t) ls st σ → jm_Ok D fi cal code z Q t ls st σ := by
        intro t ls st σ q
        cases hm : jm_mem stop t
        · rw [hm] at q; exact jm_go_ok f t ls st σ q
        · rw [hm] at q; exact q
      exact jm_Ok.step he (jm_wp_mono (key nx) key h)
theorem jm_Ok.go {D : Nat → jm_F} {fi : Nat → Option Nat} {cal : Nat → Option jm_K} {code : List jm_I} {z : Option Bool} {Q : Int → jm_S → Prop} {pc : Nat} {ls : jm_L} {st : List jm_V} {σ : jm_S} (f : Nat) (stop : List Nat)
    (h : jm_go D fi cal code z Q stop (jm_Ok D fi cal code z Q) f pc ls st σ) : jm_Ok D fi cal code z Q pc ls st σ := jm_go_ok f pc ls st σ h
/-! the check of a code table against the bytes -/
def jm_il : Instr → Nat
  | .bipush _ => 2
  | .iload _ => 2
  | .aload _ => 2
  | .istore _ => 2
  | .sipush _ => 3
  | .iinc _ _ => 3
  | .goto _ => 3
  | .ifCond _ _ => 3
  | .if_icmp _ _ => 3
  | .getfield _ => 3
  | .putfield _ => 3
  | .invokestatic _ => 3
  | .invokevirtual _ => 3
  | _ => 1
def jm_jok (pc : Nat) (off : Int) (ts : List Nat) : Bool := match ts with
  | [t] => decide ((pc : Int) + off = (t : Int))
  | _ => false
def jm_iok (e : jm_I) : Bool := match e.2.1 with
  | .bipush n => decide (-128 ≤ n) && decide (n ≤ 127) && Nat.beq e.2.2.1 (e.1 + 2)
  | .sipush n => decide (-32768 ≤ n) && decide (n ≤ 32767) && Nat.beq e.2.2.1 (e.1 + 3)
  | .iconst n => decide (-128 ≤ n) && decide (n ≤ 127) && Nat.beq e.2.2.1 (e.1 + 1)
  | .goto off => jm_jok e.1 off e.2.2.2 && Nat.beq e.2.2.1 (e.1 + 3)
  | .ifCond _ off => jm_jok e.1 off e.2.2.2 && Nat.beq e.2.2.1 (e.1 + 3)
  | .if_icmp _ off => jm_jok e.1 off e.2.2.2 && Nat.beq e.2.2.1 (e.1 + 3)
  | .tableswitch d lo hi offs => (match e.2.2.2 with
    | t :: us => decide ((e.1 : Int) + d = (t : Int)) && decide (offs.toList.map (fun o => (e.1 : Int) + o) = us.map (fun u : Nat => (u : Int))) && decide (hi = lo + (us.length : Int) - 1) && decide (-1000 ≤ lo) && decide (hi ≤ 1000)
    | [] => false)
  | i => Nat.beq e.2.2.1 (e.1 + jm_il i)
def jm_chk (bytes : ByteArray) (code : List jm_I) : Bool := code.all fun e => decide (decode bytes e.1 = .ok (e.2.1, e.2.2.1 - e.1)) && jm_iok e
theorem jm_at_mem : ∀ {code : List jm_I} {pc : Nat} {e : jm_I}, jm_at code pc = some e → e ∈ code ∧ e.1 = pc
  | [], _, _, h => by cases h
  | a :: c, pc, e, h => by
    unfold jm_at at h
    cases hb : Nat.beq a.1 pc
    · rw [hb] at h
      obtain ⟨h1, h2⟩ := jm_at_mem (code := c) h
      exact ⟨List.mem_cons_of_mem _ h1, h2⟩
    · rw [hb] at h
      cases h
      exact ⟨List.mem_cons_self, Nat.eq_of_beq_eq_true hb⟩
theorem jm_chk_at {bytes : ByteArray} {code : List jm_I} (h : jm_chk bytes code = true) {pc : Nat} {e : jm_I} (he : jm_at code pc = some e) : decode bytes pc = .ok (e.2.1, e.2.2.1 - pc) ∧ jm_iok e = true ∧ e.1 = pc := by
  obtain ⟨h1, h2⟩ := jm_at_mem he
  have h3 := List.all_eq_true.mp h e h1
  rw [Bool.and_eq_true] at h3
  exact ⟨by rw [← h2]; exact of_decide_eq_true h3.1, h3.2, h2⟩
end
section
/-! names: classes, fields, methods; what a program printed -/
def R_B : String := "BlockWorld"
def F_B : u_T := fun k => match k with
  | 0 => ("BlockWorld", "block", "[B", true)
  | 1 => ("BlockWorld", "stage", "[B", true)
  | 2 => ("BlockWorld", "on", "[Z", true)
  | 3 => ("BlockWorld", "looks", "[Z", true)
  | 4 => ("BlockWorld", "field", "[B", true)
  | 5 => ("BlockWorld", "spreads", "[Z", true)
  | 6 => ("BlockWorld", "back", "[S", true)
  | 7 => ("BlockWorld", "had", "[B", true)
  | 8 => ("BlockWorld", "taken", "I", false)
  | 9 => ("BlockWorld", "lamps", "[Z", true)
  | 10 => ("BlockWorld", "anyLamp", "Z", false)
  | 11 => ("BlockWorld", "roof", "[B", true)
  | 12 => ("BlockWorld", "counts", "[S", true)
  | 13 => ("BlockWorld", "marks", "[S", true)
  | 14 => ("BlockWorld", "happened", "[I", true)
  | 15 => ("BlockWorld", "met", "[Z", true)
  | _ => ("BlockWorld", "falls", "[Z", true)
def t_B : Nat → FieldType := fun k => match k with
  | 0 => .array .byte
  | 1 => .array .byte
  | 2 => .array .boolean
  | 3 => .array .boolean
  | 4 => .array .byte
  | 5 => .array .boolean
  | 6 => .array .short
  | 7 => .array .byte
  | 8 => .int
  | 9 => .array .boolean
  | 10 => .boolean
  | 11 => .array .byte
  | 12 => .array .short
  | 13 => .array .short
  | 14 => .array .int
  | 15 => .array .boolean
  | _ => .array .boolean
def D_B : Nat → jm_F := fun k => match k with
  | 0 => (.byte, 384, 0, 9)
  | 1 => (.byte, 384, 0, 7)
  | 2 => (.boolean, 384, 0, 1)
  | 3 => (.boolean, 384, 0, 1)
  | 4 => (.byte, 1152, 0, 15)
  | 5 => (.boolean, 384, 0, 1)
  | 6 => (.short, 384, 0, 383)
  | 7 => (.byte, 384, 0, 15)
  | 8 => (.int, 0, 0, 384)
  | 9 => (.boolean, 384, 0, 1)
  | 10 => (.boolean, 0, 0, 1)
  | 11 => (.byte, 64, 0, 6)
  | 12 => (.short, 10, 0, 384)
  | 13 => (.short, 384, 0, 383)
  | 14 => (.int, 5, 0, 2147483647)
  | 15 => (.boolean, 384, 0, 1)
  | 16 => (.boolean, 384, 0, 1)
  | _ => (.int, 0, 0, 0)
def fi_B : Nat → Option Nat := fun i => match i with
  | 7 => some 0
  | 13 => some 1
  | 16 => some 2
  | 20 => some 3
  | 23 => some 4
  | 26 => some 5
  | 29 => some 6
  | 33 => some 7
  | 77 => some 8
  | 36 => some 9
  | 104 => some 10
  | 39 => some 11
  | 42 => some 12
  | 45 => some 13
  | 48 => some 14
  | 52 => some 15
  | 55 => some 16
  | _ => none
def ks_B : List Nat := [0, 1, 2, 3, 4, 5, 6, 7, 9, 11, 12, 13, 14, 15, 16]
abbrev b_B_init : ByteArray := prog_1_method_1_code
def y_B_init : MethodName := ⟨R_B, "<init>", "()V"⟩
abbrev b_B_isCell : ByteArray := prog_1_method_2_code
def y_B_isCell : MethodName := ⟨R_B, "isCell", "(I)Z"⟩
abbrev b_B_near : ByteArray := prog_1_method_3_code
def y_B_near : MethodName := ⟨R_B, "near", "(II)I"⟩
abbrev b_B_opaque : ByteArray := prog_1_method_4_code
def y_B_opaque : MethodName := ⟨R_B, "opaque", "(I)Z"⟩
abbrev b_B_feeds : ByteArray := prog_1_method_5_code
def y_B_feeds : MethodName := ⟨R_B, "feeds", "(II)Z"⟩
abbrev b_B_fedByMakers : ByteArray := prog_1_method_6_code
def y_B_fedByMakers : MethodName := ⟨R_B, "fedByMakers", "(I)Z"⟩
abbrev b_B_shines : ByteArray := prog_1_method_7_code
def y_B_shines : MethodName := ⟨R_B, "shines", "(I)I"⟩
abbrev b_B_begins : ByteArray := prog_1_method_8_code
def y_B_begins : MethodName := ⟨R_B, "begins", "(II)I"⟩
abbrev b_B_passes : ByteArray := prog_1_method_9_code
def y_B_passes : MethodName := ⟨R_B, "passes", "(II)Z"⟩
abbrev b_B_drop : ByteArray := prog_1_method_10_code
def y_B_drop : MethodName := ⟨R_B, "drop", "(II)V"⟩
abbrev b_B_unspread : ByteArray := prog_1_method_11_code
def y_B_unspread : MethodName := ⟨R_B, "unspread", "(I)V"⟩
abbrev b_B_raise : ByteArray := prog_1_method_12_code
def y_B_raise : MethodName := ⟨R_B, "raise", "(II)V"⟩
abbrev b_B_spread : ByteArray := prog_1_method_13_code
def y_B_spread : MethodName := ⟨R_B, "spread", "(I)V"⟩
abbrev b_B_give : ByteArray := prog_1_method_14_code
def y_B_give : MethodName := ⟨R_B, "give", "(II)V"⟩
abbrev b_B_touch : ByteArray := prog_1_method_15_code
def y_B_touch : MethodName := ⟨R_B, "touch", "(II)V"⟩
abbrev b_B_notice : ByteArray := prog_1_method_16_code
def y_B_notice : MethodName := ⟨R_B, "notice", "(I)V"⟩
abbrev b_B_renew : ByteArray := prog_1_method_17_code
def y_B_renew : MethodName := ⟨R_B, "renew", "(II)V"⟩
abbrev b_B_feedAround : ByteArray := prog_1_method_18_code
def y_B_feedAround : MethodName := ⟨R_B, "feedAround", "(I)V"⟩
abbrev b_B_lampsLook : ByteArray := prog_1_method_19_code
def y_B_lampsLook : MethodName := ⟨R_B, "lampsLook", "()V"⟩
abbrev b_B_isFed : ByteArray := prog_1_method_20_code
def y_B_isFed : MethodName := ⟨R_B, "isFed", "(I)Z"⟩
abbrev b_B_set : ByteArray := prog_1_method_21_code
def y_B_set : MethodName := ⟨R_B, "set", "(II)V"⟩
abbrev b_B_changeRoof : ByteArray := prog_1_method_22_code
def y_B_changeRoof : MethodName := ⟨R_B, "changeRoof", "(I)V"⟩
abbrev b_B_put : ByteArray := prog_1_method_23_code
def y_B_put : MethodName := ⟨R_B, "put", "(IIII)I"⟩
abbrev b_B_fits : ByteArray := prog_1_method_24_code
def y_B_fits : MethodName := ⟨R_B, "fits", "(IIII)Z"⟩
abbrev b_B_fill : ByteArray := prog_1_method_25_code
def y_B_fill : MethodName := ⟨R_B, "fill", "(IIIIIII)I"⟩
abbrev b_B_due : ByteArray := prog_1_method_26_code
def y_B_due : MethodName := ⟨R_B, "due", "(I)Z"⟩
abbrev b_B_invert : ByteArray := prog_1_method_27_code
def y_B_invert : MethodName := ⟨R_B, "invert", "()I"⟩
abbrev b_B_fall : ByteArray := prog_1_method_28_code
def y_B_fall : MethodName := ⟨R_B, "fall", "()I"⟩
abbrev b_B_stands : ByteArray := prog_1_method_29_code
def y_B_stands : MethodName := ⟨R_B, "stands", "(I)Z"⟩
abbrev b_B_grow : ByteArray := prog_1_method_30_code
def y_B_grow : MethodName := ⟨R_B, "grow", "()V"⟩
abbrev b_B_block : ByteArray := prog_1_method_31_code
def y_B_block : MethodName := ⟨R_B, "block", "(I)I"⟩
abbrev b_B_light : ByteArray := prog_1_method_32_code
def y_B_light : MethodName := ⟨R_B, "light", "(I)I"⟩
abbrev b_B_sky : ByteArray := prog_1_method_33_code
def y_B_sky : MethodName := ⟨R_B, "sky", "(I)I"⟩
abbrev b_B_power : ByteArray := prog_1_method_34_code
def y_B_power : MethodName := ⟨R_B, "power", "(I)I"⟩
abbrev b_B_fed : ByteArray := prog_1_method_35_code
def y_B_fed : MethodName := ⟨R_B, "fed", "(I)Z"⟩
abbrev b_B_tick : ByteArray := prog_1_method_36_code
def y_B_tick : MethodName := ⟨R_B, "tick", "(I)I"⟩
abbrev b_B_since : ByteArray := prog_1_method_37_code
def y_B_since : MethodName := ⟨R_B, "since", "(I)I"⟩
abbrev b_B_count : ByteArray := prog_1_method_38_code
def y_B_count : MethodName := ⟨R_B, "count", "(I)I"⟩
abbrev b_B_dark : ByteArray := prog_1_method_39_code
def y_B_dark : MethodName := ⟨R_B, "dark", "(II)I"⟩
abbrev b_B_belongs : ByteArray := prog_1_method_40_code
def y_B_belongs : MethodName := ⟨R_B, "belongs", "(II)Z"⟩
abbrev b_B_lit : ByteArray := prog_1_method_41_code
def y_B_lit : MethodName := ⟨R_B, "lit", "(II)I"⟩
def R_M : String := "BlockWorldModel"
def F_M : u_T := fun k => match k with
  | 0 => ("BlockWorldModel", "block", "[I", false)
  | 1 => ("BlockWorldModel", "stage", "[I", false)
  | 2 => ("BlockWorldModel", "on", "[Z", false)
  | 3 => ("BlockWorldModel", "power", "[I", false)
  | 4 => ("BlockWorldModel", "light", "[I", false)
  | 5 => ("BlockWorldModel", "sky", "[I", false)
  | 6 => ("BlockWorldModel", "open", "[Z", false)
  | 7 => ("BlockWorldModel", "due", "[Z", false)
  | 8 => ("BlockWorldModel", "joined", "[Z", false)
  | 9 => ("BlockWorldModel", "powered", "Z", false)
  | 10 => ("BlockWorldModel", "lighted", "Z", false)
  | 11 => ("BlockWorldModel", "skied", "Z", false)
  | 12 => ("BlockWorldModel", "forward", "Z", false)
  | _ => ("BlockWorldModel", "since", "[I", false)
def t_M : Nat → FieldType := fun k => match k with
  | 0 => .array .int
  | 1 => .array .int
  | 2 => .array .boolean
  | 3 => .array .int
  | 4 => .array .int
  | 5 => .array .int
  | 6 => .array .boolean
  | 7 => .array .boolean
  | 8 => .array .boolean
  | 9 => .boolean
  | 10 => .boolean
  | 11 => .boolean
  | 12 => .boolean
  | _ => .array .int
def D_M : Nat → jm_F := fun k => match k with
  | 0 => (.int, 384, 0, 9)
  | 1 => (.int, 384, 0, 7)
  | 2 => (.boolean, 384, 0, 1)
  | 3 => (.int, 384, 0, 15)
  | 4 => (.int, 384, 0, 15)
  | 5 => (.int, 384, 0, 15)
  | 6 => (.boolean, 384, 0, 1)
  | 7 => (.boolean, 384, 0, 1)
  | 8 => (.boolean, 384, 0, 1)
  | 9 => (.boolean, 0, 0, 1)
  | 10 => (.boolean, 0, 0, 1)
  | 11 => (.boolean, 0, 0, 1)
  | 12 => (.boolean, 0, 0, 1)
  | 13 => (.int, 5, 0, 2147483647)
  | _ => (.int, 0, 0, 0)
def fi_M : Nat → Option Nat := fun i => match i with
  | 7 => some 0
  | 13 => some 1
  | 16 => some 2
  | 20 => some 3
  | 23 => some 4
  | 26 => some 5
  | 29 => some 6
  | 32 => some 7
  | 35 => some 8
  | 49 => some 9
  | 62 => some 10
  | 69 => some 11
  | 75 => some 12
  | 38 => some 13
  | _ => none
def ks_M : List Nat := [0, 1, 2, 3, 4, 5, 6, 7, 8, 13]
abbrev b_M_init : ByteArray := prog_3_method_1_code
def y_M_init : MethodName := ⟨R_M, "<init>", "()V"⟩
abbrev b_M_among : ByteArray := prog_3_method_2_code
def y_M_among : MethodName := ⟨R_M, "among", "(II)Z"⟩
abbrev b_M_number : ByteArray := prog_3_method_3_code
def y_M_number : MethodName := ⟨R_M, "number", "(III)I"⟩
abbrev b_M_opaque : ByteArray := prog_3_method_4_code
def y_M_opaque : MethodName := ⟨R_M, "opaque", "(I)Z"⟩
abbrev b_M_neighbour : ByteArray := prog_3_method_5_code
def y_M_neighbour : MethodName := ⟨R_M, "neighbour", "(II)I"⟩
abbrev b_M_driven : ByteArray := prog_3_method_6_code
def y_M_driven : MethodName := ⟨R_M, "driven", "(I)Z"⟩
abbrev b_M_feeds : ByteArray := prog_3_method_7_code
def y_M_feeds : MethodName := ⟨R_M, "feeds", "(I)Z"⟩
abbrev b_M_findPower : ByteArray := prog_3_method_8_code
def y_M_findPower : MethodName := ⟨R_M, "findPower", "()V"⟩
abbrev b_M_findLight : ByteArray := prog_3_method_9_code
def y_M_findLight : MethodName := ⟨R_M, "findLight", "()V"⟩
abbrev b_M_findSky : ByteArray := prog_3_method_10_code
def y_M_findSky : MethodName := ⟨R_M, "findSky", "()V"⟩
abbrev b_M_around : ByteArray := prog_3_method_11_code
def y_M_around : MethodName := ⟨R_M, "around", "(II)I"⟩
abbrev b_M_spread : ByteArray := prog_3_method_12_code
def y_M_spread : MethodName := ⟨R_M, "spread", "(I)V"⟩
abbrev b_M_become : ByteArray := prog_3_method_13_code
def y_M_become : MethodName := ⟨R_M, "become", "(II)V"⟩
abbrev b_M_isCell : ByteArray := prog_3_method_14_code
def y_M_isCell : MethodName := ⟨R_M, "isCell", "(III)Z"⟩
abbrev b_M_put : ByteArray := prog_3_method_15_code
def y_M_put : MethodName := ⟨R_M, "put", "(IIII)I"⟩
abbrev b_M_fill : ByteArray := prog_3_method_16_code
def y_M_fill : MethodName := ⟨R_M, "fill", "(IIIIIII)I"⟩
abbrev b_M_block : ByteArray := prog_3_method_17_code
def y_M_block : MethodName := ⟨R_M, "block", "(I)I"⟩
abbrev b_M_light : ByteArray := prog_3_method_18_code
def y_M_light : MethodName := ⟨R_M, "light", "(I)I"⟩
abbrev b_M_sky : ByteArray := prog_3_method_19_code
def y_M_sky : MethodName := ⟨R_M, "sky", "(I)I"⟩
abbrev b_M_power : ByteArray := prog_3_method_20_code
def y_M_power : MethodName := ⟨R_M, "power", "(I)I"⟩
abbrev b_M_fed : ByteArray := prog_3_method_21_code
def y_M_fed : MethodName := ⟨R_M, "fed", "(I)Z"⟩
abbrev b_M_quiet : ByteArray := prog_3_method_22_code
def y_M_quiet : MethodName := ⟨R_M, "quiet", "(I)Z"⟩
abbrev b_M_invert : ByteArray := prog_3_method_23_code
def y_M_invert : MethodName := ⟨R_M, "invert", "()I"⟩
abbrev b_M_fall : ByteArray := prog_3_method_24_code
def y_M_fall : MethodName := ⟨R_M, "fall", "()I"⟩
abbrev b_M_grow : ByteArray := prog_3_method_25_code
def y_M_grow : MethodName := ⟨R_M, "grow", "()I"⟩
abbrev b_M_tick : ByteArray := prog_3_method_26_code
def y_M_tick : MethodName := ⟨R_M, "tick", "(I)I"⟩
abbrev b_M_since : ByteArray := prog_3_method_27_code
def y_M_since : MethodName := ⟨R_M, "since", "(I)I"⟩
abbrev b_M_count : ByteArray := prog_3_method_28_code
def y_M_count : MethodName := ⟨R_M, "count", "(I)I"⟩
abbrev b_M_dark : ByteArray := prog_3_method_29_code
def y_M_dark : MethodName := ⟨R_M, "dark", "(II)I"⟩
abbrev b_M_lit : ByteArray := prog_3_method_30_code
def y_M_lit : MethodName := ⟨R_M, "lit", "(II)I"⟩
abbrev b_M_touches : ByteArray := prog_3_method_31_code
def y_M_touches : MethodName := ⟨R_M, "touches", "(I)Z"⟩
abbrev classes : List vw_C := [(R_B, F_B, 17), (R_M, F_M, 14)]
end
section
/-! Int32 by Int -/
theorem ji_t {x : Int} (h : -2147483648 ≤ x ∧ x ≤ 2147483647) : (Int32.ofInt x).toInt = x := Int32.toInt_ofInt_of_le (by omega) (by omega)
theorem ji_lt {x y : Int} (hx : -2147483648 ≤ x ∧ x ≤ 2147483647) (hy : -2147483648 ≤ y ∧ y ≤ 2147483647) : Int32.ofInt x < Int32.ofInt y ↔ x < y := by
  rw [Int32.lt_iff_toInt_lt, ji_t hx, ji_t hy]
theorem ji_le {x y : Int} (hx : -2147483648 ≤ x ∧ x ≤ 2147483647) (hy : -2147483648 ≤ y ∧ y ≤ 2147483647) : Int32.ofInt x ≤ Int32.ofInt y ↔ x ≤ y := by
  rw [Int32.le_iff_toInt_le, ji_t hx, ji_t hy]
theorem ji_eq {x y : Int} (hx : -2147483648 ≤ x ∧ x ≤ 2147483647) (hy : -2147483648 ≤ y ∧ y ≤ 2147483647) : Int32.ofInt x = Int32.ofInt y ↔ x = y := by
  rw [← Int32.toInt_inj, ji_t hx, ji_t hy]
theorem ji_0 : Int32.ofInt 0 = 0 := by decide
theorem ji_cl {x : Int} (h : -2147483648 ≤ x ∧ x ≤ 2147483647) : (Int32.ofInt x).toNatClampNeg = x.toNat := Int32.toNatClampNeg_ofInt_of_le (by omega) (by omega)
theorem ji_in {i : Int} {n : Nat} (h : -2147483648 ≤ i ∧ i ≤ 2147483647) (h0 : 0 ≤ i) (h1 : i < (n : Int)) : vp_in (Int32.ofInt i) n := by
  unfold vp_in
  rw [ji_cl h, ← ji_0, ji_lt h (by decide)]
  omega
theorem ji_nI {x : Int} (h : 0 ≤ x) : Int32.ofInt x = nI x.toNat := by
  obtain ⟨n, rfl⟩ := Int.eq_ofNat_of_zero_le h
  exact Int32.ofInt_eq_ofNat
theorem ji_tb (x : Int) : (Int32.ofInt x).toBitVec.toNat = (x % 4294967296).toNat := by
  rw [Int32.toBitVec_ofInt, BitVec.toNat_ofInt]
  rfl
theorem ji_and (x : Int) {m : Int32} (k : Nat) (hm : m.toBitVec.toNat = 2 ^ k - 1) (hk : k ≤ 10) : Int32.ofInt x &&& m = Int32.ofInt (x % (2 ^ k : Nat)) := by
  rw [pk_and _ k hm, ji_tb, ji_nI (Int.emod_nonneg _ (by have := Nat.two_pow_pos k; omega))]
  congr 1
  have h1 : (2 ^ k : Nat) ∣ 4294967296 := ⟨2 ^ (32 - k), by rw [← Nat.pow_add]; rw [show k + (32 - k) = 32 by omega]⟩
  have h2 : ((x % 4294967296).toNat : Int) = x % 4294967296 := Int.toNat_of_nonneg (Int.emod_nonneg _ (by decide))
  have h3 : (((x % 4294967296).toNat % 2 ^ k : Nat) : Int) = x % (2 ^ k : Nat) := by
    rw [Int.natCast_emod, h2]
    exact Int.emod_emod_of_dvd x (Int.ofNat_dvd.mpr h1)
  omega
theorem ji_and7 (x : Int) : Int32.ofInt x &&& Int32.ofInt 7 = Int32.ofInt (x % 8) := ji_and x 3 (by decide) (by decide)
theorem ji_and15 (x : Int) : Int32.ofInt x &&& Int32.ofInt 15 = Int32.ofInt (x % 16) := ji_and x 4 (by decide) (by decide)
theorem ji_and63 (x : Int) : Int32.ofInt x &&& Int32.ofInt 63 = Int32.ofInt (x % 64) := ji_and x 6 (by decide) (by decide)
theorem ji_bv8 (v : BitVec 32) : v &&& (-8#32) = v - (v &&& 7#32) := by
  have h : (v &&& 7#32) &&& (v &&& (-8#32)) = 0#32 := by
    rw [BitVec.and_assoc, ← BitVec.and_assoc (7#32) v, BitVec.and_comm (7#32) v, BitVec.and_assoc v (7#32), show (7#32 &&& (-8#32)) = 0#32 by decide]
    simp
  have h2 := BitVec.add_eq_or_of_and_eq_zero _ _ h
  have h3 : (v &&& 7#32) ||| (v &&& (-8#32)) = v := by
    rw [← BitVec.and_or_distrib_left, show (7#32 ||| (-8#32)) = BitVec.allOnes 32 by decide, BitVec.and_allOnes]
  rw [h3] at h2
  rw [BitVec.eq_sub_iff_add_eq, BitVec.add_comm]
  exact h2
theorem ji_andm8 (x : Int) : Int32.ofInt x &&& Int32.ofInt (-8) = Int32.ofInt (x - x % 8) := by
  rw [Int32.ofInt_sub, ← ji_and7]
  apply Int32.toBitVec.inj
  exact ji_bv8 _
theorem ji_shr {x : Int} (h : -2147483648 ≤ x ∧ x ≤ 2147483647) (s : Int32) (k : Nat) (hs : (s.toBitVec.smod 32).toNat = k) : Int32.ofInt x >>> s = Int32.ofInt (x / (2 ^ k : Nat)) := by
  rw [← Int32.toInt_inj, pk_shr _ _ k hs, ji_t h, Int.shiftRight_eq_div_pow]
  rw [ji_t]
  · have h0 : (1 : Int) ≤ (2 ^ k : Nat) := by have := Nat.two_pow_pos k; omega
    constructor
    · rw [Int.le_ediv_iff_mul_le (by omega)]
      have h2 : (-2147483648 : Int) * (2 ^ k : Nat) ≤ -2147483648 * 1 := Int.mul_le_mul_of_nonpos_left (by decide) h0
      omega
    · rcases Int.le_total 0 x with q | q
      · have := Int.ediv_le_self (2 ^ k : Nat) q
        omega
      · have h3 : x / (2 ^ k : Nat) ≤ 0 / (2 ^ k : Nat) := Int.ediv_le_ediv (by omega) q
        rw [Int.zero_ediv] at h3
        omega
theorem ji_shr3 {x : Int} (h : -2147483648 ≤ x ∧ x ≤ 2147483647) : Int32.ofInt x >>> (Int32.ofInt 3 &&& 31) = Int32.ofInt (x / 8) := ji_shr h _ 3 (by decide)
theorem ji_shr6 {x : Int} (h : -2147483648 ≤ x ∧ x ≤ 2147483647) : Int32.ofInt x >>> (Int32.ofInt 6 &&& 31) = Int32.ofInt (x / 64) := ji_shr h _ 6 (by decide)
theorem ji_xor1 {x : Int} (h : 0 ≤ x ∧ x ≤ 7) : Int32.ofInt x ^^^ Int32.ofInt 1 = Int32.ofInt (x + 1 - 2 * (x % 2)) := by
  have : x = 0 ∨ x = 1 ∨ x = 2 ∨ x = 3 ∨ x = 4 ∨ x = 5 ∨ x = 6 ∨ x = 7 := by omega
  rcases this with rfl | rfl | rfl | rfl | rfl | rfl | rfl | rfl <;> decide
theorem ji_or {x y : Int} (h : 0 ≤ x ∧ x ≤ 1 ∧ 0 ≤ y ∧ y ≤ 1) : Int32.ofInt x ||| Int32.ofInt y = Int32.ofInt (if x = 0 then y else 1) := by
  have h1 : x = 0 ∨ x = 1 := by omega
  have h2 : y = 0 ∨ y = 1 := by omega
  rcases h1 with rfl | rfl <;> rcases h2 with rfl | rfl <;> decide
theorem ji_b {x : Int} (h : -128 ≤ x ∧ x ≤ 127) : (Int32.ofInt x).toInt8.toInt32 = Int32.ofInt x := by
  rw [← Int32.toInt_inj, Int8.toInt_toInt32, Int32.toInt_toInt8, ji_t (by omega)]
  exact Int.bmod_eq_of_le (by omega) (by omega)
theorem ji_s {x : Int} (h : -32768 ≤ x ∧ x ≤ 32767) : (Int32.ofInt x).toInt16.toInt32 = Int32.ofInt x := by
  rw [← Int32.toInt_inj, Int16.toInt_toInt32, Int32.toInt_toInt16, ji_t (by omega)]
  exact Int.bmod_eq_of_le (by omega) (by omega)
theorem ji_div {x y : Int} (hx : 0 ≤ x) (hx2 : x ≤ 2147483647) (hy : 0 < y) (hy2 : y ≤ 2147483647) : Int32.ofInt x / Int32.ofInt y = Int32.ofInt (x / y) := by
  obtain ⟨a, rfl⟩ := Int.eq_ofNat_of_zero_le hx
  obtain ⟨b, rfl⟩ := Int.eq_ofNat_of_zero_le (Int.le_of_lt hy)
  rw [ji_nI hx, ji_nI (Int.le_of_lt hy), ji_nI (Int.ediv_nonneg hx (Int.le_of_lt hy))]
  rw [pk_div (by omega) (by omega) (by omega)]
  congr 1
theorem ji_rem {x y : Int} (hx : 0 ≤ x) (hx2 : x ≤ 2147483647) (hy : 0 < y) (hy2 : y ≤ 2147483647) : Int32.ofInt x - Int32.ofInt x / Int32.ofInt y * Int32.ofInt y = Int32.ofInt (x % y) := by
  rw [ji_div hx hx2 hy hy2, ← Int32.ofInt_mul, ← Int32.ofInt_sub]
  congr 1
  have := Int.emod_add_mul_ediv x y
  rw [Int.mul_comm] at this
  omega
theorem ji_nz {y : Int} (hy : 0 < y) (hy2 : y ≤ 2147483647) : ¬ Int32.ofInt y = 0 := by
  rw [← ji_0, ji_eq (by omega) (by omega)]
  omega
theorem ji_narB {x : Int} (h : -128 ≤ x ∧ x ≤ 127) : vp_nar .byte (Int32.ofInt x) = Int32.ofInt x := by rw [vp_nar_byte, ji_b h]
theorem ji_narS {x : Int} (h : -32768 ≤ x ∧ x ≤ 32767) : vp_nar .short (Int32.ofInt x) = Int32.ofInt x := by rw [vp_nar_short, ji_s h]
theorem ji_narZ {x : Int} (h : 0 ≤ x ∧ x ≤ 1) : vp_nar .boolean (Int32.ofInt x) = Int32.ofInt x := by
  have : x = 0 ∨ x = 1 := by omega
  rcases this with rfl | rfl <;> decide
theorem ji_nZ {x : Int} (h : 0 ≤ x ∧ x ≤ 1) : narrow .boolean (.int (Int32.ofInt x)) = .int (Int32.ofInt x) := by
  have : x = 0 ∨ x = 1 := by omega
  rcases this with rfl | rfl <;> decide
theorem ji_fZ {x : Int} (h : 0 ≤ x ∧ x ≤ 1) : fits .boolean (.int (Int32.ofInt x)) = true := by
  have : x = 0 ∨ x = 1 := by omega
  rcases this with rfl | rfl <;> decide
end
section
/-! the words that any method is given -/
def lw_g : List Cond := lw_tbl.filter goodWord
theorem lw_in {w : Cond} (h : w ∈ lw_tbl) (g : goodWord w = true) : w ∈ lw_g := List.mem_filter.mpr ⟨h, g⟩
theorem lw_out {w : Cond} (h : w ∈ lw_g) : w ∈ lw_tbl := (List.mem_filter.mp h).1
theorem lw_good : ∀ w ∈ lw_g, goodWord w = true := fun _ h => (List.mem_filter.mp h).2
/-! the world of one object in the heap -/
def jm_cv (o : Nat) (ad : Nat → Nat) : jm_V → Value
  | .inl x => .int (Int32.ofInt x)
  | .inr none => .ref o
  | .inr (some k) => .ref (ad k)
def jm_okV : jm_V → Prop
  | .inl x => -2147483648 ≤ x ∧ x ≤ 2147483647
  | .inr _ => True
def jm_fs (D : Nat → jm_F) (N : Nat) (ad : Nat → Nat) (σ : jm_S) : List Value := (List.range N).map fun k => bif Nat.beq (D k).2.1 0 then .int (Int32.ofInt (σ k 0)) else .ref (ad k)
def jm_ar (D : Nat → jm_F) (ad : Nat → Nat) (cA : Nat → ClassId) (σ : jm_S) (k : Nat) : Nat × va_E := (ad k, .inl (cA k, (D k).2.1, .inl fun j => Int32.ofInt (σ k (j : Int))))
def jm_pic (D : Nat → jm_F) (N : Nat) (ks : List Nat) (ci : Nat) (o : Nat) (ad : Nat → Nat) (cA : Nat → ClassId) (σ : jm_S) : va_W := (o, .inr (ci, jm_fs D N ad σ)) :: ks.map (jm_ar D ad cA σ)
def jm_tys (D : Nat → jm_F) (ks : List Nat) (cA : Nat → ClassId) : List (ClassId × FieldType) := ks.map fun k => (cA k, (D k).1)
def jm_rg (F : jm_F) : Bool := match F with
  | (.byte, _, lo, hi) => decide (-128 ≤ lo) && decide (hi ≤ 127)
  | (.boolean, _, lo, hi) => decide (0 ≤ lo) && decide (hi ≤ 1)
  | (.short, _, lo, hi) => decide (-32768 ≤ lo) && decide (hi ≤ 32767)
  | (.int, _, lo, hi) => decide (-2147483648 ≤ lo) && decide (hi ≤ 2147483647)
  | _ => false
/-- what must hold of a class's tables -/
def jm_CF (cl : List vw_C) (C : String) (T : u_T) (N : Nat) (ty0 : Nat → FieldType) (D : Nat → jm_F) (fi : Nat → Option Nat) (ks : List Nat) (ci : Nat) : Prop :=
  (∀ w ∈ u_ws C T N, w ∈ lw_g) ∧ (∀ k, k < N → parseFieldDescriptor (T k).2.2.1 = some (ty0 k)) ∧ (∀ a, a < N → ∀ b, b < N → a ≠ b → (T a).2.1 ≠ (T b).2.1) ∧ cl[ci]? = some (C, T, N) ∧
  (∀ i k, fi i = some k → k < N ∧ Cond.fieldLink C i C (T k).2.1 (T k).2.2.1 ∈ lw_g) ∧ (∀ k, k < N → (T k).1 = C) ∧ ks.Nodup ∧ (∀ k, (D k).2.1 ≠ 0 → k ∈ ks) ∧ (∀ k ∈ ks, (D k).2.1 ≠ 0) ∧
  (∀ k, k < N → (D k).2.1 = 0 → (T k).2.2.2 = false ∧ ty0 k = (D k).1) ∧ ∀ k, jm_rg (D k) = true
theorem jm_rg_int {D : Nat → jm_F} {k : Nat} (h : jm_rg (D k) = true) {x : Int} (h1 : (D k).2.2.1 ≤ x) (h2 : x ≤ (D k).2.2.2) : -2147483648 ≤ x ∧ x ≤ 2147483647 := by
  revert h h1 h2
  generalize D k = F
  obtain ⟨ty, n, lo, hi⟩ := F
  intro h h1 h2
  dsimp only at h1 h2
  unfold jm_rg at h
  split at h <;> simp_all <;> omega
theorem jm_up_same (σ : jm_S) (k : Nat) (i v : Int) : jm_up σ k i v k = fun j => if j = i then v else σ k j := by simp [jm_up]
theorem jm_up_ne (σ : jm_S) {k k' : Nat} (i v : Int) (h : k' ≠ k) : jm_up σ k i v k' = σ k' := by simp [jm_up, h]
theorem jm_okS.up {D : Nat → jm_F} {σ : jm_S} (h : jm_okS D σ) {k : Nat} {i v : Int} (hv : (D k).2.2.1 ≤ v ∧ v ≤ (D k).2.2.2) : jm_okS D (jm_up σ k i v) := by
  intro k' j h0 h1
  by_cases hk : k' = k
  · subst hk
    rw [jm_up_same]
    dsimp only
    split
    · exact hv
    · exact h k' j h0 h1
  · rw [jm_up_ne _ _ _ hk]
    exact h k' j h0 h1
section JP
variable {D : Nat → jm_F} {N : Nat} {ks : List Nat} {ci : Nat} {o : Nat} {ad : Nat → Nat} {cA : Nat → ClassId} {σ : jm_S}
theorem jm_pic_arr {k : Nat} (hk : k ∈ ks) : ∃ q : Nat, (jm_pic D N ks ci o ad cA σ)[q]? = some (jm_ar D ad cA σ k) ∧ (jm_tys D ks cA)[q - 1]? = some (cA k, (D k).1) ∧ ks[q - 1]? = some k ∧ 0 < q := by
  obtain ⟨j, hj⟩ := List.getElem?_of_mem hk
  refine ⟨j + 1, ?_, ?_, ?_, Nat.succ_pos j⟩
  · simp [jm_pic, hj]
  · simp [jm_tys, hj]
  · simpa using hj
theorem jm_pic_set {k q : Nat} (hn : ks.Nodup) (hq : 0 < q) (hk : ks[q - 1]? = some k) (hk0 : (D k).2.1 ≠ 0) (i v : Int) : (jm_pic D N ks ci o ad cA σ).set q (jm_ar D ad cA (jm_up σ k i v) k) = jm_pic D N ks ci o ad cA (jm_up σ k i v) := by
  obtain ⟨j, rfl⟩ : ∃ j, q = j + 1 := ⟨q - 1, by omega⟩
  rw [Nat.add_sub_cancel] at hk
  show _ :: List.set _ j _ = _ :: _
  have h1 : jm_fs D N ad σ = jm_fs D N ad (jm_up σ k i v) := by
    unfold jm_fs
    refine List.map_congr_left fun a _ => ?_
    by_cases ha : a = k
    · subst ha
      have : Nat.beq (D a).2.1 0 = false := by
        cases hb : Nat.beq (D a).2.1 0
        · rfl
        · exact absurd (Nat.eq_of_beq_eq_true hb) hk0
      rw [this]
      rfl
    · rw [jm_up_ne _ _ _ ha]
  rw [h1]
  congr 1
  apply List.ext_getElem?
  intro a
  rw [List.getElem?_set]
  split
  · rename_i hja
    subst hja
    have hl : j < ks.length := (List.getElem?_eq_some_iff.mp hk).1
    rw [List.length_map, if_pos hl, List.getElem?_map, hk]
    rfl
  · rename_i hja
    rw [List.getElem?_map, List.getElem?_map]
    cases hka : ks[a]? with
    | none => rfl
    | some b =>
      have hb : b ≠ k := by
        intro e
        subst e
        obtain ⟨l1, e1⟩ := List.getElem?_eq_some_iff.mp hk
        obtain ⟨l2, e2⟩ := List.getElem?_eq_some_iff.mp hka
        exact hja ((List.getElem_inj hn).mp (e1.trans e2.symm))
      simp only [Option.map_some, jm_ar]
      rw [jm_up_ne _ _ _ hb]
theorem jm_fs_at {k : Nat} (hk : k < N) : (jm_fs D N ad σ)[k]? = some (bif Nat.beq (D k).2.1 0 then .int (Int32.ofInt (σ k 0)) else .ref (ad k)) := by
  unfold jm_fs
  rw [List.getElem?_map, List.getElem?_range hk]
  rfl
theorem jm_pic_put {k : Nat} (hk : k < N) (h0 : (D k).2.1 = 0) (hks : ∀ a ∈ ks, (D a).2.1 ≠ 0) (v : Int) : (jm_pic D N ks ci o ad cA σ).set 0 (o, .inr (ci, (jm_fs D N ad σ).set k (.int (Int32.ofInt v)))) = jm_pic D N ks ci o ad cA (jm_up σ k 0 v) := by
  show _ :: _ = _ :: _
  have h1 : (jm_fs D N ad σ).set k (.int (Int32.ofInt v)) = jm_fs D N ad (jm_up σ k 0 v) := by
    apply List.ext_getElem?
    intro a
    by_cases ha : a < N
    · rw [List.getElem?_set, jm_fs_at ha, jm_fs_at ha]
      split
      · rename_i e
        subst e
        have hl : k < (jm_fs D N ad σ).length := by simp [jm_fs, hk]
        rw [if_pos hl, h0]
        simp [jm_up]
      · rename_i e
        rw [jm_up_ne _ _ _ (fun q => e q.symm)]
    · have e1 : (jm_fs D N ad σ).length ≤ a := by simp [jm_fs]; omega
      have e2 : (jm_fs D N ad (jm_up σ k 0 v)).length ≤ a := by simp [jm_fs]; omega
      rw [List.getElem?_eq_none (by simpa using e1), List.getElem?_eq_none e2]
  rw [h1]
  congr 1
  refine List.map_congr_left fun a ha => ?_
  have hne : a ≠ k := fun e => hks a ha (by rw [e]; exact h0)
  simp only [jm_ar]
  rw [jm_up_ne _ _ _ hne]
/-- the addresses are the same in every world -/
theorem jm_pic_D {A : Nat → Prop} {τ : jm_S} (h : va_D A (jm_pic D N ks ci o ad cA σ)) : va_D A (jm_pic D N ks ci o ad cA τ) := by
  have key : ∀ (i : Nat) (q : Nat × va_E), (jm_pic D N ks ci o ad cA τ)[i]? = some q → ∃ q0, (jm_pic D N ks ci o ad cA σ)[i]? = some q0 ∧ q0.1 = q.1 := by
    intro i q hq
    cases i with
    | zero =>
      simp only [jm_pic, List.getElem?_cons_zero, Option.some.injEq] at hq ⊢
      subst hq
      exact ⟨_, rfl, rfl⟩
    | succ j =>
      simp only [jm_pic, List.getElem?_cons_succ, List.getElem?_map] at hq ⊢
      cases hk : ks[j]? with
      | none => rw [hk] at hq; cases hq
      | some k =>
        rw [hk] at hq
        simp only [Option.map_some, Option.some.injEq] at hq
        subst hq
        exact ⟨_, rfl, rfl⟩
  refine ⟨fun i j a b ha hb hab => ?_, fun k q hq => ?_⟩
  · obtain ⟨a0, h1, h2⟩ := key i a ha
    obtain ⟨b0, h3, h4⟩ := key j b hb
    exact h.1 i j a0 b0 h1 h3 (h2.trans (hab.trans h4.symm))
  · obtain ⟨q0, h1, h2⟩ := key k q hq
    rw [← h2]
    exact h.2 k q0 h1
theorem jm_pic_A {τ : jm_S} {sz : Nat} {q : Nat} (h : va_A (jm_pic D N ks ci o ad cA σ) sz q) : va_A (jm_pic D N ks ci o ad cA τ) sz q := by
  rcases h with ⟨k, e, hk⟩ | h
  · cases k with
    | zero =>
      simp only [jm_pic, List.getElem?_cons_zero, Option.some.injEq] at hk
      exact Or.inl ⟨0, .inr (ci, jm_fs D N ad τ), by simp only [jm_pic, List.getElem?_cons_zero]; rw [← (Prod.mk.inj hk).1]⟩
    | succ j =>
      simp only [jm_pic, List.getElem?_cons_succ, List.getElem?_map] at hk
      cases hkk : ks[j]? with
      | none => rw [hkk] at hk; cases hk
      | some a =>
        rw [hkk] at hk
        simp only [Option.map_some, Option.some.injEq] at hk
        refine Or.inl ⟨j + 1, (jm_ar D ad cA τ a).2, ?_⟩
        simp only [jm_pic, List.getElem?_cons_succ, List.getElem?_map, hkk, Option.map_some, Option.some.injEq]
        rw [← (Prod.mk.inj hk).1]
        rfl
  · exact Or.inr h
end JP
/-! the locals -/
def jm_has (o : Nat) (ad : Nat → Nat) (lsA : Array Slot) (ls : jm_L) : Prop := lsA.size = ls.length ∧ lv_wf lsA ∧ ∀ (i : Nat) (v : jm_V), ls[i]? = some (some v) → lsA[i]? = some (.val (jm_cv o ad v))
def jm_en (o : Nat) (ad : Nat → Nat) : Nat → jm_L → List (Nat × Value)
  | _, [] => []
  | i, none :: l => jm_en o ad (i + 1) l
  | i, some v :: l => (i, jm_cv o ad v) :: jm_en o ad (i + 1) l
theorem jm_cat (o : Nat) (ad : Nat → Nat) (v : jm_V) : (jm_cv o ad v).category = 1 := by
  rcases v with x | k
  · rfl
  · cases k <;> rfl
theorem jm_en_of {o : Nat} {ad : Nat → Nat} : ∀ (ls : jm_L) (i : Nat) (q : Nat × Value), q ∈ jm_en o ad i ls → ∃ j v, q = (i + j, jm_cv o ad v) ∧ ls[j]? = some (some v)
  | [], i, q, h => by cases h
  | none :: l, i, q, h => by
    obtain ⟨j, v, h1, h2⟩ := jm_en_of l (i + 1) q h
    exact ⟨j + 1, v, by rw [h1]; congr 1; omega, by simpa using h2⟩
  | some w :: l, i, q, h => by
    rcases List.mem_cons.mp h with rfl | h
    · exact ⟨0, w, rfl, rfl⟩
    · obtain ⟨j, v, h1, h2⟩ := jm_en_of l (i + 1) q h
      exact ⟨j + 1, v, by rw [h1]; congr 1; omega, by simpa using h2⟩
theorem jm_en_in {o : Nat} {ad : Nat → Nat} : ∀ (ls : jm_L) (i j : Nat) (v : jm_V), ls[j]? = some (some v) → (i + j, jm_cv o ad v) ∈ jm_en o ad i ls
  | [], i, j, v, h => by simp at h
  | none :: l, i, 0, v, h => by simp at h
  | none :: l, i, j + 1, v, h => by
    have := jm_en_in (o := o) (ad := ad) l (i + 1) j v (by simpa using h)
    rw [show i + (j + 1) = i + 1 + j by omega]
    exact this
  | some w :: l, i, 0, v, h => by
    simp at h
    subst h
    exact List.mem_cons_self
  | some w :: l, i, j + 1, v, h => by
    have := jm_en_in (o := o) (ad := ad) l (i + 1) j v (by simpa using h)
    rw [show i + (j + 1) = i + 1 + j by omega]
    exact List.mem_cons_of_mem _ this
theorem jm_has.lv {o : Nat} {ad : Nat → Nat} {lsA : Array Slot} {ls : jm_L} (h : jm_has o ad lsA ls) : lv_has lsA ls.length (jm_en o ad 0 ls) := by
  refine ⟨h.1, h.2.1, fun q hq => ?_⟩
  obtain ⟨j, v, rfl, h2⟩ := jm_en_of ls 0 q hq
  simpa using h.2.2 j v h2
theorem jm_has.st {o : Nat} {ad : Nat → Nat} {lsA : Array Slot} {ls : jm_L} {i : Nat} {v : jm_V} (hi : i < ls.length) (h : lv_has lsA ls.length ((i, jm_cv o ad v) :: (jm_en o ad 0 ls).filter (fun q => !(q.1 == i) && !(q.1 + 1 == i && q.2.category == 2)))) : jm_has o ad lsA (ls.set i (some v)) := by
  refine ⟨by rw [List.length_set]; exact h.1, h.2.1, fun j w hw => ?_⟩
  by_cases hj : j = i
  · subst hj
    rw [List.getElem?_set_self hi] at hw
    cases hw
    exact h.2.2 _ List.mem_cons_self
  · rw [List.getElem?_set_ne (Ne.symm hj)] at hw
    have h1 := jm_en_in (o := o) (ad := ad) ls 0 j w hw
    rw [Nat.zero_add] at h1
    refine h.2.2 _ (List.mem_cons_of_mem _ (List.mem_filter.mpr ⟨h1, ?_⟩))
    simp [hj, jm_cat]
end
section
/-! contracts over the abstract machine, and its soundness -/
def jm_rm (v : Nat) : Room := { frames := v, cells := 0, slots := 0, locals := 40 * v }
def jm_rv (ret : Option FieldType) (r : Int) : Option Value := match ret with
  | none => none
  | some _ => some (.int (Int32.ofInt r))
def jm_av (stat : Bool) (o : Nat) (as : List Int) : List Value := (bif stat then [] else [.ref o]) ++ as.map fun x => .int (Int32.ofInt x)
def jm_U (G : va_G) (cl : List vw_C) (D : Nat → jm_F) (N : Nat) (ks : List Nat) (ci : Nat) (o : Nat) (ad : Nat → Nat) (cA : Nat → ClassId) (sz : Nat) (σ : jm_S) (U : State) : Prop :=
  U.heap.size = sz ∧ va_P G cl (jm_pic D N ks ci o ad cA σ) U.heap ∧ va_K G cl (jm_tys D ks cA) U ∧ va_D (fun _ => True) (jm_pic D N ks ci o ad cA σ)
def jm_Qc (G : va_G) (cl : List vw_C) (D : Nat → jm_F) (N : Nat) (ks : List Nat) (ci : Nat) (o : Nat) (ad : Nat → Nat) (cA : Nat → ClassId) (A : Nat → Prop) (ret : Option FieldType) (post : Int → jm_S → Prop) : Array Value → State → Outcome → State → Prop := fun _ st oc t =>
  (∃ (r : Int) (u : jm_S), oc = .returned (jm_rv ret r) ∧ ((-2147483648 ≤ r ∧ r ≤ 2147483647) ∧ jm_okS D u ∧ post r u) ∧ va_P G cl (jm_pic D N ks ci o ad cA u) t.heap) ∧ va_F A st t
/-- a method's contract -/
def jm_Con (cl : List vw_C) (D : Nat → jm_F) (N : Nat) (ks : List Nat) (ci : Nat) (y : MethodName) (bytes : ByteArray) (maxL : Nat) (ret : Option FieldType) (lv : Nat) (sp : jm_K) : Prop :=
  ∀ (l : Launch) (G : va_G) (o : Nat) (ad : Nat → Nat) (cA : Nat → ClassId) (sz : Nat) (σ : jm_S) (as : List Int), as.length = sp.2.1 → (∀ x ∈ as, -2147483648 ≤ x ∧ x ≤ 2147483647) → jm_okS D σ → sp.2.2.2.1 as σ →
    Met l y (.code y bytes maxL ret :: lw_g) (jm_rm lv) (va_Pc (jm_av sp.1 o as) (jm_U G cl D N ks ci o ad cA sz σ)) (jm_Qc G cl D N ks ci o ad cA (va_A (jm_pic D N ks ci o ad cA σ) sz) ret (sp.2.2.2.2 as σ)) 0 0 (va_A (jm_pic D N ks ci o ad cA σ) sz)
/-- what a call asks of the tables -/
def jm_Lk (own : String) (i : Nat) (y : MethodName) (bytes : ByteArray) (maxL : Nat) (ret : Option FieldType) (sp : jm_K) : Prop :=
  Cond.methodLink own i y ∈ lw_g ∧ Cond.code y bytes maxL ret ∈ lw_g ∧ (sp.1 = true → Cond.static y ∈ lw_g) ∧ (sp.1 = false → Cond.instanceMethod y ∈ lw_g ∧ Cond.selects y.cls y y ∈ lw_g) ∧ Cond.initialized y.cls ∈ lw_g ∧
  (y.cls ≠ "java/lang/invoke/MethodHandle" ∧ y.cls ≠ "java/lang/invoke/VarHandle" ∧ (parseMethodDescriptor y.desc).map (fun d => d.parameters.length) = some sp.2.1) ∧ (sp.2.2.1 = true ↔ ret = none) ∧ maxL ≤ 20
def jm_CalOK (cl : List vw_C) (C : String) (D : Nat → jm_F) (N : Nat) (ks : List Nat) (ci : Nat) (lv i : Nat) (sp : jm_K) : Prop :=
  ∃ (y : MethodName) (bytes : ByteArray) (maxL : Nat) (ret : Option FieldType) (v : Nat), v < lv ∧ jm_Con cl D N ks ci y bytes maxL ret v sp ∧ jm_Lk C i y bytes maxL ret sp ∧ y.cls = C
theorem jm_good {Ts : List Cond} (y : MethodName) (bytes : ByteArray) (maxL : Nat) (ret : Option FieldType) (hT : ∀ w ∈ lw_g, w ∈ Ts) (hc : Cond.code y bytes maxL ret ∈ lw_g) : GoodIn Ts (.code y bytes maxL ret :: lw_g) := by
  intro w hw
  have h1 : w ∈ lw_g := by
    rcases List.mem_cons.mp hw with rfl | h
    · exact hc
    · exact h
  exact ⟨hT w h1, good_of_word (lw_good w h1)⟩
section JCALL
variable {p : Program} {l : Launch} {e : Env} {R : Room} {s : State} {m : MethodId} {args : Array Value} {below : List Frame} {meth : Method} {c : Code} {H : Heap} {locs : List Loc} {cells slots : Nat} {Q : State → Prop}
variable {pc : Nat} {ls : Array Slot} {rest st0 : List Value} {a : Array Value} {A0 A1 : Nat → Prop} {H0 : Heap} {mc ms : Nat} {free : Addr → Prop}
theorem jm_callw {G : va_G} {cl : List vw_C} {D : Nat → jm_F} {N : Nat} {ks : List Nat} {ci : Nat} {o : Nat} {ad : Nat → Nat} {cA : Nat → ClassId} {ret : Option FieldType} {post : Int → jm_S → Prop} (hr : va_Run p l e R s m args below meth c H locs cells slots mc ms (F0 m pc ls st0) rest (jm_Qc G cl D N ks ci o ad cA A1 ret post a) free) (hS : va_S A0 H0 H locs) (hA : ∀ q, q < H.size → A1 q → A0 q) (hf : ∀ q, free q → A0 q)
    (kk : ∀ (r : Int) (u : jm_S) (H1 : Heap) (locs1 : List Loc), (-2147483648 ≤ r ∧ r ≤ 2147483647) → jm_okS D u → post r u → va_P G cl (jm_pic D N ks ci o ad cA u) H1 → H.size ≤ H1.size → (∀ q : Nat, q < H.size → ¬ A1 q → H1[q]? = H[q]?) → va_S A0 H0 H1 locs1 → W p l e R s m args below meth c H1 locs1 (cells + mc) (slots + ms) Q (F0 m (pc + 3) ls ((jm_rv ret r).toList ++ rest))) : W p l e R s m args below meth c H locs cells slots Q (F0 m pc ls st0) := by
  intro T hT X
  obtain ⟨v, st₀, t, T', L, h0, X', hL, e1, e2, ⟨⟨r, u, hv, ⟨hp1, hp2, hp3⟩, hb⟩, hz, hk⟩, st⟩ := hr T hT X
  cases hv
  rw [h0] at hz hk
  obtain ⟨t2, a1, b1⟩ := kk r u T'.heap (locs ++ L) hp1 hp2 hp3 (by rw [e1]; exact hb) (by rw [e1]; exact hz) (fun q h1 h2 => by rw [e1]; exact hk q h1 h2)
    ⟨Nat.le_trans hS.1 (by rw [e1]; exact hz), fun q h1 h2 => by rw [e1, hk q (Nat.lt_of_lt_of_le h1 hS.1) (fun z => h2 (hA q (Nat.lt_of_lt_of_le h1 hS.1) z))]; exact hS.2.1 q h1 h2, fun q hq => by
      rcases List.mem_append.mp hq with h | h
      · exact hS.2.2 q h
      · exact hf _ (hL q h)⟩ T' rfl X'
  exact ⟨t2, st t2 a1, b1⟩
end JCALL
/-- the machine's goal at an abstract state -/
def jm_W (p : Program) (l : Launch) (e : Env) (R : Room) (s : State) (m : MethodId) (args : Array Value) (below : List Frame) (meth : Method) (c : Code) (Q : State → Prop) (G : va_G) (cl : List vw_C) (D : Nat → jm_F) (N : Nat) (ks : List Nat) (ci : Nat) (o : Nat) (ad : Nat → Nat) (cA : Nat → ClassId) (A : Nat → Prop) (nL cn sn : Nat) (pc : Nat) (ls : jm_L) (st : List jm_V) (σ : jm_S) : Prop :=
  ls.length = nL → jm_okS D σ → (∀ (i : Nat) (v : jm_V), ls[i]? = some (some v) → jm_okV v) → (∀ v ∈ st, jm_okV v) → ∀ (H : Heap) (locs : List Loc) (lsA : Array Slot), va_P G cl (jm_pic D N ks ci o ad cA σ) H → va_S A s.heap H locs → jm_has o ad lsA ls → W p l e R s m args below meth c H locs cn sn Q (F0 m pc lsA (st.map (jm_cv o ad)))
theorem jm_b1_inv {st : List jm_V} {k : Int → List jm_V → Prop} (h : jm_b1 st k) : ∃ x r, st = .inl x :: r ∧ k x r := by
  unfold jm_b1 at h; split at h
  · exact ⟨_, _, rfl, h⟩
  · exact h.elim
theorem jm_b2_inv {st : List jm_V} {k : Int → Int → List jm_V → Prop} (h : jm_b2 st k) : ∃ x y r, st = .inl y :: .inl x :: r ∧ k x y r := by
  unfold jm_b2 at h; split at h
  · exact ⟨_, _, _, rfl, h⟩
  · exact h.elim
theorem jm_ob_inv {st : List jm_V} {k : List jm_V → Prop} (h : jm_ob st k) : ∃ r, st = .inr none :: r ∧ k r := by
  unfold jm_ob at h; split at h
  · exact ⟨_, rfl, h⟩
  · exact h.elim
theorem jm_ix_inv {st : List jm_V} {k : Nat → Int → List jm_V → Prop} (h : jm_ix st k) : ∃ a i r, st = .inl i :: .inr (some a) :: r ∧ k a i r := by
  unfold jm_ix at h; split at h
  · exact ⟨_, _, _, rfl, h⟩
  · exact h.elim
theorem jm_li_inv {ls : jm_L} {k : Nat} {f : Int → Prop} (h : jm_li ls k f) : ∃ x, ls[k]? = some (some (.inl x)) ∧ f x := by
  unfold jm_li at h; split at h
  · rename_i x e
    refine ⟨x, ?_, h⟩
    rw [List.getD_eq_getElem?_getD] at e
    cases hk : ls[k]? with
    | none => rw [hk] at e; cases e
    | some v => rw [hk] at e; simp at e; rw [e]
  · exact h.elim
theorem jm_lr_inv {ls : jm_L} {k : Nat} {f : Option Nat → Prop} (h : jm_lr ls k f) : ∃ x, ls[k]? = some (some (.inr x)) ∧ f x := by
  unfold jm_lr at h; split at h
  · rename_i x e
    refine ⟨x, ?_, h⟩
    rw [List.getD_eq_getElem?_getD] at e
    cases hk : ls[k]? with
    | none => rw [hk] at e; cases e
    | some v => rw [hk] at e; simp at e; rw [e]
  · exact h.elim
theorem jm_t1_inv {ts : List Nat} {f : Nat → Prop} (h : jm_t1 ts f) : ∃ t u, ts = t :: u ∧ f t := by
  unfold jm_t1 at h; split at h
  · exact ⟨_, _, rfl, h⟩
  · exact h.elim
theorem jm_fd_inv {fi : Nat → Option Nat} {D : Nat → jm_F} {i : Nat} {f : Nat → FieldType → Nat → Int → Int → Prop} (h : jm_fd fi D i f) : ∃ k, fi i = some k ∧ f k (D k).1 (D k).2.1 (D k).2.2.1 (D k).2.2.2 := by
  unfold jm_fd at h; split at h
  · rename_i k e
    exact ⟨k, e, h⟩
  · exact h.elim
theorem jm_bif_inv {b : Bool} {p : Prop} (h : bif b then p else False) : b = true ∧ p := by
  cases b
  · exact h.elim
  · exact ⟨rfl, h⟩
theorem jm_sw_at {x : Int} {f : Nat → Prop} : ∀ (ts : List Nat) (lo : Int), jm_sw x f lo ts → lo ≤ x → x < lo + (ts.length : Int) → ∃ t, ts[(x - lo).toNat]? = some t ∧ f t
  | [], lo, _, h1, h2 => by simp at h2; omega
  | t :: ts, lo, h, h1, h2 => by
    by_cases e : x = lo
    · subst e
      exact ⟨t, by simp, h.1 rfl⟩
    · obtain ⟨u, h3, h4⟩ := jm_sw_at ts (lo + 1) h.2 (by omega) (by simp at h2; omega)
      refine ⟨u, ?_, h4⟩
      have : (x - lo).toNat = (x - (lo + 1)).toNat + 1 := by omega
      rw [this, List.getElem?_cons_succ]
      exact h3
theorem jm_pop_inv {o : Nat} {ad : Nat → Nat} : ∀ (n : Nat) (st : List jm_V) (acc as : List Int) (r : List jm_V), jm_pop n st acc = some (as, r) → ∃ bs : List Int, bs.length = n ∧ as = bs ++ acc ∧ st = bs.reverse.map .inl ++ r
  | 0, st, acc, as, r, h => by
    simp only [jm_pop, Option.some.injEq, Prod.mk.injEq] at h
    exact ⟨[], rfl, by simp [h.1], by simp [h.2]⟩
  | n + 1, [], acc, as, r, h => by simp [jm_pop] at h
  | n + 1, .inr k :: st, acc, as, r, h => by simp [jm_pop] at h
  | n + 1, .inl x :: st, acc, as, r, h => by
    simp only [jm_pop] at h
    obtain ⟨bs, h1, h2, h3⟩ := jm_pop_inv (o := o) (ad := ad) n st (x :: acc) as r h
    exact ⟨bs ++ [x], by simp [h1], by simp [h2], by simp [h3]⟩
end
section
/-! soundness, instruction by instruction -/
theorem jm_cons {P : jm_V → Prop} {a : jm_V} {r : List jm_V} (h : P a) (g : ∀ v ∈ r, P v) : ∀ v ∈ a :: r, P v := List.forall_mem_cons.mpr ⟨h, g⟩
theorem jm_hd {P : jm_V → Prop} {a : jm_V} {r : List jm_V} (g : ∀ v ∈ a :: r, P v) : P a := g a List.mem_cons_self
theorem jm_tl {P : jm_V → Prop} {a : jm_V} {r : List jm_V} (g : ∀ v ∈ a :: r, P v) : ∀ v ∈ r, P v := fun v h => g v (List.mem_cons_of_mem _ h)
theorem jm_len_sum (o : Nat) (ad : Nat → Nat) : ∀ r : List jm_V, ((r.map (jm_cv o ad)).map fun v => v.category).sum = r.length
  | [] => rfl
  | a :: r => by
    rw [List.map_cons, List.map_cons, List.sum_cons, jm_len_sum o ad r, jm_cat, List.length_cons]
    omega
theorem jm_ls_set {ls : jm_L} {k : Nat} {v : jm_V} (h : ∀ (i : Nat) (v : jm_V), ls[i]? = some (some v) → jm_okV v) (hv : jm_okV v) : ∀ (i : Nat) (w : jm_V), (ls.set k (some v))[i]? = some (some w) → jm_okV w := by
  intro i w hw
  rw [List.getElem?_set] at hw
  split at hw
  · split at hw
    · cases hw; exact hv
    · cases hw
  · exact h i w hw
theorem jm_ps (bs : List Int) (o : Nat) (ad : Nat → Nat) (r : List jm_V) : ((bs.reverse.map (Sum.inl : Int → jm_V) ++ r).map (jm_cv o ad)) = (bs.map fun x => Value.int (Int32.ofInt x)).reverse ++ r.map (jm_cv o ad) := by
  rw [List.map_append, List.map_map, ← List.map_reverse]
  rfl
def jm_rt : Option Bool → Option FieldType
  | none => none
  | some false => some .int
  | some true => some .boolean
theorem jm_jok_at {pc : Nat} {off : Int} {t : Nat} {u : List Nat} (h : jm_jok pc off (t :: u) = true) : (pc : Int) + off = (t : Int) := by
  cases u with
  | nil => exact of_decide_eq_true h
  | cons a b => cases h
theorem jm_nf {ty : FieldType} {n : Nat} {lo hi v : Int} (h : jm_rg (ty, n, lo, hi) = true) (h1 : lo ≤ v) (h2 : v ≤ hi) : narrow ty (.int (Int32.ofInt v)) = .int (Int32.ofInt v) ∧ fits ty (.int (Int32.ofInt v)) = true := by
  cases ty with
  | byte =>
    simp only [jm_rg, Bool.and_eq_true, decide_eq_true_eq] at h
    refine ⟨by show Value.int _ = _; rw [ji_b (by omega)], ?_⟩
    have := pk_fb (Int32.ofInt v)
    rw [ji_b (by omega)] at this
    exact this
  | short =>
    simp only [jm_rg, Bool.and_eq_true, decide_eq_true_eq] at h
    refine ⟨by show Value.int _ = _; rw [ji_s (by omega)], ?_⟩
    have := pk_fs (Int32.ofInt v)
    rw [ji_s (by omega)] at this
    exact this
  | int => exact ⟨rfl, rfl⟩
  | boolean =>
    simp only [jm_rg, Bool.and_eq_true, decide_eq_true_eq] at h
    exact ⟨ji_nZ (by omega), ji_fZ (by omega)⟩
  | _ => cases h
theorem jm_bz_inv {ty : FieldType} (h : jm_bz ty = true) : ty = .byte ∨ ty = .boolean := by
  cases ty <;> first | exact Or.inl rfl | exact Or.inr rfl | cases h
theorem jm_bi_inv {ty : FieldType} (h : jm_bi ty = true) : ty = .int := by
  cases ty <;> first | rfl | cases h
theorem jm_bs_inv {ty : FieldType} (h : jm_bs ty = true) : ty = .short := by
  cases ty <;> first | rfl | cases h
theorem jm_rg_b {F : jm_F} (h : F.1 = .byte) (g : jm_rg F = true) : -128 ≤ F.2.2.1 ∧ F.2.2.2 ≤ 127 := by
  obtain ⟨ty, n, lo, hi⟩ := F
  cases h
  simpa [jm_rg] using g
theorem jm_rg_z {F : jm_F} (h : F.1 = .boolean) (g : jm_rg F = true) : 0 ≤ F.2.2.1 ∧ F.2.2.2 ≤ 1 := by
  obtain ⟨ty, n, lo, hi⟩ := F
  cases h
  simpa [jm_rg] using g
theorem jm_rg_s {F : jm_F} (h : F.1 = .short) (g : jm_rg F = true) : -32768 ≤ F.2.2.1 ∧ F.2.2.2 ≤ 32767 := by
  obtain ⟨ty, n, lo, hi⟩ := F
  cases h
  simpa [jm_rg] using g
theorem jm_updf {σ : jm_S} {k : Nat} {i v : Int} (hi : 0 ≤ i) : (fun j : Nat => Int32.ofInt (jm_up σ k i v k (j : Int))) = upd (fun j : Nat => Int32.ofInt (σ k (j : Int))) i.toNat (Int32.ofInt v) := by
  funext j
  rw [jm_up_same]
  by_cases h : j = i.toNat
  · subst h
    simp [upd, Int.toNat_of_nonneg hi]
  · have : ¬ ((j : Int) = i) := by omega
    simp [upd, h, this]
section JSOUND
variable {p : Program} {l : Launch} {e : Env} {R : Room} {s : State} {m : MethodId} {args : Array Value} {below : List Frame} {meth : Method} {c : Code}
variable {G : va_G} {cl : List vw_C} {C : String} {T : u_T} {N : Nat} {ty0 : Nat → FieldType} {D : Nat → jm_F} {fi : Nat → Option Nat} {ks : List Nat} {ci : Nat} {o : Nat} {ad : Nat → Nat} {cA : Nat → ClassId} {A : Nat → Prop} {nL cn sn : Nat}
variable {cc : ByteArray} {code : List jm_I} {cal : Nat → Option jm_K} {z : Option Bool} {Qf : Int → jm_S → Prop} {Qc : Array Value → State → Outcome → State → Prop} {rt : Option FieldType} {lv : Nat}
set_option maxHeartbeats 4000000 in
set_option maxRecDepth 100000 in
theorem jm_sound (hx : p.tables.exec = Jvm.exec) (hb : c.code = cc) (hml : c.maxLocals = nL) (hrt : meth.sig.returnType = rt) (hlocks : meth.locks = false) (hown : s.vm.findClass C = some m.cls) (hts : ∀ w ∈ lw_g, w.before args s = true)
    (hK : va_K G cl (jm_tys D ks cA) s) (hD : ∀ τ, va_D A (jm_pic D N ks ci o ad cA τ)) (hA : ∀ q, s.heap.size ≤ q → A q) (hCF : jm_CF cl C T N ty0 D fi ks ci) (hchk : jm_chk cc code = true)
    (hcal : ∀ i sp, cal i = some sp → jm_CalOK cl C D N ks ci lv i sp) (hR : (lv ≤ R.frames ∧ 40 * lv ≤ R.locals) ∧ cn ≤ R.cells ∧ sn ≤ R.slots) (hz : rt = jm_rt z)
    (hret : ∀ (v : Int) (σ' : jm_S) (H : Heap) (locs : List Loc), jm_okS D σ' → (-2147483648 ≤ v ∧ v ≤ 2147483647) → Qf v σ' → va_P G cl (jm_pic D N ks ci o ad cA σ') H → va_S A s.heap H locs → ∀ t : State, t.heap = H → s.WarmedH t.vm → Qc args s (.returned (jm_rv rt v)) t)
    {en : jm_I} {pc : Nat} {ls : jm_L} {st : List jm_V} {σ : jm_S} (hent : jm_at code pc = some en)
    (h : jm_wp D fi cal z Qf (jm_W p l e R s m args below meth c (MQ below Qc args s cn sn A) G cl D N ks ci o ad cA A nL cn sn en.2.2.1) (jm_W p l e R s m args below meth c (MQ below Qc args s cn sn A) G cl D N ks ci o ad cA A nL cn sn) en.2.1 en.2.2.2 ls st σ) :
    jm_W p l e R s m args below meth c (MQ below Qc args s cn sn A) G cl D N ks ci o ad cA A nL cn sn pc ls st σ := by
  obtain ⟨hdec, hiok, hpc⟩ := jm_chk_at hchk hent
  obtain ⟨pc0, ins, nx, ts⟩ := en
  dsimp only at hdec hpc h
  subst hpc
  obtain ⟨hCin, hCty, hCnm, hCc, hCfi, hCT, hCks, hCa, hCb, hCp, hCr⟩ := hCF
  intro hlen hσ hls hst H locs lsA hP hS hL
  have hd1 : nx = pc0 + 1 → decode cc pc0 = .ok (ins, 1) := fun q => by rw [hdec, q, Nat.add_sub_cancel_left]
  have hd2 : nx = pc0 + 2 → decode cc pc0 = .ok (ins, 2) := fun q => by rw [hdec, q, Nat.add_sub_cancel_left]
  have hd3 : nx = pc0 + 3 → decode cc pc0 = .ok (ins, 3) := fun q => by rw [hdec, q, Nat.add_sub_cancel_left]
  unfold jm_wp at h
  split at h
  · -- aload_n
    rename_i k
    have hn : nx = pc0 + 1 := Nat.eq_of_beq_eq_true hiok
    obtain ⟨x, h1, h2⟩ := jm_lr_inv h
    have h3 := hL.2.2 _ _ h1
    subst hn
    have key := h2 hlen hσ hls (jm_cons (hls _ _ h1) hst) H locs lsA hP hS hL
    rw [List.map_cons] at key
    cases x with
    | none => exact lv_aload_n hx hb (hd1 rfl) rfl h3 key
    | some x => exact lv_aload_n hx hb (hd1 rfl) rfl h3 key
  · rename_i k
    have hn : nx = pc0 + 2 := Nat.eq_of_beq_eq_true hiok
    obtain ⟨x, h1, h2⟩ := jm_lr_inv h
    have h3 := hL.2.2 _ _ h1
    subst hn
    have key := h2 hlen hσ hls (jm_cons (hls _ _ h1) hst) H locs lsA hP hS hL
    rw [List.map_cons] at key
    cases x with
    | none => exact lv_aload hx hb (hd2 rfl) h3 key
    | some x => exact lv_aload hx hb (hd2 rfl) h3 key
  · rename_i k
    have hn : nx = pc0 + 1 := Nat.eq_of_beq_eq_true hiok
    obtain ⟨x, h1, h2⟩ := jm_li_inv h
    have h3 := hL.2.2 _ _ h1
    subst hn
    exact lv_iload_n hx hb (hd1 rfl) rfl h3 (h2 hlen hσ hls (jm_cons (hls _ _ h1) hst) H locs lsA hP hS hL)
  · rename_i k
    have hn : nx = pc0 + 2 := Nat.eq_of_beq_eq_true hiok
    obtain ⟨x, h1, h2⟩ := jm_li_inv h
    have h3 := hL.2.2 _ _ h1
    subst hn
    exact lv_iload hx hb (hd2 rfl) h3 (h2 hlen hσ hls (jm_cons (hls _ _ h1) hst) H locs lsA hP hS hL)
  · -- istore_n
    rename_i k
    have hn : nx = pc0 + 1 := Nat.eq_of_beq_eq_true hiok
    obtain ⟨x, r, rfl, h1⟩ := jm_b1_inv h
    obtain ⟨h2, h3⟩ := jm_bif_inv h1
    have hk : k.val < ls.length := Nat.le_of_ble_eq_true h2
    subst hn
    refine lv_istore_n (x := Int32.ofInt x) hx hb (hd1 rfl) rfl hL.lv hk rfl (fun ls' hl' => ?_)
    exact h3 (by rw [List.length_set]; exact hlen) hσ (jm_ls_set hls (jm_hd hst)) (jm_tl hst) H locs ls' hP hS (jm_has.st (v := .inl x) hk hl')
  · rename_i k
    have hn : nx = pc0 + 2 := Nat.eq_of_beq_eq_true hiok
    obtain ⟨x, r, rfl, h1⟩ := jm_b1_inv h
    obtain ⟨h2, h3⟩ := jm_bif_inv h1
    have hk : k < ls.length := Nat.le_of_ble_eq_true h2
    subst hn
    refine lv_istore (x := Int32.ofInt x) hx hb (hd2 rfl) hL.lv hk rfl (fun ls' hl' => ?_)
    exact h3 (by rw [List.length_set]; exact hlen) hσ (jm_ls_set hls (jm_hd hst)) (jm_tl hst) H locs ls' hP hS (jm_has.st (v := .inl x) hk hl')
  · -- iinc
    rename_i k n
    have hn : nx = pc0 + 3 := Nat.eq_of_beq_eq_true hiok
    obtain ⟨x, h1, h2⟩ := jm_li_inv h
    obtain ⟨h2, h3, h4⟩ := jm_bif_inv h2
    have hk : k < ls.length := Nat.le_of_ble_eq_true h2
    subst hn
    have h5 := jm_en_in (o := o) (ad := ad) ls 0 k _ h1
    rw [Nat.zero_add] at h5
    obtain ⟨q, hq⟩ := List.getElem?_of_mem h5
    refine lv_iinc (v := Int32.ofInt (x + n)) hx hb (hd3 rfl) hL.lv hq (by rw [Int32.ofInt_add]) hk rfl (fun ls' hl' => ?_)
    exact h4 (by rw [List.length_set]; exact hlen) hσ (jm_ls_set hls h3) hst H locs ls' hP hS (jm_has.st (v := .inl (x + n)) hk hl')
  · -- iconst
    rename_i n
    unfold jm_iok at hiok
    simp only [Bool.and_eq_true, decide_eq_true_eq] at hiok
    have hn : nx = pc0 + 1 := Nat.eq_of_beq_eq_true hiok.2
    subst hn
    exact lv_iconst hx hb (hd1 rfl) rfl (h hlen hσ hls (jm_cons (show -2147483648 ≤ n ∧ n ≤ 2147483647 by omega) hst) H locs lsA hP hS hL)
  · rename_i n
    unfold jm_iok at hiok
    simp only [Bool.and_eq_true, decide_eq_true_eq] at hiok
    have hn : nx = pc0 + 2 := Nat.eq_of_beq_eq_true hiok.2
    subst hn
    refine lv_bipush hx hb (hd2 rfl) (v := Int32.ofInt n) ?_ (h hlen hσ hls (jm_cons (show -2147483648 ≤ n ∧ n ≤ 2147483647 by omega) hst) H locs lsA hP hS hL)
    rw [← Int32.toInt_inj, Int8.toInt_toInt32, ji_t (by omega), Int8.toInt_ofInt_of_le (by omega) (by omega)]
  · rename_i n
    unfold jm_iok at hiok
    simp only [Bool.and_eq_true, decide_eq_true_eq] at hiok
    have hn : nx = pc0 + 3 := Nat.eq_of_beq_eq_true hiok.2
    subst hn
    refine lv_sipush hx hb (hd3 rfl) (v := Int32.ofInt n) ?_ (h hlen hσ hls (jm_cons (show -2147483648 ≤ n ∧ n ≤ 2147483647 by omega) hst) H locs lsA hP hS hL)
    rw [← Int32.toInt_inj, Int16.toInt_toInt32, ji_t (by omega), Int16.toInt_ofInt_of_le (by omega) (by omega)]
  · -- iadd
    have hn : nx = pc0 + 1 := Nat.eq_of_beq_eq_true hiok
    obtain ⟨x, y, r, rfl, h1, h2⟩ := jm_b2_inv h
    subst hn
    have key := h2 hlen hσ hls (jm_cons h1 (jm_tl (jm_tl hst))) H locs lsA hP hS hL
    rw [List.map_cons, show jm_cv o ad (.inl (x + y)) = .int (Int32.ofInt x + Int32.ofInt y) by rw [← Int32.ofInt_add]; rfl] at key
    exact lv_iadd hx hb (hd1 rfl) key
  · have hn : nx = pc0 + 1 := Nat.eq_of_beq_eq_true hiok
    obtain ⟨x, y, r, rfl, h1, h2⟩ := jm_b2_inv h
    subst hn
    have key := h2 hlen hσ hls (jm_cons h1 (jm_tl (jm_tl hst))) H locs lsA hP hS hL
    rw [List.map_cons, show jm_cv o ad (.inl (x - y)) = .int (Int32.ofInt x - Int32.ofInt y) by rw [← Int32.ofInt_sub]; rfl] at key
    exact lv_isub hx hb (hd1 rfl) key
  · have hn : nx = pc0 + 1 := Nat.eq_of_beq_eq_true hiok
    obtain ⟨x, y, r, rfl, h1, h2⟩ := jm_b2_inv h
    subst hn
    have key := h2 hlen hσ hls (jm_cons h1 (jm_tl (jm_tl hst))) H locs lsA hP hS hL
    rw [List.map_cons, show jm_cv o ad (.inl (x * y)) = .int (Int32.ofInt x * Int32.ofInt y) by rw [← Int32.ofInt_mul]; rfl] at key
    exact lv_imul hx hb (hd1 rfl) key
  · -- idiv
    have hn : nx = pc0 + 1 := Nat.eq_of_beq_eq_true hiok
    obtain ⟨x, y, r, rfl, h1, h2⟩ := jm_b2_inv h
    subst hn
    have hy := jm_hd hst
    have hxx := jm_hd (jm_tl hst)
    simp only [jm_okV] at hy hxx
    have h3 : x / y ≤ x := Int.ediv_le_self y h1.1
    have h4 : 0 ≤ x / y := Int.ediv_nonneg h1.1 (Int.le_of_lt h1.2)
    have key := h2 hlen hσ hls (jm_cons (show -2147483648 ≤ x / y ∧ x / y ≤ 2147483647 by omega) (jm_tl (jm_tl hst))) H locs lsA hP hS hL
    rw [List.map_cons, show jm_cv o ad (.inl (x / y)) = .int (Int32.ofInt x / Int32.ofInt y) by rw [ji_div h1.1 hxx.2 h1.2 hy.2]; rfl] at key
    exact lv_idiv hx hb (hd1 rfl) (ji_nz h1.2 hy.2) key
  · have hn : nx = pc0 + 1 := Nat.eq_of_beq_eq_true hiok
    obtain ⟨x, y, r, rfl, h1, h2⟩ := jm_b2_inv h
    subst hn
    have hy := jm_hd hst
    have hxx := jm_hd (jm_tl hst)
    simp only [jm_okV] at hy hxx
    have h3 : x % y < y := Int.emod_lt_of_pos x h1.2
    have h4 : 0 ≤ x % y := Int.emod_nonneg x (by omega)
    have key := h2 hlen hσ hls (jm_cons (show -2147483648 ≤ x % y ∧ x % y ≤ 2147483647 by omega) (jm_tl (jm_tl hst))) H locs lsA hP hS hL
    rw [List.map_cons, show jm_cv o ad (.inl (x % y)) = .int (Int32.ofInt x - Int32.ofInt x / Int32.ofInt y * Int32.ofInt y) by rw [ji_rem h1.1 hxx.2 h1.2 hy.2]; rfl] at key
    exact lv_irem hx hb (hd1 rfl) (ji_nz h1.2 hy.2) key
  · -- iand
    have hn : nx = pc0 + 1 := Nat.eq_of_beq_eq_true hiok
    obtain ⟨x, y, r, rfl, h1⟩ := jm_b2_inv h
    subst hn
    have hxx := jm_hd (jm_tl hst)
    simp only [jm_okV] at hxx
    split at h1
    · rename_i hy
      subst hy
      have key := h1 hlen hσ hls (jm_cons (show -2147483648 ≤ x % 8 ∧ x % 8 ≤ 2147483647 by omega) (jm_tl (jm_tl hst))) H locs lsA hP hS hL
      rw [List.map_cons, show jm_cv o ad (.inl (x % 8)) = .int (Int32.ofInt x &&& Int32.ofInt 7) by rw [ji_and7]; rfl] at key
      exact lv_iand hx hb (hd1 rfl) key
    · split at h1
      · rename_i hy
        subst hy
        have key := h1 hlen hσ hls (jm_cons (show -2147483648 ≤ x % 64 ∧ x % 64 ≤ 2147483647 by omega) (jm_tl (jm_tl hst))) H locs lsA hP hS hL
        rw [List.map_cons, show jm_cv o ad (.inl (x % 64)) = .int (Int32.ofInt x &&& Int32.ofInt 63) by rw [ji_and63]; rfl] at key
        exact lv_iand hx hb (hd1 rfl) key
      · split at h1
        · rename_i hy
          subst hy
          have key := h1 hlen hσ hls (jm_cons (show -2147483648 ≤ x - x % 8 ∧ x - x % 8 ≤ 2147483647 by omega) (jm_tl (jm_tl hst))) H locs lsA hP hS hL
          rw [List.map_cons, show jm_cv o ad (.inl (x - x % 8)) = .int (Int32.ofInt x &&& Int32.ofInt (-8)) by rw [ji_andm8]; rfl] at key
          exact lv_iand hx hb (hd1 rfl) key
        · exact h1.elim
  · -- ior
    have hn : nx = pc0 + 1 := Nat.eq_of_beq_eq_true hiok
    obtain ⟨x, y, r, rfl, h1, h2⟩ := jm_b2_inv h
    subst hn
    have key := h2 hlen hσ hls (jm_cons (show -2147483648 ≤ (if x = 0 then y else 1) ∧ (if x = 0 then y else 1) ≤ 2147483647 by split <;> omega) (jm_tl (jm_tl hst))) H locs lsA hP hS hL
    rw [List.map_cons, show jm_cv o ad (.inl (if x = 0 then y else 1)) = .int (Int32.ofInt x ||| Int32.ofInt y) by rw [ji_or h1]; rfl] at key
    exact lv_ior hx hb (hd1 rfl) key
  · -- ixor
    have hn : nx = pc0 + 1 := Nat.eq_of_beq_eq_true hiok
    obtain ⟨x, y, r, rfl, h1⟩ := jm_b2_inv h
    subst hn
    split at h1
    · rename_i hy
      subst hy
      obtain ⟨h0, h1⟩ := h1
      have key := h1 hlen hσ hls (jm_cons (show -2147483648 ≤ x + 1 - 2 * (x % 2) ∧ x + 1 - 2 * (x % 2) ≤ 2147483647 by omega) (jm_tl (jm_tl hst))) H locs lsA hP hS hL
      rw [List.map_cons, show jm_cv o ad (.inl (x + 1 - 2 * (x % 2))) = .int (Int32.ofInt x ^^^ Int32.ofInt 1) by rw [ji_xor1 h0]; rfl] at key
      exact lv_ixor hx hb (hd1 rfl) key
    · exact h1.elim
  · -- ishr
    have hn : nx = pc0 + 1 := Nat.eq_of_beq_eq_true hiok
    obtain ⟨x, y, r, rfl, h1⟩ := jm_b2_inv h
    subst hn
    have hxx := jm_hd (jm_tl hst)
    simp only [jm_okV] at hxx
    split at h1
    · rename_i hy
      subst hy
      have key := h1 hlen hσ hls (jm_cons (show -2147483648 ≤ x / 8 ∧ x / 8 ≤ 2147483647 by omega) (jm_tl (jm_tl hst))) H locs lsA hP hS hL
      rw [List.map_cons, show jm_cv o ad (.inl (x / 8)) = .int (Int32.ofInt x >>> (Int32.ofInt 3 &&& 31)) by rw [ji_shr3 hxx]; rfl] at key
      exact lv_ishr hx hb (hd1 rfl) key
    · split at h1
      · rename_i hy
        subst hy
        have key := h1 hlen hσ hls (jm_cons (show -2147483648 ≤ x / 64 ∧ x / 64 ≤ 2147483647 by omega) (jm_tl (jm_tl hst))) H locs lsA hP hS hL
        rw [List.map_cons, show jm_cv o ad (.inl (x / 64)) = .int (Int32.ofInt x >>> (Int32.ofInt 6 &&& 31)) by rw [ji_shr6 hxx]; rfl] at key
        exact lv_ishr hx hb (hd1 rfl) key
      · exact h1.elim
  · -- i2b
    have hn : nx = pc0 + 1 := Nat.eq_of_beq_eq_true hiok
    obtain ⟨x, r, rfl, h1, h2⟩ := jm_b1_inv h
    subst hn
    exact lv_i2b hx hb (hd1 rfl) (ji_b h1) (h2 hlen hσ hls hst H locs lsA hP hS hL)
  · have hn : nx = pc0 + 1 := Nat.eq_of_beq_eq_true hiok
    obtain ⟨x, r, rfl, h1, h2⟩ := jm_b1_inv h
    subst hn
    exact lv_i2s hx hb (hd1 rfl) (ji_s h1) (h2 hlen hσ hls hst H locs lsA hP hS hL)
  · -- dup
    have hn : nx = pc0 + 1 := Nat.eq_of_beq_eq_true hiok
    subst hn
    split at h
    · exact lv_dup hx hb (hd1 rfl) (jm_cat _ _ _) (h hlen hσ hls (jm_cons (jm_hd hst) hst) H locs lsA hP hS hL)
    · exact h.elim
  · have hn : nx = pc0 + 1 := Nat.eq_of_beq_eq_true hiok
    subst hn
    split at h
    · exact lv_dup2_11 hx hb (hd1 rfl) (jm_cat _ _ _) (jm_cat _ _ _) (h hlen hσ hls (jm_cons (jm_hd hst) (jm_cons (jm_hd (jm_tl hst)) hst)) H locs lsA hP hS hL)
    · exact h.elim
  · have hn : nx = pc0 + 1 := Nat.eq_of_beq_eq_true hiok
    subst hn
    split at h
    · exact lv_dup_x1 hx hb (hd1 rfl) (jm_cat _ _ _) (jm_cat _ _ _) (h hlen hσ hls (jm_cons (jm_hd hst) (jm_cons (jm_hd (jm_tl hst)) (jm_cons (jm_hd hst) (jm_tl (jm_tl hst))))) H locs lsA hP hS hL)
    · exact h.elim
  · -- goto
    unfold jm_iok at hiok
    simp only [Bool.and_eq_true] at hiok
    obtain ⟨t, u, rfl, h1⟩ := jm_t1_inv h
    have hn : nx = pc0 + 3 := Nat.eq_of_beq_eq_true hiok.2
    have ht := jm_jok_at hiok.1
    subst hn
    exact lv_goto hx hb (hd3 rfl) ht (h1 hlen hσ hls hst H locs lsA hP hS hL)
  · -- ifCond
    rename_i cd off
    unfold jm_iok at hiok
    simp only [Bool.and_eq_true] at hiok
    obtain ⟨t, u, rfl, h1⟩ := jm_t1_inv h
    have hn : nx = pc0 + 3 := Nat.eq_of_beq_eq_true hiok.2
    have ht := jm_jok_at hiok.1
    subst hn
    obtain ⟨x, r, rfl, h2⟩ := jm_b1_inv h1
    have hv : -2147483648 ≤ x ∧ x ≤ 2147483647 := jm_hd hst
    have h0 : (-2147483648 : Int) ≤ 0 ∧ (0 : Int) ≤ 2147483647 := by decide
    have hr := jm_tl hst
    cases cd
    · refine lv_if_eq hx hb (hd3 rfl) ht (fun q => h2.1 ?_ hlen hσ hls hr H locs lsA hP hS hL) (fun q => h2.2 ?_ hlen hσ hls hr H locs lsA hP hS hL) <;> (rw [← ji_0, ji_eq hv h0] at q; omega)
    · refine lv_if_ne hx hb (hd3 rfl) ht (fun q => h2.1 ?_ hlen hσ hls hr H locs lsA hP hS hL) (fun q => h2.2 ?_ hlen hσ hls hr H locs lsA hP hS hL) <;> (rw [← ji_0, ji_eq hv h0] at q; omega)
    · refine lv_if_lt hx hb (hd3 rfl) ht (fun q => h2.1 ?_ hlen hσ hls hr H locs lsA hP hS hL) (fun q => h2.2 ?_ hlen hσ hls hr H locs lsA hP hS hL) <;> (rw [← ji_0, ji_lt hv h0] at q; omega)
    · refine lv_if_ge hx hb (hd3 rfl) ht (fun q => h2.1 ?_ hlen hσ hls hr H locs lsA hP hS hL) (fun q => h2.2 ?_ hlen hσ hls hr H locs lsA hP hS hL) <;> (rw [← ji_0, ji_le h0 hv] at q; omega)
    · refine lv_if_gt hx hb (hd3 rfl) ht (fun q => h2.1 ?_ hlen hσ hls hr H locs lsA hP hS hL) (fun q => h2.2 ?_ hlen hσ hls hr H locs lsA hP hS hL) <;> (rw [← ji_0, ji_lt h0 hv] at q; omega)
    · refine lv_if_le hx hb (hd3 rfl) ht (fun q => h2.1 ?_ hlen hσ hls hr H locs lsA hP hS hL) (fun q => h2.2 ?_ hlen hσ hls hr H locs lsA hP hS hL) <;> (rw [← ji_0, ji_le hv h0] at q; omega)
  · -- if_icmp
    rename_i cd off
    unfold jm_iok at hiok
    simp only [Bool.and_eq_true] at hiok
    obtain ⟨t, u, rfl, h1⟩ := jm_t1_inv h
    have hn : nx = pc0 + 3 := Nat.eq_of_beq_eq_true hiok.2
    have ht := jm_jok_at hiok.1
    subst hn
    obtain ⟨x, y, r, rfl, h2⟩ := jm_b2_inv h1
    have hw : -2147483648 ≤ y ∧ y ≤ 2147483647 := jm_hd hst
    have hv : -2147483648 ≤ x ∧ x ≤ 2147483647 := jm_hd (jm_tl hst)
    have hr := jm_tl (jm_tl hst)
    cases cd
    · refine lv_icmp_eq hx hb (hd3 rfl) ht (fun q => h2.1 ?_ hlen hσ hls hr H locs lsA hP hS hL) (fun q => h2.2 ?_ hlen hσ hls hr H locs lsA hP hS hL) <;> (rw [ji_eq hv hw] at q; omega)
    · refine lv_icmp_ne hx hb (hd3 rfl) ht (fun q => h2.1 ?_ hlen hσ hls hr H locs lsA hP hS hL) (fun q => h2.2 ?_ hlen hσ hls hr H locs lsA hP hS hL) <;> (rw [ji_eq hv hw] at q; omega)
    · refine lv_icmp_lt hx hb (hd3 rfl) ht (fun q => h2.1 ?_ hlen hσ hls hr H locs lsA hP hS hL) (fun q => h2.2 ?_ hlen hσ hls hr H locs lsA hP hS hL) <;> (rw [ji_lt hv hw] at q; omega)
    · refine lv_icmp_ge hx hb (hd3 rfl) ht (fun q => h2.1 ?_ hlen hσ hls hr H locs lsA hP hS hL) (fun q => h2.2 ?_ hlen hσ hls hr H locs lsA hP hS hL) <;> (rw [ji_le hw hv] at q; omega)
    · refine lv_icmp_gt hx hb (hd3 rfl) ht (fun q => h2.1 ?_ hlen hσ hls hr H locs lsA hP hS hL) (fun q => h2.2 ?_ hlen hσ hls hr H locs lsA hP hS hL) <;> (rw [ji_lt hw hv] at q; omega)
    · refine lv_icmp_le hx hb (hd3 rfl) ht (fun q => h2.1 ?_ hlen hσ hls hr H locs lsA hP hS hL) (fun q => h2.2 ?_ hlen hσ hls hr H locs lsA hP hS hL) <;> (rw [ji_le hv hw] at q; omega)
  · -- tableswitch
    rename_i dfl lo hi offs
    unfold jm_iok at hiok
    split at h
    · rename_i t us
      simp only [Bool.and_eq_true, decide_eq_true_eq] at hiok
      obtain ⟨⟨⟨⟨k1, k2⟩, k3⟩, k4⟩, k5⟩ := hiok
      obtain ⟨x, r, rfl, h1, h2⟩ := jm_b1_inv h
      have hv : -2147483648 ≤ x ∧ x ≤ 2147483647 := jm_hd hst
      have hr := jm_tl hst
      by_cases ho : x < lo ∨ hi < x
      · exact lv_tableOut (x := Int32.ofInt x) hx hb hdec (by rw [ji_t hv]; exact ho) k1 (h2 ho hlen hσ hls hr H locs lsA hP hS hL)
      · obtain ⟨t', e1, e2⟩ := jm_sw_at us lo h1 (by omega) (by omega)
        have e3 : (us.map (fun u : Nat => (u : Int)))[(x - lo).toNat]? = some (t' : Int) := by rw [List.getElem?_map, e1]; rfl
        rw [← k2, List.getElem?_map] at e3
        cases e4 : offs.toList[(x - lo).toNat]? with
        | none => rw [e4] at e3; cases e3
        | some off =>
          rw [e4] at e3
          exact lv_tableIn (x := Int32.ofInt x) (off := off) hx hb hdec (by rw [ji_t hv]; omega) (by rw [ji_t hv]; omega) (by rw [ji_t hv, ← Array.getElem?_toList]; exact e4) (Option.some.inj e3) (e2 hlen hσ hls hr H locs lsA hP hS hL)
    · exact h.elim
  · -- getfield
    rename_i i
    have hn : nx = pc0 + 3 := Nat.eq_of_beq_eq_true hiok
    subst hn
    obtain ⟨r, rfl, h1⟩ := jm_ob_inv h
    obtain ⟨k, hk, h2⟩ := jm_fd_inv h1
    obtain ⟨hkN, hlk⟩ := hCfi i k hk
    have hr := jm_tl hst
    cases hb0 : Nat.beq (D k).2.1 0 with
    | false =>
      rw [hb0] at h2
      have key := h2 hlen hσ hls (jm_cons (a := .inr (some k)) trivial hr) H locs lsA hP hS hL
      exact va_get (D := G) (ci := ci) (v := .ref (ad k)) (C := C) (T := T) (N := N) hx hb hts hCin hown hK hP 0 rfl hCc k hkN (hts _ hlk) (by rw [hCT k hkN]; exact fun _ q => q) (by rw [jm_fs_at hkN, hb0]; rfl) (hd3 rfl) key
    | true =>
      rw [hb0] at h2
      have h3 := hσ k 0 (by omega) (Or.inr rfl)
      have key := h2 _ rfl h3.1 h3.2 hlen hσ hls (jm_cons (a := .inl (σ k 0)) (jm_rg_int (hCr k) h3.1 h3.2) hr) H locs lsA hP hS hL
      exact va_get (D := G) (ci := ci) (v := .int (Int32.ofInt (σ k 0))) (C := C) (T := T) (N := N) hx hb hts hCin hown hK hP 0 rfl hCc k hkN (hts _ hlk) (by rw [hCT k hkN]; exact fun _ q => q) (by rw [jm_fs_at hkN, hb0]; rfl) (hd3 rfl) key
  · -- putfield
    rename_i i
    have hn : nx = pc0 + 3 := Nat.eq_of_beq_eq_true hiok
    subst hn
    obtain ⟨v, r0, rfl, h0⟩ := jm_b1_inv h
    obtain ⟨r, rfl, h1⟩ := jm_ob_inv h0
    obtain ⟨k, hk, h2⟩ := jm_fd_inv h1
    obtain ⟨hkN, hlk⟩ := hCfi i k hk
    obtain ⟨hb0, h3, h4⟩ := jm_bif_inv h2
    have h00 : (D k).2.1 = 0 := Nat.eq_of_beq_eq_true hb0
    obtain ⟨hf, hty⟩ := hCp k hkN h00
    have hv : -2147483648 ≤ v ∧ v ≤ 2147483647 := jm_hd hst
    have hnar : narrow (D k).1 (.int (Int32.ofInt v)) = .int (Int32.ofInt v) ∧ fits (D k).1 (.int (Int32.ofInt v)) = true := by
      have hg := hCr k
      revert hg h3
      generalize D k = F
      obtain ⟨ty, n, lo, hi⟩ := F
      intro h3 hg
      exact jm_nf hg h3.1 h3.2
    refine va_put (D := G) (ci := ci) (v := .int (Int32.ofInt v)) (ty := (D k).1) (C := C) (T := T) (N := N) hx hb hts hCin ty0 hCty hCnm hown hK hP (hD σ) hS 0 rfl hCc k hkN (hts _ hlk) (by rw [hCT k hkN]; exact fun _ q => q) hf (by rw [hCty k hkN, hty]) hnar.1 hnar.2 (by simp [jm_fs, hkN]) (hd3 rfl) (fun H1 locs1 hP1 hD1 hS1 => ?_)
    rw [jm_pic_put hkN h00 hCb] at hP1
    exact h4 hlen (hσ.up h3) hls (jm_tl (jm_tl hst)) H1 locs1 lsA hP1 hS1 hL
  · -- baload
    have hn : nx = pc0 + 1 := Nat.eq_of_beq_eq_true hiok
    subst hn
    obtain ⟨k, i, r, rfl, h1⟩ := jm_ix_inv h
    obtain ⟨hb0, hi2, h2⟩ := jm_bif_inv (b := jm_bz (D k).1) (p := (0 ≤ i ∧ i < ((D k).2.1 : Int)) ∧ ∀ v : Int, v = σ k i → (D k).2.2.1 ≤ v → v ≤ (D k).2.2.2 → jm_W p l e R s m args below meth c (MQ below Qc args s cn sn A) G cl D N ks ci o ad cA A nL cn sn (pc0 + 1) ls (.inl v :: r) σ) h1
    have hiv : -2147483648 ≤ i ∧ i ≤ 2147483647 := jm_hd hst
    have hkk : k ∈ ks := hCa k (fun q => by rw [q] at hi2; omega)
    obtain ⟨q, hq1, hq2, hq3, hq4⟩ := jm_pic_arr (D := D) (N := N) (ci := ci) (o := o) (ad := ad) (cA := cA) (σ := σ) hkk
    have h3 := hσ k i hi2.1 (Or.inl hi2.2)
    have key := h2 _ rfl h3.1 h3.2 hlen hσ hls (jm_cons (a := .inl (σ k i)) (jm_rg_int (hCr k) h3.1 h3.2) (jm_tl (jm_tl hst))) H locs lsA hP hS hL
    have e1 : ((Int32.ofInt i).toNatClampNeg : Int) = i := by rw [ji_cl hiv]; omega
    rw [List.map_cons, show jm_cv o ad (.inl (σ k i)) = .int ((fun j : Nat => Int32.ofInt (σ k (j : Int))) (Int32.ofInt i).toNatClampNeg) by show _ = Value.int (Int32.ofInt (σ k (((Int32.ofInt i).toNatClampNeg : Nat) : Int))); rw [e1]; rfl] at key
    rcases jm_bz_inv hb0 with ht | ht
    · rw [ht] at hq2
      exact va_bald (D := G) hx hb hK hP q (q - 1) hq1 hq2 (ji_in hiv hi2.1 hi2.2) (hd1 rfl) key
    · rw [ht] at hq2
      exact va_zald (D := G) hx hb hK hP q (q - 1) hq1 hq2 (ji_in hiv hi2.1 hi2.2) (hd1 rfl) key
  · -- iaload
    have hn : nx = pc0 + 1 := Nat.eq_of_beq_eq_true hiok
    subst hn
    obtain ⟨k, i, r, rfl, h1⟩ := jm_ix_inv h
    obtain ⟨hb0, hi2, h2⟩ := jm_bif_inv (b := jm_bi (D k).1) (p := (0 ≤ i ∧ i < ((D k).2.1 : Int)) ∧ ∀ v : Int, v = σ k i → (D k).2.2.1 ≤ v → v ≤ (D k).2.2.2 → jm_W p l e R s m args below meth c (MQ below Qc args s cn sn A) G cl D N ks ci o ad cA A nL cn sn (pc0 + 1) ls (.inl v :: r) σ) h1
    have hiv : -2147483648 ≤ i ∧ i ≤ 2147483647 := jm_hd hst
    have hkk : k ∈ ks := hCa k (fun q => by rw [q] at hi2; omega)
    obtain ⟨q, hq1, hq2, hq3, hq4⟩ := jm_pic_arr (D := D) (N := N) (ci := ci) (o := o) (ad := ad) (cA := cA) (σ := σ) hkk
    have h3 := hσ k i hi2.1 (Or.inl hi2.2)
    have key := h2 _ rfl h3.1 h3.2 hlen hσ hls (jm_cons (a := .inl (σ k i)) (jm_rg_int (hCr k) h3.1 h3.2) (jm_tl (jm_tl hst))) H locs lsA hP hS hL
    have e1 : ((Int32.ofInt i).toNatClampNeg : Int) = i := by rw [ji_cl hiv]; omega
    rw [List.map_cons, show jm_cv o ad (.inl (σ k i)) = .int ((fun j : Nat => Int32.ofInt (σ k (j : Int))) (Int32.ofInt i).toNatClampNeg) by show _ = Value.int (Int32.ofInt (σ k (((Int32.ofInt i).toNatClampNeg : Nat) : Int))); rw [e1]; rfl] at key
    rw [jm_bi_inv hb0] at hq2
    exact va_iald (D := G) hx hb hK hP q (q - 1) hq1 hq2 (ji_in hiv hi2.1 hi2.2) (hd1 rfl) key
  · -- saload
    have hn : nx = pc0 + 1 := Nat.eq_of_beq_eq_true hiok
    subst hn
    obtain ⟨k, i, r, rfl, h1⟩ := jm_ix_inv h
    obtain ⟨hb0, hi2, h2⟩ := jm_bif_inv (b := jm_bs (D k).1) (p := (0 ≤ i ∧ i < ((D k).2.1 : Int)) ∧ ∀ v : Int, v = σ k i → (D k).2.2.1 ≤ v → v ≤ (D k).2.2.2 → jm_W p l e R s m args below meth c (MQ below Qc args s cn sn A) G cl D N ks ci o ad cA A nL cn sn (pc0 + 1) ls (.inl v :: r) σ) h1
    have hiv : -2147483648 ≤ i ∧ i ≤ 2147483647 := jm_hd hst
    have hkk : k ∈ ks := hCa k (fun q => by rw [q] at hi2; omega)
    obtain ⟨q, hq1, hq2, hq3, hq4⟩ := jm_pic_arr (D := D) (N := N) (ci := ci) (o := o) (ad := ad) (cA := cA) (σ := σ) hkk
    have h3 := hσ k i hi2.1 (Or.inl hi2.2)
    have key := h2 _ rfl h3.1 h3.2 hlen hσ hls (jm_cons (a := .inl (σ k i)) (jm_rg_int (hCr k) h3.1 h3.2) (jm_tl (jm_tl hst))) H locs lsA hP hS hL
    have e1 : ((Int32.ofInt i).toNatClampNeg : Int) = i := by rw [ji_cl hiv]; omega
    rw [List.map_cons, show jm_cv o ad (.inl (σ k i)) = .int ((fun j : Nat => Int32.ofInt (σ k (j : Int))) (Int32.ofInt i).toNatClampNeg) by show _ = Value.int (Int32.ofInt (σ k (((Int32.ofInt i).toNatClampNeg : Nat) : Int))); rw [e1]; rfl] at key
    rw [jm_bs_inv hb0] at hq2
    exact va_sald (D := G) hx hb hK hP q (q - 1) hq1 hq2 (ji_in hiv hi2.1 hi2.2) (hd1 rfl) key
  · -- bastore
    have hn : nx = pc0 + 1 := Nat.eq_of_beq_eq_true hiok
    subst hn
    obtain ⟨v, r0, rfl, h0⟩ := jm_b1_inv h
    obtain ⟨k, i, r, rfl, h1⟩ := jm_ix_inv h0
    obtain ⟨hb0, hi2, h2, h4⟩ := jm_bif_inv (b := jm_bz (D k).1) (p := (0 ≤ i ∧ i < ((D k).2.1 : Int)) ∧ ((D k).2.2.1 ≤ v ∧ v ≤ (D k).2.2.2) ∧ jm_W p l e R s m args below meth c (MQ below Qc args s cn sn A) G cl D N ks ci o ad cA A nL cn sn (pc0 + 1) ls r (jm_up σ k i v)) h1
    have hiv : -2147483648 ≤ i ∧ i ≤ 2147483647 := jm_hd (jm_tl hst)
    have hkk : k ∈ ks := hCa k (fun q => by rw [q] at hi2; omega)
    obtain ⟨q, hq1, hq2, hq3, hq4⟩ := jm_pic_arr (D := D) (N := N) (ci := ci) (o := o) (ad := ad) (cA := cA) (σ := σ) hkk
    have hgr := hCr k
    have e0 : (Int32.ofInt i).toNatClampNeg = i.toNat := ji_cl hiv
    have e1 : (jm_pic D N ks ci o ad cA σ).set q (ad k, .inl (cA k, (D k).2.1, .inl (upd (fun j : Nat => Int32.ofInt (σ k (j : Int))) (Int32.ofInt i).toNatClampNeg (Int32.ofInt v)))) = jm_pic D N ks ci o ad cA (jm_up σ k i v) := by
      rw [← jm_pic_set hCks hq4 hq3 (hCb k hkk)]
      congr 4
      rw [jm_updf hi2.1, e0]
    rcases jm_bz_inv hb0 with ht | ht
    · rw [ht] at hq2
      have hg2 := jm_rg_b ht hgr
      refine va_bast (D := G) (x := Int32.ofInt v) hx hb hK hP (hD σ) hS q (q - 1) hq1 hq2 (ji_in hiv hi2.1 hi2.2) (hd1 rfl) (fun H1 locs1 hP1 hD1 hS1 => ?_)
      rw [ji_narB ⟨by omega, by omega⟩, e1] at hP1
      exact h4 hlen (hσ.up h2) hls (jm_tl (jm_tl (jm_tl hst))) H1 locs1 lsA hP1 hS1 hL
    · rw [ht] at hq2
      have hg2 := jm_rg_z ht hgr
      refine va_zast (D := G) (x := Int32.ofInt v) hx hb hK hP (hD σ) hS q (q - 1) hq1 hq2 (ji_in hiv hi2.1 hi2.2) (hd1 rfl) (fun H1 locs1 hP1 hD1 hS1 => ?_)
      rw [ji_narZ ⟨by omega, by omega⟩, e1] at hP1
      exact h4 hlen (hσ.up h2) hls (jm_tl (jm_tl (jm_tl hst))) H1 locs1 lsA hP1 hS1 hL
  · -- iastore
    have hn : nx = pc0 + 1 := Nat.eq_of_beq_eq_true hiok
    subst hn
    obtain ⟨v, r0, rfl, h0⟩ := jm_b1_inv h
    obtain ⟨k, i, r, rfl, h1⟩ := jm_ix_inv h0
    obtain ⟨hb0, hi2, h2, h4⟩ := jm_bif_inv (b := jm_bi (D k).1) (p := (0 ≤ i ∧ i < ((D k).2.1 : Int)) ∧ ((D k).2.2.1 ≤ v ∧ v ≤ (D k).2.2.2) ∧ jm_W p l e R s m args below meth c (MQ below Qc args s cn sn A) G cl D N ks ci o ad cA A nL cn sn (pc0 + 1) ls r (jm_up σ k i v)) h1
    have hiv : -2147483648 ≤ i ∧ i ≤ 2147483647 := jm_hd (jm_tl hst)
    have hkk : k ∈ ks := hCa k (fun q => by rw [q] at hi2; omega)
    obtain ⟨q, hq1, hq2, hq3, hq4⟩ := jm_pic_arr (D := D) (N := N) (ci := ci) (o := o) (ad := ad) (cA := cA) (σ := σ) hkk
    have hgr := hCr k
    have e0 : (Int32.ofInt i).toNatClampNeg = i.toNat := ji_cl hiv
    have e1 : (jm_pic D N ks ci o ad cA σ).set q (ad k, .inl (cA k, (D k).2.1, .inl (upd (fun j : Nat => Int32.ofInt (σ k (j : Int))) (Int32.ofInt i).toNatClampNeg (Int32.ofInt v)))) = jm_pic D N ks ci o ad cA (jm_up σ k i v) := by
      rw [← jm_pic_set hCks hq4 hq3 (hCb k hkk)]
      congr 4
      rw [jm_updf hi2.1, e0]
    rw [jm_bi_inv hb0] at hq2
    refine va_iast (D := G) (x := Int32.ofInt v) hx hb hK hP (hD σ) hS q (q - 1) hq1 hq2 (ji_in hiv hi2.1 hi2.2) (hd1 rfl) (fun H1 locs1 hP1 hD1 hS1 => ?_)
    rw [e1] at hP1
    exact h4 hlen (hσ.up h2) hls (jm_tl (jm_tl (jm_tl hst))) H1 locs1 lsA hP1 hS1 hL
  · -- sastore
    have hn : nx = pc0 + 1 := Nat.eq_of_beq_eq_true hiok
    subst hn
    obtain ⟨v, r0, rfl, h0⟩ := jm_b1_inv h
    obtain ⟨k, i, r, rfl, h1⟩ := jm_ix_inv h0
    obtain ⟨hb0, hi2, h2, h4⟩ := jm_bif_inv (b := jm_bs (D k).1) (p := (0 ≤ i ∧ i < ((D k).2.1 : Int)) ∧ ((D k).2.2.1 ≤ v ∧ v ≤ (D k).2.2.2) ∧ jm_W p l e R s m args below meth c (MQ below Qc args s cn sn A) G cl D N ks ci o ad cA A nL cn sn (pc0 + 1) ls r (jm_up σ k i v)) h1
    have hiv : -2147483648 ≤ i ∧ i ≤ 2147483647 := jm_hd (jm_tl hst)
    have hkk : k ∈ ks := hCa k (fun q => by rw [q] at hi2; omega)
    obtain ⟨q, hq1, hq2, hq3, hq4⟩ := jm_pic_arr (D := D) (N := N) (ci := ci) (o := o) (ad := ad) (cA := cA) (σ := σ) hkk
    have hgr := hCr k
    have e0 : (Int32.ofInt i).toNatClampNeg = i.toNat := ji_cl hiv
    have e1 : (jm_pic D N ks ci o ad cA σ).set q (ad k, .inl (cA k, (D k).2.1, .inl (upd (fun j : Nat => Int32.ofInt (σ k (j : Int))) (Int32.ofInt i).toNatClampNeg (Int32.ofInt v)))) = jm_pic D N ks ci o ad cA (jm_up σ k i v) := by
      rw [← jm_pic_set hCks hq4 hq3 (hCb k hkk)]
      congr 4
      rw [jm_updf hi2.1, e0]
    have ht := jm_bs_inv hb0
    rw [ht] at hq2
    have hg2 := jm_rg_s ht hgr
    refine va_sast (D := G) (x := Int32.ofInt v) hx hb hK hP (hD σ) hS q (q - 1) hq1 hq2 (ji_in hiv hi2.1 hi2.2) (hd1 rfl) (fun H1 locs1 hP1 hD1 hS1 => ?_)
    rw [ji_narS ⟨by omega, by omega⟩, e1] at hP1
    exact h4 hlen (hσ.up h2) hls (jm_tl (jm_tl (jm_tl hst))) H1 locs1 lsA hP1 hS1 hL
  · -- invokestatic
    rename_i i
    have hn : nx = pc0 + 3 := Nat.eq_of_beq_eq_true hiok
    subst hn
    split at h
    · rename_i n void pre post hcl
      split at h
      · rename_i as r hpop
        obtain ⟨hb0, h1, h2⟩ := jm_bif_inv h
        obtain ⟨bs, k1, k2, k3⟩ := jm_pop_inv (o := o) (ad := ad) n st [] as r hpop
        rw [List.append_nil] at k2
        subst k2
        subst k3
        obtain ⟨y, bytes, maxL, ret, v, hv, hM, ⟨g1, g2, g3, -, g5, g6, g7, g8⟩, hyC⟩ := hcal i _ hcl
        have has : ∀ x ∈ as, -2147483648 ≤ x ∧ x ≤ 2147483647 := fun x hx => hst (.inl x) (List.mem_append_left _ (List.mem_map.mpr ⟨x, List.mem_reverse.mpr hx, rfl⟩))
        have hr : ∀ v ∈ r, jm_okV v := fun v hv => hst v (List.mem_append_right _ hv)
        rw [jm_ps]
        have hFc : ∀ q, va_A (jm_pic D N ks ci o ad cA σ) H.size q → A q := fun q hq => by
          rcases hq with ⟨k, e, hk⟩ | hq
          · exact (hD σ).2 k (q, e) hk
          · exact hA q (Nat.le_trans hS.1 hq)
        have hrun := va_runS (p := p) (l := l) (e := e) (R := R) (below := below) (meth := meth) (H := H) (locs := locs) (cells := cn) (slots := sn) (g := F0 m pc0 lsA ((as.map fun x => Value.int (Int32.ofInt x)).reverse ++ r.map (jm_cv o ad))) (rest := r.map (jm_cv o ad)) (As := as.map fun x => Value.int (Int32.ofInt x)) (nL := nL) (Ts := lw_g) (own := C) ⟨hx, hb, hml, hown, hts⟩
          (hM l G o ad cA H.size σ as k1 has hσ h1) (n := n) (index := i) (bytes := bytes) (maxL := maxL) (ret := ret)
          ⟨callB_of n hts (jm_good y bytes maxL ret (fun _ q => q) g2) rfl rfl rfl (hts _ g5) (hts _ g1) g6 ⟨by have := hR.1; show v + 1 ≤ R.frames; omega, by have := hR.1; show 8 + (maxL + 11) + 40 * v ≤ R.locals; omega⟩, hts _ (g3 rfl)⟩
          ⟨fun a U g mk q => by obtain ⟨q0, q1, qP, qK, qD⟩ := q; exact ⟨q0, q1, qP, va_K.moved (u := U) (U := U.calling g mk a) (Vm.Alike.refl U.vm) qK, qD⟩, fun U hU hW => ⟨rfl, by rw [hU], by rw [hU]; exact hP, va_K.moved hW.alike hK, (hD σ).weaken (fun _ _ _ _ => trivial)⟩⟩
          rfl (by rw [List.length_map]; exact k1) (by show lsA.size = nL; rw [hL.1, hlen]) rfl (lv_room (by rw [jm_len_sum]; exact Nat.le_of_ble_eq_true hb0)) (hd3 rfl) hR.2
        refine jm_callw hrun hS (fun q _ h => hFc q h) hFc (fun x u H1 locs1 hx1 hu hpo hP1 _ _ hS1 => ?_)
        cases hvd : void with
        | true =>
          rw [hvd] at h2
          have hr0 : ret = none := g7.mp hvd
          subst hr0
          exact h2 x u hu hpo hlen hu hls hr H1 locs1 lsA hP1 hS1 hL
        | false =>
          rw [hvd] at h2
          cases ret with
          | none => exact absurd (g7.mpr rfl) (by rw [show (true, n, void, pre, post).2.2.1 = void from rfl, hvd]; decide)
          | some ty => exact h2 x u hu hpo hlen hu hls (jm_cons hx1 hr) H1 locs1 lsA hP1 hS1 hL
      · exact h.elim
    · exact h.elim
  · -- invokevirtual
    rename_i i
    have hn : nx = pc0 + 3 := Nat.eq_of_beq_eq_true hiok
    subst hn
    split at h
    · rename_i n void pre post hcl
      split at h
      · rename_i as r0 hpop
        obtain ⟨bs, k1, k2, k3⟩ := jm_pop_inv (o := o) (ad := ad) n st [] as r0 hpop
        rw [List.append_nil] at k2
        subst k2
        obtain ⟨r, rfl, h⟩ := jm_ob_inv h
        obtain ⟨hb0, h1, h2⟩ := jm_bif_inv h
        subst k3
        obtain ⟨y, bytes, maxL, ret, v, hv, hM, ⟨g1, g2, -, g4, g5, g6, g7, g8⟩, hyC⟩ := hcal i _ hcl
        have has : ∀ x ∈ as, -2147483648 ≤ x ∧ x ≤ 2147483647 := fun x hx => hst (.inl x) (List.mem_append_left _ (List.mem_map.mpr ⟨x, List.mem_reverse.mpr hx, rfl⟩))
        have hr : ∀ v ∈ r, jm_okV v := fun v hv => hst v (List.mem_append_right _ (List.mem_cons_of_mem _ hv))
        rw [jm_ps]
        have hFc : ∀ q, va_A (jm_pic D N ks ci o ad cA σ) H.size q → A q := fun q hq => by
          rcases hq with ⟨k, e, hk⟩ | hq
          · exact (hD σ).2 k (q, e) hk
          · exact hA q (Nat.le_trans hS.1 hq)
        have hrun := va_runV (p := p) (l := l) (e := e) (R := R) (below := below) (meth := meth) (H := H) (locs := locs) (cells := cn) (slots := sn) (b := o) (C := C) (g := F0 m pc0 lsA ((as.map fun x => Value.int (Int32.ofInt x)).reverse ++ (Sum.inr none :: r).map (jm_cv o ad))) (rest := r.map (jm_cv o ad)) (As := as.map fun x => Value.int (Int32.ofInt x)) (nL := nL) (Ts := lw_g) (own := C) ⟨hx, hb, hml, hown, hts⟩
          (hM l G o ad cA H.size σ as k1 has hσ h1) (n := n) (index := i) (bytes := bytes) (maxL := maxL) (ret := ret)
          ⟨callB_of n hts (jm_good y bytes maxL ret (fun _ q => q) g2) rfl rfl rfl (hts _ g5) (hts _ g1) g6 ⟨by have := hR.1; show v + 1 ≤ R.frames; omega, by have := hR.1; show 8 + (maxL + 11) + 40 * v ≤ R.locals; omega⟩, hts _ (g4 rfl).1, by rw [← hyC]; exact hts _ (g4 rfl).2⟩
          ⟨fun a U g mk q => by obtain ⟨q0, q1, qP, qK, qD⟩ := q; exact ⟨q0, q1, qP, va_K.moved (u := U) (U := U.calling g mk a) (Vm.Alike.refl U.vm) qK, qD⟩, va_recv hK hP (ci := ci) (q0 := 0) hCc rfl, fun U hU hW => ⟨rfl, by rw [hU], by rw [hU]; exact hP, va_K.moved hW.alike hK, (hD σ).weaken (fun _ _ _ _ => trivial)⟩⟩
          rfl (by rw [List.length_map]; exact k1) (by show lsA.size = nL; rw [hL.1, hlen]) rfl (lv_room (by rw [jm_len_sum]; exact Nat.le_of_ble_eq_true hb0)) (hd3 rfl) hR.2
        refine jm_callw hrun hS (fun q _ h => hFc q h) hFc (fun x u H1 locs1 hx1 hu hpo hP1 _ _ hS1 => ?_)
        cases hvd : void with
        | true =>
          rw [hvd] at h2
          have hr0 : ret = none := g7.mp hvd
          subst hr0
          exact h2 x u hu hpo hlen hu hls hr H1 locs1 lsA hP1 hS1 hL
        | false =>
          rw [hvd] at h2
          cases ret with
          | none => exact absurd (g7.mpr rfl) (by rw [show (false, n, void, pre, post).2.2.1 = void from rfl, hvd]; decide)
          | some ty => exact h2 x u hu hpo hlen hu hls (jm_cons hx1 hr) H1 locs1 lsA hP1 hS1 hL
      · exact h.elim
    · exact h.elim
  · -- ireturn
    have hn : nx = pc0 + 1 := Nat.eq_of_beq_eq_true hiok
    subst hn
    split at h
    · rename_i v
      have hv : -2147483648 ≤ v ∧ v ≤ 2147483647 := jm_hd hst
      rcases z with _ | _ | _
      · exact h.elim
      · have hq := hret v σ H locs hσ hv h hP hS
        subst hz
        exact W.iret (v := Int32.ofInt v) hx hb hrt hq hS.2.2 (hd1 rfl) hlocks
      · have hq := hret v σ H locs hσ hv h.2 hP hS
        subst hz
        exact W.zret (v := Int32.ofInt v) hx hb hrt (ji_nZ h.1) hq hS.2.2 (hd1 rfl) hlocks
    · exact h.elim
  · -- return
    have hn : nx = pc0 + 1 := Nat.eq_of_beq_eq_true hiok
    subst hn
    split at h
    · rcases z with _ | _ | _
      · have hq := hret 0 σ H locs hσ (by decide) h hP hS
        subst hz
        exact W.vret hx hb hrt hq hS.2.2 (hd1 rfl) hlocks
      · exact h.elim
      · exact h.elim
    · exact h.elim
  · exact h.elim
end JSOUND
def jm_cals (cl : List vw_C) (C : String) (D : Nat → jm_F) (N : Nat) (ks : List Nat) (ci : Nat) (lv : Nat) : List (Nat × jm_K) → Prop
  | [] => True
  | q :: r => jm_CalOK cl C D N ks ci lv q.1 q.2 ∧ jm_cals cl C D N ks ci lv r
theorem jm_cals_at {cl : List vw_C} {C : String} {D : Nat → jm_F} {N : Nat} {ks : List Nat} {ci : Nat} {lv : Nat} : ∀ {L : List (Nat × jm_K)}, jm_cals cl C D N ks ci lv L → ∀ (i : Nat) (sp : jm_K), jm_look L i = some sp → jm_CalOK cl C D N ks ci lv i sp
  | [], _, _, _, h => by cases h
  | q :: L, h, i, sp, hl => by
    unfold jm_look at hl
    cases hb : Nat.beq q.1 i
    · rw [hb] at hl
      exact jm_cals_at h.2 i sp hl
    · rw [hb] at hl
      cases hl
      have e := Nat.eq_of_beq_eq_true hb
      subst e
      exact h.1
/-- the locals at a method's entry -/
def jm_l0 (stat : Bool) (as : List Int) (maxL : Nat) : jm_L := (bif stat then [] else [some (.inr none)]) ++ as.map (fun x => some (.inl x)) ++ List.replicate (maxL - ((bif stat then 0 else 1) + as.length)) none
theorem lv_args_1 : ∀ (vs : List Value) (i : Nat), (∀ v ∈ vs, v.category = 1) → ∀ (j : Nat) (v : Value), vs[j]? = some v → (i + j, v) ∈ lv_args i vs
  | [], _, _, j, v, h => by simp at h
  | w :: vs, i, hc, 0, v, h => by
    simp at h
    subst h
    exact List.mem_cons_self
  | w :: vs, i, hc, j + 1, v, h => by
    have h1 : ¬ w.category = 2 := by rw [hc w List.mem_cons_self]; decide
    show _ ∈ (i, w) :: lv_args (if w.category = 2 then i + 2 else i + 1) vs
    rw [if_neg h1]
    have := lv_args_1 vs (i + 1) (fun v hv => hc v (List.mem_cons_of_mem _ hv)) j v (by simpa using h)
    rw [show i + (j + 1) = i + 1 + j by omega]
    exact List.mem_cons_of_mem _ this
theorem lg_sl_1 : ∀ (vs : List Value), (∀ v ∈ vs, v.category = 1) → (lg_sl vs).length = vs.length
  | [], _ => rfl
  | w :: vs, hc => by
    have h1 : ¬ w.category = 2 := by rw [hc w List.mem_cons_self]; decide
    have := lg_sl_1 vs (fun v hv => hc v (List.mem_cons_of_mem _ hv))
    simp only [lg_sl, List.flatMap_cons, if_neg h1] at this ⊢
    simp [this]
theorem jm_av_cat (stat : Bool) (o : Nat) (as : List Int) : ∀ v ∈ jm_av stat o as, v.category = 1 := by
  intro v hv
  unfold jm_av at hv
  rcases List.mem_append.mp hv with h | h
  · cases stat
    · simp at h; subst h; rfl
    · simp at h
  · obtain ⟨x, -, rfl⟩ := List.mem_map.mp h
    rfl
theorem jm_l0_av (stat : Bool) (o : Nat) (ad : Nat → Nat) (as : List Int) (maxL : Nat) (j : Nat) (v : jm_V) (h : (jm_l0 stat as maxL)[j]? = some (some v)) : (jm_av stat o as)[j]? = some (jm_cv o ad v) := by
  have e0 : jm_av stat o as = ((bif stat then [] else [(.inr none : jm_V)]) ++ as.map (fun x => (.inl x : jm_V))).map (jm_cv o ad) := by
    unfold jm_av
    cases stat <;> simp [jm_cv, Function.comp_def]
  have e1 : jm_l0 stat as maxL = ((bif stat then [] else [(.inr none : jm_V)]) ++ as.map (fun x => (.inl x : jm_V))).map some ++ List.replicate (maxL - ((bif stat then 0 else 1) + as.length)) none := by
    unfold jm_l0
    cases stat <;> simp [Function.comp_def]
  rw [e1] at h
  rw [e0]
  generalize ((bif stat then [] else [(.inr none : jm_V)]) ++ as.map (fun x => (.inl x : jm_V))) = L at h ⊢
  by_cases hj : j < L.length
  · rw [List.getElem?_append_left (by simpa using hj), List.getElem?_map] at h
    rw [List.getElem?_map]
    cases hL : L[j]? with
    | none => rw [hL] at h; cases h
    | some w => rw [hL] at h; simp at h; subst h; rfl
  · rw [List.getElem?_append_right (by simpa using hj)] at h
    rw [List.getElem?_replicate] at h
    split at h <;> simp at h
theorem jm_l0_len (stat : Bool) (as : List Int) (maxL : Nat) (h : (bif stat then 0 else 1) + as.length ≤ maxL) : (jm_l0 stat as maxL).length = maxL := by
  unfold jm_l0
  cases stat <;> simp at h ⊢ <;> omega
theorem jm_l0_ok (stat : Bool) (as : List Int) (maxL : Nat) (h : ∀ x ∈ as, -2147483648 ≤ x ∧ x ≤ 2147483647) (i : Nat) (v : jm_V) (hv : (jm_l0 stat as maxL)[i]? = some (some v)) : jm_okV v := by
  have h1 : some v ∈ jm_l0 stat as maxL := List.mem_of_getElem? hv
  unfold jm_l0 at h1
  rcases List.mem_append.mp h1 with h2 | h2
  · rcases List.mem_append.mp h2 with h3 | h3
    · cases stat
      · simp at h3; subst h3; trivial
      · simp at h3
    · obtain ⟨x, hx, e⟩ := List.mem_map.mp h3
      cases e
      exact h x hx
  · have := List.eq_of_mem_replicate h2
    cases this
set_option maxHeartbeats 4000000 in
/-- A CONTRACT OUT OF THE ABSTRACT MACHINE -/
theorem jm_con {cl : List vw_C} {C : String} {T : u_T} {N : Nat} {ty0 : Nat → FieldType} {D : Nat → jm_F} {fi : Nat → Option Nat} {ks : List Nat} {ci : Nat} {y : MethodName} {bytes : ByteArray} {maxL : Nat} {z : Option Bool} {lv : Nat} {sp : jm_K} {code : List jm_I} {L : List (Nat × jm_K)}
    (hCF : jm_CF cl C T N ty0 D fi ks ci) (hyC : y.cls = C) (hpl : plainName y.cls = true) (hchk : jm_chk bytes code = true) (hcal : jm_cals cl C D N ks ci lv L) (hn : (bif sp.1 then 0 else 1) + sp.2.1 ≤ maxL)
    (h : ∀ (σ : jm_S) (as : List Int), as.length = sp.2.1 → (∀ x ∈ as, -2147483648 ≤ x ∧ x ≤ 2147483647) → jm_okS D σ → sp.2.2.2.1 as σ → jm_Ok D fi (jm_look L) code z (fun r u => sp.2.2.2.2 as σ r u) 0 (jm_l0 sp.1 as maxL) [] σ) :
    jm_Con cl D N ks ci y bytes maxL (jm_rt z) lv sp := by
  intro l G o ad cA sz σ as has hasr hσ hpre
  refine Met.ofW (cc := bytes) (maxL := maxL) (ret := jm_rt z) hpl rfl ?_
  intro p e s m args below meth c s₁ B hml hv
  obtain ⟨rfl, hsz, hP, hK, hD0⟩ := hv
  have hx := B.exec
  have hb := B.bytes
  have hr := B.returns
  have hts0 := atoms_spec (ws := .code y bytes maxL (jm_rt z) :: lw_g) B.pre
  have hts : ∀ w ∈ lw_g, w.before (jm_av sp.1 o as).toArray s = true := fun w hw => hts0 w (List.mem_cons_of_mem _ hw)
  have hown : s.vm.findClass C = some m.cls := by rw [← hyC]; exact findClass_of_methodNamed B.named
  have hlocks := B.notSynchronized
  subst hsz
  have hDA := hD0.self (sz := s.heap.size)
  generalize hAe : va_A (jm_pic D N ks ci o ad cA σ) s.heap.size = A at hDA ⊢
  have hA : ∀ q : Nat, s.heap.size ≤ q → A q := fun q h => by rw [← hAe]; exact Or.inr h
  have hlen := jm_l0_len sp.1 as maxL (by rw [has]; exact hn)
  have hl := lv_entry (jm_av sp.1 o as) (n := maxL) (by
    rw [lg_sl_1 _ (jm_av_cat sp.1 o as)]
    unfold jm_av
    cases hs : sp.1 <;> rw [hs] at hn <;> simp at hn ⊢ <;> omega)
  rw [lg_entry_eq]
  generalize (lg_sl (jm_av sp.1 o as) ++ List.replicate (maxL - (lg_sl (jm_av sp.1 o as)).length) Slot.unset).toArray = lsA at hl ⊢
  have hL : jm_has o ad lsA (jm_l0 sp.1 as maxL) := ⟨by rw [hlen]; exact hl.1, hl.2.1, fun i v hv => by
    have h1 := jm_l0_av sp.1 o ad as maxL i v hv
    have h2 := lv_args_1 _ 0 (jm_av_cat sp.1 o as) i _ h1
    rw [Nat.zero_add] at h2
    exact hl.2.2 _ h2⟩
  have key := h σ as has hasr hσ hpre (jm_W p l e (headSpec (.code y bytes maxL (jm_rt z) :: lw_g) (jm_rm lv)).room s m (jm_av sp.1 o as).toArray below meth c (MQ below (jm_Qc G cl D N ks ci o ad cA A (jm_rt z) (sp.2.2.2.2 as σ)) (jm_av sp.1 o as).toArray s 0 0 A) G cl D N ks ci o ad cA A maxL 0 0)
    (fun en pc ls st σ' he hw => jm_sound (lv := lv) (T := T) (ty0 := ty0) (z := z) hx hb hml hr hlocks hown hts hK (fun τ => jm_pic_D hDA) hA hCF hchk (jm_cals_at hcal) ⟨⟨Nat.le_refl _, Nat.le_refl _⟩, Nat.zero_le _, Nat.zero_le _⟩ rfl
      (fun v σ' H locs h1 h2 h3 h4 h5 t h6 h7 => ⟨⟨v, σ', rfl, ⟨h2, h1, h3⟩, by rw [h6]; exact h4⟩, h5.F h6⟩) he hw)
  exact key hlen hσ (jm_l0_ok sp.1 as maxL hasr) (fun v hv => by cases hv) s.heap [] lsA hP va_S.rf hL
end
section
/-! code tables and links: what a program printed -/
theorem CF_B : jm_CF classes R_B F_B 17 t_B D_B fi_B ks_B 0 := by
  refine ⟨?_, by decide +kernel, by decide +kernel, rfl, ?_, by decide +kernel, by decide +kernel, ?_, by decide +kernel, by decide +kernel, ?_⟩
  · intro w hw
    have h1 : ∀ w ∈ u_ws R_B F_B 17, w ∈ lw_tbl ∧ goodWord w = true := by decide +kernel
    exact lw_in (h1 w hw).1 (h1 w hw).2
  · intro i k h
    have h1 : ∀ q ∈ ([(7, 0), (13, 1), (16, 2), (20, 3), (23, 4), (26, 5), (29, 6), (33, 7), (77, 8), (36, 9), (104, 10), (39, 11), (42, 12), (45, 13), (48, 14), (52, 15), (55, 16)] : List (Nat × Nat)), q.2 < 17 ∧ Cond.fieldLink R_B q.1 R_B (F_B q.2).2.1 (F_B q.2).2.2.1 ∈ lw_tbl := by decide +kernel
    have h2 : (i, k) ∈ ([(7, 0), (13, 1), (16, 2), (20, 3), (23, 4), (26, 5), (29, 6), (33, 7), (77, 8), (36, 9), (104, 10), (39, 11), (42, 12), (45, 13), (48, 14), (52, 15), (55, 16)] : List (Nat × Nat)) := by
      unfold fi_B at h
      split at h <;> first | (cases h; decide) | cases h
    exact ⟨(h1 _ h2).1, lw_in (h1 _ h2).2 rfl⟩
  · intro k h
    unfold D_B at h
    split at h <;> first | decide | exact absurd rfl h
  · intro k
    unfold D_B
    split <;> rfl
theorem CF_M : jm_CF classes R_M F_M 14 t_M D_M fi_M ks_M 1 := by
  refine ⟨?_, by decide +kernel, by decide +kernel, rfl, ?_, by decide +kernel, by decide +kernel, ?_, by decide +kernel, by decide +kernel, ?_⟩
  · intro w hw
    have h1 : ∀ w ∈ u_ws R_M F_M 14, w ∈ lw_tbl ∧ goodWord w = true := by decide +kernel
    exact lw_in (h1 w hw).1 (h1 w hw).2
  · intro i k h
    have h1 : ∀ q ∈ ([(7, 0), (13, 1), (16, 2), (20, 3), (23, 4), (26, 5), (29, 6), (32, 7), (35, 8), (49, 9), (62, 10), (69, 11), (75, 12), (38, 13)] : List (Nat × Nat)), q.2 < 14 ∧ Cond.fieldLink R_M q.1 R_M (F_M q.2).2.1 (F_M q.2).2.2.1 ∈ lw_tbl := by decide +kernel
    have h2 : (i, k) ∈ ([(7, 0), (13, 1), (16, 2), (20, 3), (23, 4), (26, 5), (29, 6), (32, 7), (35, 8), (49, 9), (62, 10), (69, 11), (75, 12), (38, 13)] : List (Nat × Nat)) := by
      unfold fi_M at h
      split at h <;> first | (cases h; decide) | cases h
    exact ⟨(h1 _ h2).1, lw_in (h1 _ h2).2 rfl⟩
  · intro k h
    unfold D_M at h
    split at h <;> first | decide | exact absurd rfl h
  · intro k
    unfold D_M
    split <;> rfl
def k_B_isCell : List jm_I := [
  (0, .iload_n 0, 1, []),
  (1, .ifCond .lt 14, 4, [15]),
  (4, .iload_n 0, 5, []),
  (5, .sipush 384, 8, []),
  (8, .if_icmp .ge 7, 11, [15]),
  (11, .iconst 1, 12, []),
  (12, .goto 4, 15, [16]),
  (15, .iconst 0, 16, []),
  (16, .ireturn, 17, [])]
theorem ck_B_isCell : jm_chk b_B_isCell k_B_isCell = true := by decide +kernel
theorem lk_B_isCell (pre : List Int → jm_S → Prop) (post : List Int → jm_S → Int → jm_S → Prop) : jm_Lk R_B 142 y_B_isCell b_B_isCell 1 (some .boolean) (true, 1, false, pre, post) := ⟨lw_in (by decide +kernel) rfl, lw_in (List.mem_of_getElem? (i := 204) rfl) rfl, fun _ => lw_in (by decide +kernel) rfl, (fun h => Bool.noConfusion h), lw_in (by decide +kernel) rfl, (by show _ ∧ _ ∧ _ = some 1; decide +kernel), ⟨(fun h => Bool.noConfusion h), (fun h => by cases h)⟩, by decide⟩
def k_B_near : List jm_I := [
  (0, .iload_n 1, 1, []),
  (1, .tableswitch 119 0 4 #[35, 51, 67, 84, 99], 36, [120, 36, 52, 68, 85, 100]),
  (36, .iload_n 0, 37, []),
  (37, .sipush 320, 40, []),
  (40, .if_icmp .lt 7, 43, [47]),
  (43, .iconst (-1), 44, []),
  (44, .goto 7, 47, [51]),
  (47, .iload_n 0, 48, []),
  (48, .bipush 64, 50, []),
  (50, .iadd, 51, []),
  (51, .ireturn, 52, []),
  (52, .iload_n 0, 53, []),
  (53, .bipush 64, 55, []),
  (55, .isub, 56, []),
  (56, .ifCond .ge 7, 59, [63]),
  (59, .iconst (-1), 60, []),
  (60, .goto 7, 63, [67]),
  (63, .iload_n 0, 64, []),
  (64, .bipush 64, 66, []),
  (66, .isub, 67, []),
  (67, .ireturn, 68, []),
  (68, .iload_n 0, 69, []),
  (69, .bipush 7, 71, []),
  (71, .iand, 72, []),
  (72, .bipush 7, 74, []),
  (74, .if_icmp .ne 7, 77, [81]),
  (77, .iconst (-1), 78, []),
  (78, .goto 6, 81, [84]),
  (81, .iload_n 0, 82, []),
  (82, .iconst 1, 83, []),
  (83, .iadd, 84, []),
  (84, .ireturn, 85, []),
  (85, .iload_n 0, 86, []),
  (86, .bipush 7, 88, []),
  (88, .iand, 89, []),
  (89, .ifCond .ne 7, 92, [96]),
  (92, .iconst (-1), 93, []),
  (93, .goto 6, 96, [99]),
  (96, .iload_n 0, 97, []),
  (97, .iconst 1, 98, []),
  (98, .isub, 99, []),
  (99, .ireturn, 100, []),
  (100, .iload_n 0, 101, []),
  (101, .iconst 3, 102, []),
  (102, .ishr, 103, []),
  (103, .bipush 7, 105, []),
  (105, .iand, 106, []),
  (106, .bipush 7, 108, []),
  (108, .if_icmp .ne 7, 111, [115]),
  (111, .iconst (-1), 112, []),
  (112, .goto 7, 115, [119]),
  (115, .iload_n 0, 116, []),
  (116, .bipush 8, 118, []),
  (118, .iadd, 119, []),
  (119, .ireturn, 120, []),
  (120, .iload_n 0, 121, []),
  (121, .iconst 3, 122, []),
  (122, .ishr, 123, []),
  (123, .bipush 7, 125, []),
  (125, .iand, 126, []),
  (126, .ifCond .ne 7, 129, [133]),
  (129, .iconst (-1), 130, []),
  (130, .goto 7, 133, [137]),
  (133, .iload_n 0, 134, []),
  (134, .bipush 8, 136, []),
  (136, .isub, 137, []),
  (137, .ireturn, 138, [])]
theorem ck_B_near : jm_chk b_B_near k_B_near = true := by decide +kernel
theorem lk_B_near (pre : List Int → jm_S → Prop) (post : List Int → jm_S → Int → jm_S → Prop) : jm_Lk R_B 58 y_B_near b_B_near 2 (some .int) (true, 2, false, pre, post) := ⟨lw_in (by decide +kernel) rfl, lw_in (List.mem_of_getElem? (i := 141) rfl) rfl, fun _ => lw_in (by decide +kernel) rfl, (fun h => Bool.noConfusion h), lw_in (by decide +kernel) rfl, (by show _ ∧ _ ∧ _ = some 2; decide +kernel), ⟨(fun h => Bool.noConfusion h), (fun h => by cases h)⟩, by decide⟩
def k_B_opaque : List jm_I := [
  (0, .iload_n 0, 1, []),
  (1, .iconst 1, 2, []),
  (2, .if_icmp .eq 14, 5, [16]),
  (5, .iload_n 0, 6, []),
  (6, .iconst 4, 7, []),
  (7, .if_icmp .eq 9, 10, [16]),
  (10, .iload_n 0, 11, []),
  (11, .bipush 6, 13, []),
  (13, .if_icmp .ne 7, 16, [20]),
  (16, .iconst 1, 17, []),
  (17, .goto 4, 20, [21]),
  (20, .iconst 0, 21, []),
  (21, .ireturn, 22, [])]
theorem ck_B_opaque : jm_chk b_B_opaque k_B_opaque = true := by decide +kernel
theorem lk_B_opaque (pre : List Int → jm_S → Prop) (post : List Int → jm_S → Int → jm_S → Prop) : jm_Lk R_B 74 y_B_opaque b_B_opaque 1 (some .boolean) (true, 1, false, pre, post) := ⟨lw_in (by decide +kernel) rfl, lw_in (List.mem_of_getElem? (i := 122) rfl) rfl, fun _ => lw_in (by decide +kernel) rfl, (fun h => Bool.noConfusion h), lw_in (by decide +kernel) rfl, (by show _ ∧ _ ∧ _ = some 1; decide +kernel), ⟨(fun h => Bool.noConfusion h), (fun h => by cases h)⟩, by decide⟩
def k_B_feeds : List jm_I := [
  (0, .aload_n 0, 1, []),
  (1, .getfield 7, 4, []),
  (4, .iload_n 1, 5, []),
  (5, .baload, 6, []),
  (6, .bipush 6, 8, []),
  (8, .if_icmp .eq 28, 11, [36]),
  (11, .aload_n 0, 12, []),
  (12, .getfield 7, 15, []),
  (15, .iload_n 1, 16, []),
  (16, .baload, 17, []),
  (17, .bipush 7, 19, []),
  (19, .if_icmp .ne 21, 22, [40]),
  (22, .aload_n 0, 23, []),
  (23, .getfield 16, 26, []),
  (26, .iload_n 1, 27, []),
  (27, .baload, 28, []),
  (28, .ifCond .eq 12, 31, [40]),
  (31, .iload_n 2, 32, []),
  (32, .iconst 1, 33, []),
  (33, .if_icmp .eq 7, 36, [40]),
  (36, .iconst 1, 37, []),
  (37, .goto 4, 40, [41]),
  (40, .iconst 0, 41, []),
  (41, .ireturn, 42, [])]
theorem ck_B_feeds : jm_chk b_B_feeds k_B_feeds = true := by decide +kernel
theorem lk_B_feeds (pre : List Int → jm_S → Prop) (post : List Int → jm_S → Int → jm_S → Prop) : jm_Lk R_B 62 y_B_feeds b_B_feeds 3 (some .boolean) (false, 2, false, pre, post) := ⟨lw_in (by decide +kernel) rfl, lw_in (List.mem_of_getElem? (i := 173) rfl) rfl, (fun h => Bool.noConfusion h), fun _ => ⟨lw_in (by decide +kernel) rfl, lw_in (by decide +kernel) rfl⟩, lw_in (by decide +kernel) rfl, (by show _ ∧ _ ∧ _ = some 2; decide +kernel), ⟨(fun h => Bool.noConfusion h), (fun h => by cases h)⟩, by decide⟩
def k_B_fedByMakers : List jm_I := [
  (0, .iconst 0, 1, []),
  (1, .istore_n 2, 2, []),
  (2, .iload_n 2, 3, []),
  (3, .bipush 6, 5, []),
  (5, .if_icmp .ge 32, 8, [37]),
  (8, .iload_n 1, 9, []),
  (9, .iload_n 2, 10, []),
  (10, .invokestatic 58, 13, []),
  (13, .istore_n 3, 14, []),
  (14, .iload_n 3, 15, []),
  (15, .ifCond .lt 16, 18, [31]),
  (18, .aload_n 0, 19, []),
  (19, .iload_n 3, 20, []),
  (20, .iload_n 2, 21, []),
  (21, .iconst 1, 22, []),
  (22, .ixor, 23, []),
  (23, .invokevirtual 62, 26, []),
  (26, .ifCond .eq 5, 29, [31]),
  (29, .iconst 1, 30, []),
  (30, .ireturn, 31, []),
  (31, .iinc 2 1, 34, []),
  (34, .goto (-32), 37, [2]),
  (37, .iconst 0, 38, []),
  (38, .ireturn, 39, [])]
theorem ck_B_fedByMakers : jm_chk b_B_fedByMakers k_B_fedByMakers = true := by decide +kernel
theorem lk_B_fedByMakers (pre : List Int → jm_S → Prop) (post : List Int → jm_S → Int → jm_S → Prop) : jm_Lk R_B 70 y_B_fedByMakers b_B_fedByMakers 4 (some .boolean) (false, 1, false, pre, post) := ⟨lw_in (by decide +kernel) rfl, lw_in (List.mem_of_getElem? (i := 169) rfl) rfl, (fun h => Bool.noConfusion h), fun _ => ⟨lw_in (by decide +kernel) rfl, lw_in (by decide +kernel) rfl⟩, lw_in (by decide +kernel) rfl, (by show _ ∧ _ ∧ _ = some 1; decide +kernel), ⟨(fun h => Bool.noConfusion h), (fun h => by cases h)⟩, by decide⟩
def k_B_shines : List jm_I := [
  (0, .aload_n 0, 1, []),
  (1, .getfield 7, 4, []),
  (4, .iload_n 1, 5, []),
  (5, .baload, 6, []),
  (6, .iconst 3, 7, []),
  (7, .if_icmp .ne 8, 10, [15]),
  (10, .bipush 14, 12, []),
  (12, .goto 29, 15, [41]),
  (15, .aload_n 0, 16, []),
  (16, .getfield 7, 19, []),
  (19, .iload_n 1, 20, []),
  (20, .baload, 21, []),
  (21, .bipush 8, 23, []),
  (23, .if_icmp .ne 17, 26, [40]),
  (26, .aload_n 0, 27, []),
  (27, .getfield 16, 30, []),
  (30, .iload_n 1, 31, []),
  (31, .baload, 32, []),
  (32, .ifCond .eq 8, 35, [40]),
  (35, .bipush 12, 37, []),
  (37, .goto 4, 40, [41]),
  (40, .iconst 0, 41, []),
  (41, .ireturn, 42, [])]
theorem ck_B_shines : jm_chk b_B_shines k_B_shines = true := by decide +kernel
theorem lk_B_shines (pre : List Int → jm_S → Prop) (post : List Int → jm_S → Int → jm_S → Prop) : jm_Lk R_B 66 y_B_shines b_B_shines 2 (some .int) (false, 1, false, pre, post) := ⟨lw_in (by decide +kernel) rfl, lw_in (List.mem_of_getElem? (i := 165) rfl) rfl, (fun h => Bool.noConfusion h), fun _ => ⟨lw_in (by decide +kernel) rfl, lw_in (by decide +kernel) rfl⟩, lw_in (by decide +kernel) rfl, (by show _ ∧ _ ∧ _ = some 1; decide +kernel), ⟨(fun h => Bool.noConfusion h), (fun h => by cases h)⟩, by decide⟩
def k_B_begins : List jm_I := [
  (0, .iload_n 1, 1, []),
  (1, .ifCond .ne 9, 4, [10]),
  (4, .aload_n 0, 5, []),
  (5, .iload_n 2, 6, []),
  (6, .invokevirtual 66, 9, []),
  (9, .ireturn, 10, []),
  (10, .iload_n 1, 11, []),
  (11, .iconst 1, 12, []),
  (12, .if_icmp .ne 26, 15, [38]),
  (15, .iload_n 2, 16, []),
  (16, .bipush 6, 18, []),
  (18, .ishr, 19, []),
  (19, .aload_n 0, 20, []),
  (20, .getfield 39, 23, []),
  (23, .iload_n 2, 24, []),
  (24, .bipush 63, 26, []),
  (26, .iand, 27, []),
  (27, .baload, 28, []),
  (28, .if_icmp .lt 8, 31, [36]),
  (31, .bipush 15, 33, []),
  (33, .goto 4, 36, [37]),
  (36, .iconst 0, 37, []),
  (37, .ireturn, 38, []),
  (38, .aload_n 0, 39, []),
  (39, .getfield 7, 42, []),
  (42, .iload_n 2, 43, []),
  (43, .baload, 44, []),
  (44, .iconst 5, 45, []),
  (45, .if_icmp .ne 16, 48, [61]),
  (48, .aload_n 0, 49, []),
  (49, .iload_n 2, 50, []),
  (50, .invokevirtual 70, 53, []),
  (53, .ifCond .eq 8, 56, [61]),
  (56, .bipush 15, 58, []),
  (58, .goto 4, 61, [62]),
  (61, .iconst 0, 62, []),
  (62, .ireturn, 63, [])]
theorem ck_B_begins : jm_chk b_B_begins k_B_begins = true := by decide +kernel
theorem lk_B_begins (pre : List Int → jm_S → Prop) (post : List Int → jm_S → Int → jm_S → Prop) : jm_Lk R_B 94 y_B_begins b_B_begins 3 (some .int) (false, 2, false, pre, post) := ⟨lw_in (by decide +kernel) rfl, lw_in (List.mem_of_getElem? (i := 161) rfl) rfl, (fun h => Bool.noConfusion h), fun _ => ⟨lw_in (by decide +kernel) rfl, lw_in (by decide +kernel) rfl⟩, lw_in (by decide +kernel) rfl, (by show _ ∧ _ ∧ _ = some 2; decide +kernel), ⟨(fun h => Bool.noConfusion h), (fun h => by cases h)⟩, by decide⟩
def k_B_passes : List jm_I := [
  (0, .iload_n 1, 1, []),
  (1, .iconst 2, 2, []),
  (2, .if_icmp .ne 21, 5, [23]),
  (5, .aload_n 0, 6, []),
  (6, .getfield 7, 9, []),
  (9, .iload_n 2, 10, []),
  (10, .baload, 11, []),
  (11, .iconst 5, 12, []),
  (12, .if_icmp .ne 7, 15, [19]),
  (15, .iconst 1, 16, []),
  (16, .goto 24, 19, [40]),
  (19, .iconst 0, 20, []),
  (20, .goto 20, 23, [40]),
  (23, .aload_n 0, 24, []),
  (24, .getfield 7, 27, []),
  (27, .iload_n 2, 28, []),
  (28, .baload, 29, []),
  (29, .invokestatic 74, 32, []),
  (32, .ifCond .ne 7, 35, [39]),
  (35, .iconst 1, 36, []),
  (36, .goto 4, 39, [40]),
  (39, .iconst 0, 40, []),
  (40, .ireturn, 41, [])]
theorem ck_B_passes : jm_chk b_B_passes k_B_passes = true := by decide +kernel
theorem lk_B_passes (pre : List Int → jm_S → Prop) (post : List Int → jm_S → Int → jm_S → Prop) : jm_Lk R_B 91 y_B_passes b_B_passes 3 (some .boolean) (false, 2, false, pre, post) := ⟨lw_in (by decide +kernel) rfl, lw_in (List.mem_of_getElem? (i := 157) rfl) rfl, (fun h => Bool.noConfusion h), fun _ => ⟨lw_in (by decide +kernel) rfl, lw_in (by decide +kernel) rfl⟩, lw_in (by decide +kernel) rfl, (by show _ ∧ _ ∧ _ = some 2; decide +kernel), ⟨(fun h => Bool.noConfusion h), (fun h => by cases h)⟩, by decide⟩
def k_B_drop : List jm_I := [
  (0, .sipush 384, 3, []),
  (3, .iload_n 1, 4, []),
  (4, .imul, 5, []),
  (5, .iload_n 2, 6, []),
  (6, .iadd, 7, []),
  (7, .istore_n 3, 8, []),
  (8, .aload_n 0, 9, []),
  (9, .getfield 23, 12, []),
  (12, .iload_n 3, 13, []),
  (13, .baload, 14, []),
  (14, .ifCond .ne 4, 17, [18]),
  (17, .return_, 18, []),
  (18, .aload_n 0, 19, []),
  (19, .getfield 33, 22, []),
  (22, .aload_n 0, 23, []),
  (23, .getfield 77, 26, []),
  (26, .aload_n 0, 27, []),
  (27, .getfield 23, 30, []),
  (30, .iload_n 3, 31, []),
  (31, .baload, 32, []),
  (32, .bastore, 33, []),
  (33, .aload_n 0, 34, []),
  (34, .getfield 29, 37, []),
  (37, .aload_n 0, 38, []),
  (38, .dup, 39, []),
  (39, .getfield 77, 42, []),
  (42, .dup_x1, 43, []),
  (43, .iconst 1, 44, []),
  (44, .iadd, 45, []),
  (45, .putfield 77, 48, []),
  (48, .iload_n 2, 49, []),
  (49, .i2s, 50, []),
  (50, .sastore, 51, []),
  (51, .aload_n 0, 52, []),
  (52, .getfield 23, 55, []),
  (55, .iload_n 3, 56, []),
  (56, .iconst 0, 57, []),
  (57, .bastore, 58, []),
  (58, .aload_n 0, 59, []),
  (59, .iload_n 1, 60, []),
  (60, .iload_n 2, 61, []),
  (61, .invokevirtual 81, 64, []),
  (64, .return_, 65, [])]
theorem ck_B_drop : jm_chk b_B_drop k_B_drop = true := by decide +kernel
theorem lk_B_drop (pre : List Int → jm_S → Prop) (post : List Int → jm_S → Int → jm_S → Prop) : jm_Lk R_B 85 y_B_drop b_B_drop 4 none (false, 2, true, pre, post) := ⟨lw_in (by decide +kernel) rfl, lw_in (List.mem_of_getElem? (i := 134) rfl) rfl, (fun h => Bool.noConfusion h), fun _ => ⟨lw_in (by decide +kernel) rfl, lw_in (by decide +kernel) rfl⟩, lw_in (by decide +kernel) rfl, (by show _ ∧ _ ∧ _ = some 2; decide +kernel), ⟨fun _ => rfl, fun _ => rfl⟩, by decide⟩
def k_B_unspread : List jm_I := [
  (0, .iconst 0, 1, []),
  (1, .istore_n 2, 2, []),
  (2, .iload_n 2, 3, []),
  (3, .aload_n 0, 4, []),
  (4, .getfield 77, 7, []),
  (7, .if_icmp .ge 108, 10, [115]),
  (10, .aload_n 0, 11, []),
  (11, .getfield 29, 14, []),
  (14, .iload_n 2, 15, []),
  (15, .saload, 16, []),
  (16, .istore_n 3, 17, []),
  (17, .aload_n 0, 18, []),
  (18, .getfield 33, 21, []),
  (21, .iload_n 2, 22, []),
  (22, .baload, 23, []),
  (23, .istore 4, 25, []),
  (25, .iconst 0, 26, []),
  (26, .istore 5, 28, []),
  (28, .iload 5, 30, []),
  (30, .bipush 6, 32, []),
  (32, .if_icmp .ge 77, 35, [109]),
  (35, .iload_n 3, 36, []),
  (36, .iload 5, 38, []),
  (38, .invokestatic 58, 41, []),
  (41, .istore 6, 43, []),
  (43, .iload 6, 45, []),
  (45, .ifCond .lt 58, 48, [103]),
  (48, .aload_n 0, 49, []),
  (49, .getfield 23, 52, []),
  (52, .sipush 384, 55, []),
  (55, .iload_n 1, 56, []),
  (56, .imul, 57, []),
  (57, .iload 6, 59, []),
  (59, .iadd, 60, []),
  (60, .baload, 61, []),
  (61, .ifCond .ne 6, 64, [67]),
  (64, .goto 39, 67, [103]),
  (67, .aload_n 0, 68, []),
  (68, .getfield 23, 71, []),
  (71, .sipush 384, 74, []),
  (74, .iload_n 1, 75, []),
  (75, .imul, 76, []),
  (76, .iload 6, 78, []),
  (78, .iadd, 79, []),
  (79, .baload, 80, []),
  (80, .iload 4, 82, []),
  (82, .if_icmp .ge 13, 85, [95]),
  (85, .aload_n 0, 86, []),
  (86, .iload_n 1, 87, []),
  (87, .iload 6, 89, []),
  (89, .invokevirtual 85, 92, []),
  (92, .goto 11, 95, [103]),
  (95, .aload_n 0, 96, []),
  (96, .getfield 26, 99, []),
  (99, .iload 6, 101, []),
  (101, .iconst 1, 102, []),
  (102, .bastore, 103, []),
  (103, .iinc 5 1, 106, []),
  (106, .goto (-78), 109, [28]),
  (109, .iinc 2 1, 112, []),
  (112, .goto (-110), 115, [2]),
  (115, .iconst 0, 116, []),
  (116, .istore_n 2, 117, []),
  (117, .iload_n 2, 118, []),
  (118, .aload_n 0, 119, []),
  (119, .getfield 77, 122, []),
  (122, .if_icmp .ge 22, 125, [144]),
  (125, .aload_n 0, 126, []),
  (126, .getfield 29, 129, []),
  (129, .iload_n 2, 130, []),
  (130, .saload, 131, []),
  (131, .istore_n 3, 132, []),
  (132, .aload_n 0, 133, []),
  (133, .iload_n 1, 134, []),
  (134, .iload_n 3, 135, []),
  (135, .invokevirtual 88, 138, []),
  (138, .iinc 2 1, 141, []),
  (141, .goto (-24), 144, [117]),
  (144, .aload_n 0, 145, []),
  (145, .iconst 0, 146, []),
  (146, .putfield 77, 149, []),
  (149, .return_, 150, [])]
theorem ck_B_unspread : jm_chk b_B_unspread k_B_unspread = true := by decide +kernel
theorem lk_B_unspread (pre : List Int → jm_S → Prop) (post : List Int → jm_S → Int → jm_S → Prop) : jm_Lk R_B 108 y_B_unspread b_B_unspread 7 none (false, 1, true, pre, post) := ⟨lw_in (by decide +kernel) rfl, lw_in (List.mem_of_getElem? (i := 149) rfl) rfl, (fun h => Bool.noConfusion h), fun _ => ⟨lw_in (by decide +kernel) rfl, lw_in (by decide +kernel) rfl⟩, lw_in (by decide +kernel) rfl, (by show _ ∧ _ ∧ _ = some 1; decide +kernel), ⟨fun _ => rfl, fun _ => rfl⟩, by decide⟩
def k_B_raise : List jm_I := [
  (0, .aload_n 0, 1, []),
  (1, .iload_n 1, 2, []),
  (2, .iload_n 2, 3, []),
  (3, .invokevirtual 91, 6, []),
  (6, .ifCond .eq 12, 9, [18]),
  (9, .aload_n 0, 10, []),
  (10, .iload_n 1, 11, []),
  (11, .iload_n 2, 12, []),
  (12, .invokevirtual 94, 15, []),
  (15, .goto 4, 18, [19]),
  (18, .iconst 0, 19, []),
  (19, .istore_n 3, 20, []),
  (20, .sipush 384, 23, []),
  (23, .iload_n 1, 24, []),
  (24, .imul, 25, []),
  (25, .iload_n 2, 26, []),
  (26, .iadd, 27, []),
  (27, .istore 4, 29, []),
  (29, .iload_n 3, 30, []),
  (30, .aload_n 0, 31, []),
  (31, .getfield 23, 34, []),
  (34, .iload 4, 36, []),
  (36, .baload, 37, []),
  (37, .if_icmp .gt 4, 40, [41]),
  (40, .return_, 41, []),
  (41, .aload_n 0, 42, []),
  (42, .getfield 23, 45, []),
  (45, .iload 4, 47, []),
  (47, .iload_n 3, 48, []),
  (48, .i2b, 49, []),
  (49, .bastore, 50, []),
  (50, .aload_n 0, 51, []),
  (51, .getfield 26, 54, []),
  (54, .iload_n 2, 55, []),
  (55, .iconst 1, 56, []),
  (56, .bastore, 57, []),
  (57, .aload_n 0, 58, []),
  (58, .iload_n 1, 59, []),
  (59, .iload_n 2, 60, []),
  (60, .invokevirtual 81, 63, []),
  (63, .return_, 64, [])]
theorem ck_B_raise : jm_chk b_B_raise k_B_raise = true := by decide +kernel
theorem lk_B_raise (pre : List Int → jm_S → Prop) (post : List Int → jm_S → Int → jm_S → Prop) : jm_Lk R_B 88 y_B_raise b_B_raise 5 none (false, 2, true, pre, post) := ⟨lw_in (by decide +kernel) rfl, lw_in (List.mem_of_getElem? (i := 153) rfl) rfl, (fun h => Bool.noConfusion h), fun _ => ⟨lw_in (by decide +kernel) rfl, lw_in (by decide +kernel) rfl⟩, lw_in (by decide +kernel) rfl, (by show _ ∧ _ ∧ _ = some 2; decide +kernel), ⟨fun _ => rfl, fun _ => rfl⟩, by decide⟩
def k_B_spread : List jm_I := [
  (0, .iconst 0, 1, []),
  (1, .istore_n 2, 2, []),
  (2, .iconst 0, 3, []),
  (3, .istore_n 3, 4, []),
  (4, .iload_n 3, 5, []),
  (5, .sipush 384, 8, []),
  (8, .if_icmp .ge 47, 11, [55]),
  (11, .aload_n 0, 12, []),
  (12, .getfield 26, 15, []),
  (15, .iload_n 3, 16, []),
  (16, .baload, 17, []),
  (17, .ifCond .eq 32, 20, [49]),
  (20, .aload_n 0, 21, []),
  (21, .getfield 23, 24, []),
  (24, .sipush 384, 27, []),
  (27, .iload_n 1, 28, []),
  (28, .imul, 29, []),
  (29, .iload_n 3, 30, []),
  (30, .iadd, 31, []),
  (31, .baload, 32, []),
  (32, .iload_n 2, 33, []),
  (33, .if_icmp .le 16, 36, [49]),
  (36, .aload_n 0, 37, []),
  (37, .getfield 23, 40, []),
  (40, .sipush 384, 43, []),
  (43, .iload_n 1, 44, []),
  (44, .imul, 45, []),
  (45, .iload_n 3, 46, []),
  (46, .iadd, 47, []),
  (47, .baload, 48, []),
  (48, .istore_n 2, 49, []),
  (49, .iinc 3 1, 52, []),
  (52, .goto (-48), 55, [4]),
  (55, .iload_n 2, 56, []),
  (56, .istore_n 3, 57, []),
  (57, .iload_n 3, 58, []),
  (58, .ifCond .le 71, 61, [129]),
  (61, .iconst 0, 62, []),
  (62, .istore 4, 64, []),
  (64, .iload 4, 66, []),
  (66, .sipush 384, 69, []),
  (69, .if_icmp .ge 54, 72, [123]),
  (72, .aload_n 0, 73, []),
  (73, .getfield 26, 76, []),
  (76, .iload 4, 78, []),
  (78, .baload, 79, []),
  (79, .ifCond .eq 38, 82, [117]),
  (82, .aload_n 0, 83, []),
  (83, .getfield 23, 86, []),
  (86, .sipush 384, 89, []),
  (89, .iload_n 1, 90, []),
  (90, .imul, 91, []),
  (91, .iload 4, 93, []),
  (93, .iadd, 94, []),
  (94, .baload, 95, []),
  (95, .iload_n 3, 96, []),
  (96, .if_icmp .ge 6, 99, [102]),
  (99, .goto 18, 102, [117]),
  (102, .aload_n 0, 103, []),
  (103, .getfield 26, 106, []),
  (106, .iload 4, 108, []),
  (108, .iconst 0, 109, []),
  (109, .bastore, 110, []),
  (110, .aload_n 0, 111, []),
  (111, .iload_n 1, 112, []),
  (112, .iload 4, 114, []),
  (114, .invokevirtual 97, 117, []),
  (117, .iinc 4 1, 120, []),
  (120, .goto (-56), 123, [64]),
  (123, .iinc 3 (-1), 126, []),
  (126, .goto (-69), 129, [57]),
  (129, .iconst 0, 130, []),
  (130, .istore_n 3, 131, []),
  (131, .iload_n 3, 132, []),
  (132, .sipush 384, 135, []),
  (135, .if_icmp .ge 16, 138, [151]),
  (138, .aload_n 0, 139, []),
  (139, .getfield 26, 142, []),
  (142, .iload_n 3, 143, []),
  (143, .iconst 0, 144, []),
  (144, .bastore, 145, []),
  (145, .iinc 3 1, 148, []),
  (148, .goto (-17), 151, [131]),
  (151, .return_, 152, [])]
theorem ck_B_spread : jm_chk b_B_spread k_B_spread = true := by decide +kernel
theorem lk_B_spread (pre : List Int → jm_S → Prop) (post : List Int → jm_S → Int → jm_S → Prop) : jm_Lk R_B 111 y_B_spread b_B_spread 5 none (false, 1, true, pre, post) := ⟨lw_in (by decide +kernel) rfl, lw_in (List.mem_of_getElem? (i := 177) rfl) rfl, (fun h => Bool.noConfusion h), fun _ => ⟨lw_in (by decide +kernel) rfl, lw_in (by decide +kernel) rfl⟩, lw_in (by decide +kernel) rfl, (by show _ ∧ _ ∧ _ = some 1; decide +kernel), ⟨fun _ => rfl, fun _ => rfl⟩, by decide⟩
def k_B_give : List jm_I := [
  (0, .aload_n 0, 1, []),
  (1, .getfield 23, 4, []),
  (4, .sipush 384, 7, []),
  (7, .iload_n 1, 8, []),
  (8, .imul, 9, []),
  (9, .iload_n 2, 10, []),
  (10, .iadd, 11, []),
  (11, .baload, 12, []),
  (12, .iconst 1, 13, []),
  (13, .isub, 14, []),
  (14, .istore_n 3, 15, []),
  (15, .iconst 0, 16, []),
  (16, .istore 4, 18, []),
  (18, .iload 4, 20, []),
  (20, .bipush 6, 22, []),
  (22, .if_icmp .ge 82, 25, [104]),
  (25, .iload_n 2, 26, []),
  (26, .iload 4, 28, []),
  (28, .invokestatic 58, 31, []),
  (31, .istore 5, 33, []),
  (33, .iload 5, 35, []),
  (35, .ifCond .lt 63, 38, [98]),
  (38, .aload_n 0, 39, []),
  (39, .getfield 23, 42, []),
  (42, .sipush 384, 45, []),
  (45, .iload_n 1, 46, []),
  (46, .imul, 47, []),
  (47, .iload 5, 49, []),
  (49, .iadd, 50, []),
  (50, .baload, 51, []),
  (51, .iload_n 3, 52, []),
  (52, .if_icmp .ge 46, 55, [98]),
  (55, .aload_n 0, 56, []),
  (56, .iload_n 1, 57, []),
  (57, .iload 5, 59, []),
  (59, .invokevirtual 91, 62, []),
  (62, .ifCond .ne 6, 65, [68]),
  (65, .goto 33, 68, [98]),
  (68, .aload_n 0, 69, []),
  (69, .getfield 23, 72, []),
  (72, .sipush 384, 75, []),
  (75, .iload_n 1, 76, []),
  (76, .imul, 77, []),
  (77, .iload 5, 79, []),
  (79, .iadd, 80, []),
  (80, .iload_n 3, 81, []),
  (81, .i2b, 82, []),
  (82, .bastore, 83, []),
  (83, .aload_n 0, 84, []),
  (84, .getfield 26, 87, []),
  (87, .iload 5, 89, []),
  (89, .iconst 1, 90, []),
  (90, .bastore, 91, []),
  (91, .aload_n 0, 92, []),
  (92, .iload_n 1, 93, []),
  (93, .iload 5, 95, []),
  (95, .invokevirtual 81, 98, []),
  (98, .iinc 4 1, 101, []),
  (101, .goto (-83), 104, [18]),
  (104, .return_, 105, [])]
theorem ck_B_give : jm_chk b_B_give k_B_give = true := by decide +kernel
theorem lk_B_give (pre : List Int → jm_S → Prop) (post : List Int → jm_S → Int → jm_S → Prop) : jm_Lk R_B 97 y_B_give b_B_give 6 none (false, 2, true, pre, post) := ⟨lw_in (by decide +kernel) rfl, lw_in (List.mem_of_getElem? (i := 181) rfl) rfl, (fun h => Bool.noConfusion h), fun _ => ⟨lw_in (by decide +kernel) rfl, lw_in (by decide +kernel) rfl⟩, lw_in (by decide +kernel) rfl, (by show _ ∧ _ ∧ _ = some 2; decide +kernel), ⟨fun _ => rfl, fun _ => rfl⟩, by decide⟩
def k_B_touch : List jm_I := [
  (0, .iload_n 1, 1, []),
  (1, .iconst 2, 2, []),
  (2, .if_icmp .eq 4, 5, [6]),
  (5, .return_, 6, []),
  (6, .iconst 0, 7, []),
  (7, .istore_n 3, 8, []),
  (8, .iload_n 3, 9, []),
  (9, .bipush 6, 11, []),
  (11, .if_icmp .ge 27, 14, [38]),
  (14, .iload_n 2, 15, []),
  (15, .iload_n 3, 16, []),
  (16, .invokestatic 58, 19, []),
  (19, .istore 4, 21, []),
  (21, .iload 4, 23, []),
  (23, .ifCond .lt 9, 26, [32]),
  (26, .aload_n 0, 27, []),
  (27, .iload 4, 29, []),
  (29, .invokevirtual 100, 32, []),
  (32, .iinc 3 1, 35, []),
  (35, .goto (-27), 38, [8]),
  (38, .return_, 39, [])]
theorem ck_B_touch : jm_chk b_B_touch k_B_touch = true := by decide +kernel
theorem lk_B_touch (pre : List Int → jm_S → Prop) (post : List Int → jm_S → Int → jm_S → Prop) : jm_Lk R_B 81 y_B_touch b_B_touch 5 none (false, 2, true, pre, post) := ⟨lw_in (by decide +kernel) rfl, lw_in (List.mem_of_getElem? (i := 138) rfl) rfl, (fun h => Bool.noConfusion h), fun _ => ⟨lw_in (by decide +kernel) rfl, lw_in (by decide +kernel) rfl⟩, lw_in (by decide +kernel) rfl, (by show _ ∧ _ ∧ _ = some 2; decide +kernel), ⟨fun _ => rfl, fun _ => rfl⟩, by decide⟩
def k_B_notice : List jm_I := [
  (0, .aload_n 0, 1, []),
  (1, .getfield 7, 4, []),
  (4, .iload_n 1, 5, []),
  (5, .baload, 6, []),
  (6, .bipush 8, 8, []),
  (8, .if_icmp .ne 15, 11, [23]),
  (11, .aload_n 0, 12, []),
  (12, .getfield 36, 15, []),
  (15, .iload_n 1, 16, []),
  (16, .iconst 1, 17, []),
  (17, .bastore, 18, []),
  (18, .aload_n 0, 19, []),
  (19, .iconst 1, 20, []),
  (20, .putfield 104, 23, []),
  (23, .aload_n 0, 24, []),
  (24, .getfield 7, 27, []),
  (27, .iload_n 1, 28, []),
  (28, .baload, 29, []),
  (29, .bipush 7, 31, []),
  (31, .if_icmp .ne 10, 34, [41]),
  (34, .aload_n 0, 35, []),
  (35, .getfield 20, 38, []),
  (38, .iload_n 1, 39, []),
  (39, .iconst 1, 40, []),
  (40, .bastore, 41, []),
  (41, .return_, 42, [])]
theorem ck_B_notice : jm_chk b_B_notice k_B_notice = true := by decide +kernel
theorem lk_B_notice (pre : List Int → jm_S → Prop) (post : List Int → jm_S → Int → jm_S → Prop) : jm_Lk R_B 100 y_B_notice b_B_notice 2 none (false, 1, true, pre, post) := ⟨lw_in (by decide +kernel) rfl, lw_in (List.mem_of_getElem? (i := 145) rfl) rfl, (fun h => Bool.noConfusion h), fun _ => ⟨lw_in (by decide +kernel) rfl, lw_in (by decide +kernel) rfl⟩, lw_in (by decide +kernel) rfl, (by show _ ∧ _ ∧ _ = some 1; decide +kernel), ⟨fun _ => rfl, fun _ => rfl⟩, by decide⟩
def k_B_renew : List jm_I := [
  (0, .aload_n 0, 1, []),
  (1, .iload_n 1, 2, []),
  (2, .iload_n 2, 3, []),
  (3, .invokevirtual 85, 6, []),
  (6, .aload_n 0, 7, []),
  (7, .iload_n 1, 8, []),
  (8, .invokevirtual 108, 11, []),
  (11, .aload_n 0, 12, []),
  (12, .iload_n 1, 13, []),
  (13, .iload_n 2, 14, []),
  (14, .invokevirtual 88, 17, []),
  (17, .aload_n 0, 18, []),
  (18, .iload_n 1, 19, []),
  (19, .iload_n 2, 20, []),
  (20, .invokevirtual 91, 23, []),
  (23, .ifCond .eq 53, 26, [76]),
  (26, .iconst 0, 27, []),
  (27, .istore_n 3, 28, []),
  (28, .iload_n 3, 29, []),
  (29, .bipush 6, 31, []),
  (31, .if_icmp .ge 45, 34, [76]),
  (34, .iload_n 2, 35, []),
  (35, .iload_n 3, 36, []),
  (36, .invokestatic 58, 39, []),
  (39, .istore 4, 41, []),
  (41, .iload 4, 43, []),
  (43, .ifCond .lt 27, 46, [70]),
  (46, .aload_n 0, 47, []),
  (47, .getfield 23, 50, []),
  (50, .sipush 384, 53, []),
  (53, .iload_n 1, 54, []),
  (54, .imul, 55, []),
  (55, .iload 4, 57, []),
  (57, .iadd, 58, []),
  (58, .baload, 59, []),
  (59, .ifCond .le 11, 62, [70]),
  (62, .aload_n 0, 63, []),
  (63, .getfield 26, 66, []),
  (66, .iload 4, 68, []),
  (68, .iconst 1, 69, []),
  (69, .bastore, 70, []),
  (70, .iinc 3 1, 73, []),
  (73, .goto (-45), 76, [28]),
  (76, .aload_n 0, 77, []),
  (77, .iload_n 1, 78, []),
  (78, .invokevirtual 111, 81, []),
  (81, .return_, 82, [])]
theorem ck_B_renew : jm_chk b_B_renew k_B_renew = true := by decide +kernel
theorem lk_B_renew (pre : List Int → jm_S → Prop) (post : List Int → jm_S → Int → jm_S → Prop) : jm_Lk R_B 114 y_B_renew b_B_renew 5 none (false, 2, true, pre, post) := ⟨lw_in (by decide +kernel) rfl, lw_in (List.mem_of_getElem? (i := 130) rfl) rfl, (fun h => Bool.noConfusion h), fun _ => ⟨lw_in (by decide +kernel) rfl, lw_in (by decide +kernel) rfl⟩, lw_in (by decide +kernel) rfl, (by show _ ∧ _ ∧ _ = some 2; decide +kernel), ⟨fun _ => rfl, fun _ => rfl⟩, by decide⟩
def k_B_feedAround : List jm_I := [
  (0, .iconst 0, 1, []),
  (1, .istore_n 2, 2, []),
  (2, .iload_n 2, 3, []),
  (3, .bipush 6, 5, []),
  (5, .if_icmp .ge 43, 8, [48]),
  (8, .iload_n 1, 9, []),
  (9, .iload_n 2, 10, []),
  (10, .invokestatic 58, 13, []),
  (13, .istore_n 3, 14, []),
  (14, .iload_n 3, 15, []),
  (15, .ifCond .ge 6, 18, [21]),
  (18, .goto 24, 21, [42]),
  (21, .aload_n 0, 22, []),
  (22, .iload_n 3, 23, []),
  (23, .invokevirtual 100, 26, []),
  (26, .aload_n 0, 27, []),
  (27, .getfield 7, 30, []),
  (30, .iload_n 3, 31, []),
  (31, .baload, 32, []),
  (32, .iconst 5, 33, []),
  (33, .if_icmp .ne 9, 36, [42]),
  (36, .aload_n 0, 37, []),
  (37, .iconst 2, 38, []),
  (38, .iload_n 3, 39, []),
  (39, .invokevirtual 114, 42, []),
  (42, .iinc 2 1, 45, []),
  (45, .goto (-43), 48, [2]),
  (48, .return_, 49, [])]
theorem ck_B_feedAround : jm_chk b_B_feedAround k_B_feedAround = true := by decide +kernel
theorem lk_B_feedAround (pre : List Int → jm_S → Prop) (post : List Int → jm_S → Int → jm_S → Prop) : jm_Lk R_B 123 y_B_feedAround b_B_feedAround 4 none (false, 1, true, pre, post) := ⟨lw_in (by decide +kernel) rfl, lw_in (List.mem_of_getElem? (i := 185) rfl) rfl, (fun h => Bool.noConfusion h), fun _ => ⟨lw_in (by decide +kernel) rfl, lw_in (by decide +kernel) rfl⟩, lw_in (by decide +kernel) rfl, (by show _ ∧ _ ∧ _ = some 1; decide +kernel), ⟨fun _ => rfl, fun _ => rfl⟩, by decide⟩
def k_B_lampsLook : List jm_I := [
  (0, .aload_n 0, 1, []),
  (1, .getfield 104, 4, []),
  (4, .ifCond .eq 122, 7, [126]),
  (7, .aload_n 0, 8, []),
  (8, .iconst 0, 9, []),
  (9, .putfield 104, 12, []),
  (12, .iconst 0, 13, []),
  (13, .istore_n 1, 14, []),
  (14, .iload_n 1, 15, []),
  (15, .sipush 384, 18, []),
  (18, .if_icmp .ge 105, 21, [123]),
  (21, .aload_n 0, 22, []),
  (22, .getfield 36, 25, []),
  (25, .iload_n 1, 26, []),
  (26, .baload, 27, []),
  (27, .ifCond .ne 6, 30, [33]),
  (30, .goto 87, 33, [117]),
  (33, .aload_n 0, 34, []),
  (34, .getfield 36, 37, []),
  (37, .iload_n 1, 38, []),
  (38, .iconst 0, 39, []),
  (39, .bastore, 40, []),
  (40, .aload_n 0, 41, []),
  (41, .getfield 7, 44, []),
  (44, .iload_n 1, 45, []),
  (45, .baload, 46, []),
  (46, .bipush 8, 48, []),
  (48, .if_icmp .ne 15, 51, [63]),
  (51, .aload_n 0, 52, []),
  (52, .iload_n 1, 53, []),
  (53, .invokevirtual 117, 56, []),
  (56, .ifCond .eq 7, 59, [63]),
  (59, .iconst 1, 60, []),
  (60, .goto 4, 63, [64]),
  (63, .iconst 0, 64, []),
  (64, .istore_n 2, 65, []),
  (65, .iload_n 2, 66, []),
  (66, .aload_n 0, 67, []),
  (67, .getfield 16, 70, []),
  (70, .iload_n 1, 71, []),
  (71, .baload, 72, []),
  (72, .if_icmp .eq 45, 75, [117]),
  (75, .aload_n 0, 76, []),
  (76, .getfield 7, 79, []),
  (79, .iload_n 1, 80, []),
  (80, .baload, 81, []),
  (81, .bipush 8, 83, []),
  (83, .if_icmp .eq 6, 86, [89]),
  (86, .goto 31, 89, [117]),
  (89, .aload_n 0, 90, []),
  (90, .getfield 16, 93, []),
  (93, .iload_n 1, 94, []),
  (94, .iload_n 2, 95, []),
  (95, .bastore, 96, []),
  (96, .aload_n 0, 97, []),
  (97, .iconst 0, 98, []),
  (98, .iload_n 1, 99, []),
  (99, .invokevirtual 114, 102, []),
  (102, .iload_n 1, 103, []),
  (103, .iconst 0, 104, []),
  (104, .invokestatic 58, 107, []),
  (107, .istore_n 3, 108, []),
  (108, .iload_n 3, 109, []),
  (109, .ifCond .lt 8, 112, [117]),
  (112, .aload_n 0, 113, []),
  (113, .iload_n 3, 114, []),
  (114, .invokevirtual 100, 117, []),
  (117, .iinc 1 1, 120, []),
  (120, .goto (-106), 123, [14]),
  (123, .goto (-123), 126, [0]),
  (126, .return_, 127, [])]
theorem ck_B_lampsLook : jm_chk b_B_lampsLook k_B_lampsLook = true := by decide +kernel
theorem lk_B_lampsLook (pre : List Int → jm_S → Prop) (post : List Int → jm_S → Int → jm_S → Prop) : jm_Lk R_B 133 y_B_lampsLook b_B_lampsLook 4 none (false, 0, true, pre, post) := ⟨lw_in (by decide +kernel) rfl, lw_in (List.mem_of_getElem? (i := 189) rfl) rfl, (fun h => Bool.noConfusion h), fun _ => ⟨lw_in (by decide +kernel) rfl, lw_in (by decide +kernel) rfl⟩, lw_in (by decide +kernel) rfl, (by show _ ∧ _ ∧ _ = some 0; decide +kernel), ⟨fun _ => rfl, fun _ => rfl⟩, by decide⟩
def k_B_isFed : List jm_I := [
  (0, .iconst 0, 1, []),
  (1, .istore_n 2, 2, []),
  (2, .iload_n 2, 3, []),
  (3, .bipush 6, 5, []),
  (5, .if_icmp .ge 68, 8, [73]),
  (8, .iload_n 1, 9, []),
  (9, .iload_n 2, 10, []),
  (10, .invokestatic 58, 13, []),
  (13, .istore_n 3, 14, []),
  (14, .iload_n 3, 15, []),
  (15, .ifCond .ge 6, 18, [21]),
  (18, .goto 49, 21, [67]),
  (21, .aload_n 0, 22, []),
  (22, .iload_n 3, 23, []),
  (23, .iload_n 2, 24, []),
  (24, .iconst 1, 25, []),
  (25, .ixor, 26, []),
  (26, .invokevirtual 62, 29, []),
  (29, .ifCond .ne 36, 32, [65]),
  (32, .aload_n 0, 33, []),
  (33, .getfield 7, 36, []),
  (36, .iload_n 1, 37, []),
  (37, .baload, 38, []),
  (38, .iconst 5, 39, []),
  (39, .if_icmp .eq 28, 42, [67]),
  (42, .aload_n 0, 43, []),
  (43, .getfield 7, 46, []),
  (46, .iload_n 3, 47, []),
  (47, .baload, 48, []),
  (48, .iconst 5, 49, []),
  (49, .if_icmp .ne 18, 52, [67]),
  (52, .aload_n 0, 53, []),
  (53, .getfield 23, 56, []),
  (56, .sipush 768, 59, []),
  (59, .iload_n 3, 60, []),
  (60, .iadd, 61, []),
  (61, .baload, 62, []),
  (62, .ifCond .le 5, 65, [67]),
  (65, .iconst 1, 66, []),
  (66, .ireturn, 67, []),
  (67, .iinc 2 1, 70, []),
  (70, .goto (-68), 73, [2]),
  (73, .iconst 0, 74, []),
  (74, .ireturn, 75, [])]
theorem ck_B_isFed : jm_chk b_B_isFed k_B_isFed = true := by decide +kernel
theorem lk_B_isFed (pre : List Int → jm_S → Prop) (post : List Int → jm_S → Int → jm_S → Prop) : jm_Lk R_B 117 y_B_isFed b_B_isFed 4 (some .boolean) (false, 1, false, pre, post) := ⟨lw_in (by decide +kernel) rfl, lw_in (List.mem_of_getElem? (i := 193) rfl) rfl, (fun h => Bool.noConfusion h), fun _ => ⟨lw_in (by decide +kernel) rfl, lw_in (by decide +kernel) rfl⟩, lw_in (by decide +kernel) rfl, (by show _ ∧ _ ∧ _ = some 1; decide +kernel), ⟨(fun h => Bool.noConfusion h), (fun h => by cases h)⟩, by decide⟩
def k_B_set : List jm_I := [
  (0, .aload_n 0, 1, []),
  (1, .getfield 7, 4, []),
  (4, .iload_n 1, 5, []),
  (5, .baload, 6, []),
  (6, .istore_n 3, 7, []),
  (7, .iload_n 3, 8, []),
  (8, .iload_n 2, 9, []),
  (9, .if_icmp .ne 16, 12, [25]),
  (12, .iload_n 2, 13, []),
  (13, .bipush 7, 15, []),
  (15, .if_icmp .eq 10, 18, [25]),
  (18, .iload_n 2, 19, []),
  (19, .bipush 9, 21, []),
  (21, .if_icmp .eq 4, 24, [25]),
  (24, .return_, 25, []),
  (25, .iload_n 3, 26, []),
  (26, .bipush 6, 28, []),
  (28, .if_icmp .eq 18, 31, [46]),
  (31, .iload_n 3, 32, []),
  (32, .bipush 7, 34, []),
  (34, .if_icmp .ne 16, 37, [50]),
  (37, .aload_n 0, 38, []),
  (38, .getfield 16, 41, []),
  (41, .iload_n 1, 42, []),
  (42, .baload, 43, []),
  (43, .ifCond .eq 7, 46, [50]),
  (46, .iconst 1, 47, []),
  (47, .goto 4, 50, [51]),
  (50, .iconst 0, 51, []),
  (51, .istore 4, 53, []),
  (53, .iload_n 3, 54, []),
  (54, .invokestatic 74, 57, []),
  (57, .istore 5, 59, []),
  (59, .aload_n 0, 60, []),
  (60, .getfield 42, 63, []),
  (63, .iload_n 3, 64, []),
  (64, .dup2, 65, []),
  (65, .saload, 66, []),
  (66, .iconst 1, 67, []),
  (67, .isub, 68, []),
  (68, .i2s, 69, []),
  (69, .sastore, 70, []),
  (70, .aload_n 0, 71, []),
  (71, .getfield 42, 74, []),
  (74, .iload_n 2, 75, []),
  (75, .dup2, 76, []),
  (76, .saload, 77, []),
  (77, .iconst 1, 78, []),
  (78, .iadd, 79, []),
  (79, .i2s, 80, []),
  (80, .sastore, 81, []),
  (81, .aload_n 0, 82, []),
  (82, .getfield 7, 85, []),
  (85, .iload_n 1, 86, []),
  (86, .iload_n 2, 87, []),
  (87, .i2b, 88, []),
  (88, .bastore, 89, []),
  (89, .aload_n 0, 90, []),
  (90, .getfield 13, 93, []),
  (93, .iload_n 1, 94, []),
  (94, .iconst 0, 95, []),
  (95, .bastore, 96, []),
  (96, .aload_n 0, 97, []),
  (97, .getfield 16, 100, []),
  (100, .iload_n 1, 101, []),
  (101, .iload_n 2, 102, []),
  (102, .bipush 7, 104, []),
  (104, .if_icmp .ne 7, 107, [111]),
  (107, .iconst 1, 108, []),
  (108, .goto 4, 111, [112]),
  (111, .iconst 0, 112, []),
  (112, .bastore, 113, []),
  (113, .aload_n 0, 114, []),
  (114, .getfield 20, 117, []),
  (117, .iload_n 1, 118, []),
  (118, .iload_n 2, 119, []),
  (119, .bipush 7, 121, []),
  (121, .if_icmp .ne 7, 124, [128]),
  (124, .iconst 1, 125, []),
  (125, .goto 4, 128, [129]),
  (128, .iconst 0, 129, []),
  (129, .bastore, 130, []),
  (130, .aload_n 0, 131, []),
  (131, .getfield 36, 134, []),
  (134, .iload_n 1, 135, []),
  (135, .iload_n 2, 136, []),
  (136, .bipush 8, 138, []),
  (138, .if_icmp .ne 7, 141, [145]),
  (141, .iconst 1, 142, []),
  (142, .goto 4, 145, [146]),
  (145, .iconst 0, 146, []),
  (146, .bastore, 147, []),
  (147, .aload_n 0, 148, []),
  (148, .dup, 149, []),
  (149, .getfield 104, 152, []),
  (152, .iload_n 2, 153, []),
  (153, .bipush 8, 155, []),
  (155, .if_icmp .ne 7, 158, [162]),
  (158, .iconst 1, 159, []),
  (159, .goto 4, 162, [163]),
  (162, .iconst 0, 163, []),
  (163, .ior, 164, []),
  (164, .putfield 104, 167, []),
  (167, .iload 5, 169, []),
  (169, .iload_n 2, 170, []),
  (170, .invokestatic 74, 173, []),
  (173, .if_icmp .eq 8, 176, [181]),
  (176, .aload_n 0, 177, []),
  (177, .iload_n 1, 178, []),
  (178, .invokevirtual 120, 181, []),
  (181, .iload 5, 183, []),
  (183, .iload_n 2, 184, []),
  (184, .invokestatic 74, 187, []),
  (187, .if_icmp .ne 19, 190, [206]),
  (190, .iload_n 3, 191, []),
  (191, .iconst 3, 192, []),
  (192, .if_icmp .eq 14, 195, [206]),
  (195, .iload_n 3, 196, []),
  (196, .bipush 8, 198, []),
  (198, .if_icmp .eq 8, 201, [206]),
  (201, .iload_n 2, 202, []),
  (202, .iconst 3, 203, []),
  (203, .if_icmp .ne 9, 206, [212]),
  (206, .aload_n 0, 207, []),
  (207, .iconst 0, 208, []),
  (208, .iload_n 1, 209, []),
  (209, .invokevirtual 114, 212, []),
  (212, .iload_n 3, 213, []),
  (213, .iconst 5, 214, []),
  (214, .if_icmp .eq 8, 217, [222]),
  (217, .iload_n 2, 218, []),
  (218, .iconst 5, 219, []),
  (219, .if_icmp .ne 9, 222, [228]),
  (222, .aload_n 0, 223, []),
  (223, .iconst 2, 224, []),
  (224, .iload_n 1, 225, []),
  (225, .invokevirtual 114, 228, []),
  (228, .iload 4, 230, []),
  (230, .ifCond .ne 15, 233, [245]),
  (233, .iload_n 2, 234, []),
  (234, .bipush 6, 236, []),
  (236, .if_icmp .eq 9, 239, [245]),
  (239, .iload_n 2, 240, []),
  (240, .bipush 7, 242, []),
  (242, .if_icmp .ne 8, 245, [250]),
  (245, .aload_n 0, 246, []),
  (246, .iload_n 1, 247, []),
  (247, .invokevirtual 123, 250, []),
  (250, .iload_n 1, 251, []),
  (251, .iconst 0, 252, []),
  (252, .invokestatic 58, 255, []),
  (255, .istore 6, 257, []),
  (257, .iload 6, 259, []),
  (259, .ifCond .lt 9, 262, [268]),
  (262, .aload_n 0, 263, []),
  (263, .iload 6, 265, []),
  (265, .invokevirtual 100, 268, []),
  (268, .return_, 269, [])]
theorem ck_B_set : jm_chk b_B_set k_B_set = true := by decide +kernel
theorem lk_B_set (pre : List Int → jm_S → Prop) (post : List Int → jm_S → Int → jm_S → Prop) : jm_Lk R_B 130 y_B_set b_B_set 7 none (false, 2, true, pre, post) := ⟨lw_in (by decide +kernel) rfl, lw_in (List.mem_of_getElem? (i := 119) rfl) rfl, (fun h => Bool.noConfusion h), fun _ => ⟨lw_in (by decide +kernel) rfl, lw_in (by decide +kernel) rfl⟩, lw_in (by decide +kernel) rfl, (by show _ ∧ _ ∧ _ = some 2; decide +kernel), ⟨fun _ => rfl, fun _ => rfl⟩, by decide⟩
def k_B_changeRoof : List jm_I := [
  (0, .iload_n 1, 1, []),
  (1, .bipush 63, 3, []),
  (3, .iand, 4, []),
  (4, .istore_n 2, 5, []),
  (5, .aload_n 0, 6, []),
  (6, .getfield 39, 9, []),
  (9, .iload_n 2, 10, []),
  (10, .baload, 11, []),
  (11, .istore_n 3, 12, []),
  (12, .bipush 6, 14, []),
  (14, .istore 4, 16, []),
  (16, .iload 4, 18, []),
  (18, .ifCond .le 29, 21, [47]),
  (21, .aload_n 0, 22, []),
  (22, .getfield 7, 25, []),
  (25, .bipush 64, 27, []),
  (27, .iload 4, 29, []),
  (29, .iconst 1, 30, []),
  (30, .isub, 31, []),
  (31, .imul, 32, []),
  (32, .iload_n 2, 33, []),
  (33, .iadd, 34, []),
  (34, .baload, 35, []),
  (35, .invokestatic 74, 38, []),
  (38, .ifCond .ne 9, 41, [47]),
  (41, .iinc 4 (-1), 44, []),
  (44, .goto (-28), 47, [16]),
  (47, .aload_n 0, 48, []),
  (48, .getfield 39, 51, []),
  (51, .iload_n 2, 52, []),
  (52, .iload 4, 54, []),
  (54, .i2b, 55, []),
  (55, .bastore, 56, []),
  (56, .aload_n 0, 57, []),
  (57, .iconst 1, 58, []),
  (58, .iload_n 1, 59, []),
  (59, .invokevirtual 114, 62, []),
  (62, .iload_n 3, 63, []),
  (63, .iload 4, 65, []),
  (65, .if_icmp .ge 7, 68, [72]),
  (68, .iload_n 3, 69, []),
  (69, .goto 5, 72, [74]),
  (72, .iload 4, 74, []),
  (74, .istore 5, 76, []),
  (76, .iload_n 3, 77, []),
  (77, .iload 4, 79, []),
  (79, .if_icmp .ge 8, 82, [87]),
  (82, .iload 4, 84, []),
  (84, .goto 4, 87, [88]),
  (87, .iload_n 3, 88, []),
  (88, .istore 6, 90, []),
  (90, .iload 5, 92, []),
  (92, .istore 7, 94, []),
  (94, .iload 7, 96, []),
  (96, .iload 6, 98, []),
  (98, .if_icmp .ge 32, 101, [130]),
  (101, .bipush 64, 103, []),
  (103, .iload 7, 105, []),
  (105, .imul, 106, []),
  (106, .iload_n 2, 107, []),
  (107, .iadd, 108, []),
  (108, .iload_n 1, 109, []),
  (109, .if_icmp .eq 15, 112, [124]),
  (112, .aload_n 0, 113, []),
  (113, .iconst 1, 114, []),
  (114, .bipush 64, 116, []),
  (116, .iload 7, 118, []),
  (118, .imul, 119, []),
  (119, .iload_n 2, 120, []),
  (120, .iadd, 121, []),
  (121, .invokevirtual 114, 124, []),
  (124, .iinc 7 1, 127, []),
  (127, .goto (-33), 130, [94]),
  (130, .return_, 131, [])]
theorem ck_B_changeRoof : jm_chk b_B_changeRoof k_B_changeRoof = true := by decide +kernel
theorem lk_B_changeRoof (pre : List Int → jm_S → Prop) (post : List Int → jm_S → Int → jm_S → Prop) : jm_Lk R_B 120 y_B_changeRoof b_B_changeRoof 8 none (false, 1, true, pre, post) := ⟨lw_in (by decide +kernel) rfl, lw_in (List.mem_of_getElem? (i := 126) rfl) rfl, (fun h => Bool.noConfusion h), fun _ => ⟨lw_in (by decide +kernel) rfl, lw_in (by decide +kernel) rfl⟩, lw_in (by decide +kernel) rfl, (by show _ ∧ _ ∧ _ = some 1; decide +kernel), ⟨fun _ => rfl, fun _ => rfl⟩, by decide⟩
def k_B_put : List jm_I := [
  (0, .iload_n 1, 1, []),
  (1, .iload_n 2, 2, []),
  (2, .iload_n 3, 3, []),
  (3, .iload 4, 5, []),
  (5, .invokestatic 126, 8, []),
  (8, .ifCond .eq 22, 11, [30]),
  (11, .aload_n 0, 12, []),
  (12, .getfield 7, 15, []),
  (15, .iload_n 1, 16, []),
  (16, .bipush 8, 18, []),
  (18, .iload_n 3, 19, []),
  (19, .imul, 20, []),
  (20, .iadd, 21, []),
  (21, .bipush 64, 23, []),
  (23, .iload_n 2, 24, []),
  (24, .imul, 25, []),
  (25, .iadd, 26, []),
  (26, .baload, 27, []),
  (27, .goto 4, 30, [31]),
  (30, .iconst (-1), 31, []),
  (31, .istore 5, 33, []),
  (33, .iload 5, 35, []),
  (35, .iconst (-1), 36, []),
  (36, .if_icmp .ne 5, 39, [41]),
  (39, .iconst (-1), 40, []),
  (40, .ireturn, 41, []),
  (41, .aload_n 0, 42, []),
  (42, .iload_n 1, 43, []),
  (43, .bipush 8, 45, []),
  (45, .iload_n 3, 46, []),
  (46, .imul, 47, []),
  (47, .iadd, 48, []),
  (48, .bipush 64, 50, []),
  (50, .iload_n 2, 51, []),
  (51, .imul, 52, []),
  (52, .iadd, 53, []),
  (53, .iload 4, 55, []),
  (55, .invokevirtual 130, 58, []),
  (58, .aload_n 0, 59, []),
  (59, .invokevirtual 133, 62, []),
  (62, .iload 5, 64, []),
  (64, .ireturn, 65, [])]
theorem ck_B_put : jm_chk b_B_put k_B_put = true := by decide +kernel
def k_B_fits : List jm_I := [
  (0, .iload_n 0, 1, []),
  (1, .bipush (-8), 3, []),
  (3, .iand, 4, []),
  (4, .ifCond .ne 34, 7, [38]),
  (7, .iload_n 1, 8, []),
  (8, .ifCond .lt 30, 11, [38]),
  (11, .iload_n 1, 12, []),
  (12, .bipush 6, 14, []),
  (14, .if_icmp .ge 24, 17, [38]),
  (17, .iload_n 2, 18, []),
  (18, .bipush (-8), 20, []),
  (20, .iand, 21, []),
  (21, .ifCond .ne 17, 24, [38]),
  (24, .iload_n 3, 25, []),
  (25, .ifCond .lt 13, 28, [38]),
  (28, .iload_n 3, 29, []),
  (29, .bipush 10, 31, []),
  (31, .if_icmp .ge 7, 34, [38]),
  (34, .iconst 1, 35, []),
  (35, .goto 4, 38, [39]),
  (38, .iconst 0, 39, []),
  (39, .ireturn, 40, [])]
theorem ck_B_fits : jm_chk b_B_fits k_B_fits = true := by decide +kernel
theorem lk_B_fits (pre : List Int → jm_S → Prop) (post : List Int → jm_S → Int → jm_S → Prop) : jm_Lk R_B 126 y_B_fits b_B_fits 4 (some .boolean) (true, 4, false, pre, post) := ⟨lw_in (by decide +kernel) rfl, lw_in (List.mem_of_getElem? (i := 115) rfl) rfl, fun _ => lw_in (by decide +kernel) rfl, (fun h => Bool.noConfusion h), lw_in (by decide +kernel) rfl, (by show _ ∧ _ ∧ _ = some 4; decide +kernel), ⟨(fun h => Bool.noConfusion h), (fun h => by cases h)⟩, by decide⟩
def k_B_fill : List jm_I := [
  (0, .iload_n 1, 1, []),
  (1, .iload_n 2, 2, []),
  (2, .iload_n 3, 3, []),
  (3, .iload 7, 5, []),
  (5, .invokestatic 126, 8, []),
  (8, .ifCond .eq 35, 11, [43]),
  (11, .iload 4, 13, []),
  (13, .iload 5, 15, []),
  (15, .iload 6, 17, []),
  (17, .iload 7, 19, []),
  (19, .invokestatic 126, 22, []),
  (22, .ifCond .eq 21, 25, [43]),
  (25, .iload 4, 27, []),
  (27, .iload_n 1, 28, []),
  (28, .if_icmp .lt 15, 31, [43]),
  (31, .iload 5, 33, []),
  (33, .iload_n 2, 34, []),
  (34, .if_icmp .lt 9, 37, [43]),
  (37, .iload 6, 39, []),
  (39, .iload_n 3, 40, []),
  (40, .if_icmp .ge 5, 43, [45]),
  (43, .iconst (-1), 44, []),
  (44, .ireturn, 45, []),
  (45, .iconst 0, 46, []),
  (46, .istore 8, 48, []),
  (48, .iconst 0, 49, []),
  (49, .istore 9, 51, []),
  (51, .iload 9, 53, []),
  (53, .sipush 384, 56, []),
  (56, .if_icmp .ge 97, 59, [153]),
  (59, .iload 9, 61, []),
  (61, .bipush 7, 63, []),
  (63, .iand, 64, []),
  (64, .istore 10, 66, []),
  (66, .iload 9, 68, []),
  (68, .bipush 6, 70, []),
  (70, .ishr, 71, []),
  (71, .istore 11, 73, []),
  (73, .iload 9, 75, []),
  (75, .iconst 3, 76, []),
  (76, .ishr, 77, []),
  (77, .bipush 7, 79, []),
  (79, .iand, 80, []),
  (80, .istore 12, 82, []),
  (82, .iload 10, 84, []),
  (84, .iload_n 1, 85, []),
  (85, .if_icmp .lt 62, 88, [147]),
  (88, .iload 10, 90, []),
  (90, .iload 4, 92, []),
  (92, .if_icmp .gt 55, 95, [147]),
  (95, .iload 11, 97, []),
  (97, .iload_n 2, 98, []),
  (98, .if_icmp .lt 49, 101, [147]),
  (101, .iload 11, 103, []),
  (103, .iload 5, 105, []),
  (105, .if_icmp .gt 42, 108, [147]),
  (108, .iload 12, 110, []),
  (110, .iload_n 3, 111, []),
  (111, .if_icmp .lt 36, 114, [147]),
  (114, .iload 12, 116, []),
  (116, .iload 6, 118, []),
  (118, .if_icmp .le 6, 121, [124]),
  (121, .goto 26, 124, [147]),
  (124, .aload_n 0, 125, []),
  (125, .getfield 7, 128, []),
  (128, .iload 9, 130, []),
  (130, .baload, 131, []),
  (131, .iload 7, 133, []),
  (133, .if_icmp .eq 6, 136, [139]),
  (136, .iinc 8 1, 139, []),
  (139, .aload_n 0, 140, []),
  (140, .iload 9, 142, []),
  (142, .iload 7, 144, []),
  (144, .invokevirtual 130, 147, []),
  (147, .iinc 9 1, 150, []),
  (150, .goto (-99), 153, [51]),
  (153, .aload_n 0, 154, []),
  (154, .invokevirtual 133, 157, []),
  (157, .iload 8, 159, []),
  (159, .ireturn, 160, [])]
theorem ck_B_fill : jm_chk b_B_fill k_B_fill = true := by decide +kernel
def k_B_due : List jm_I := [
  (0, .iload_n 1, 1, []),
  (1, .iconst 1, 2, []),
  (2, .invokestatic 58, 5, []),
  (5, .istore_n 2, 6, []),
  (6, .iload_n 2, 7, []),
  (7, .ifCond .ge 5, 10, [12]),
  (10, .iconst 1, 11, []),
  (11, .ireturn, 12, []),
  (12, .aload_n 0, 13, []),
  (13, .getfield 7, 16, []),
  (16, .iload_n 2, 17, []),
  (17, .baload, 18, []),
  (18, .bipush 6, 20, []),
  (20, .if_icmp .eq 39, 23, [59]),
  (23, .aload_n 0, 24, []),
  (24, .getfield 16, 27, []),
  (27, .iload_n 2, 28, []),
  (28, .baload, 29, []),
  (29, .ifCond .ne 30, 32, [59]),
  (32, .aload_n 0, 33, []),
  (33, .getfield 7, 36, []),
  (36, .iload_n 2, 37, []),
  (37, .baload, 38, []),
  (38, .iconst 5, 39, []),
  (39, .if_icmp .ne 16, 42, [55]),
  (42, .aload_n 0, 43, []),
  (43, .getfield 23, 46, []),
  (46, .sipush 768, 49, []),
  (49, .iload_n 2, 50, []),
  (50, .iadd, 51, []),
  (51, .baload, 52, []),
  (52, .ifCond .ne 7, 55, [59]),
  (55, .iconst 1, 56, []),
  (56, .goto 4, 59, [60]),
  (59, .iconst 0, 60, []),
  (60, .ireturn, 61, [])]
theorem ck_B_due : jm_chk b_B_due k_B_due = true := by decide +kernel
theorem lk_B_due (pre : List Int → jm_S → Prop) (post : List Int → jm_S → Int → jm_S → Prop) : jm_Lk R_B 136 y_B_due b_B_due 3 (some .boolean) (false, 1, false, pre, post) := ⟨lw_in (by decide +kernel) rfl, lw_in (List.mem_of_getElem? (i := 232) rfl) rfl, (fun h => Bool.noConfusion h), fun _ => ⟨lw_in (by decide +kernel) rfl, lw_in (by decide +kernel) rfl⟩, lw_in (by decide +kernel) rfl, (by show _ ∧ _ ∧ _ = some 1; decide +kernel), ⟨(fun h => Bool.noConfusion h), (fun h => by cases h)⟩, by decide⟩
def k_B_invert : List jm_I := [
  (0, .iconst 0, 1, []),
  (1, .istore_n 1, 2, []),
  (2, .iconst 0, 3, []),
  (3, .istore_n 2, 4, []),
  (4, .iload_n 2, 5, []),
  (5, .sipush 384, 8, []),
  (8, .if_icmp .ge 61, 11, [69]),
  (11, .aload_n 0, 12, []),
  (12, .getfield 52, 15, []),
  (15, .iload_n 2, 16, []),
  (16, .aload_n 0, 17, []),
  (17, .getfield 20, 20, []),
  (20, .iload_n 2, 21, []),
  (21, .baload, 22, []),
  (22, .ifCond .eq 32, 25, [54]),
  (25, .aload_n 0, 26, []),
  (26, .getfield 7, 29, []),
  (29, .iload_n 2, 30, []),
  (30, .baload, 31, []),
  (31, .bipush 7, 33, []),
  (33, .if_icmp .ne 21, 36, [54]),
  (36, .aload_n 0, 37, []),
  (37, .iload_n 2, 38, []),
  (38, .invokevirtual 136, 41, []),
  (41, .aload_n 0, 42, []),
  (42, .getfield 16, 45, []),
  (45, .iload_n 2, 46, []),
  (46, .baload, 47, []),
  (47, .if_icmp .eq 7, 50, [54]),
  (50, .iconst 1, 51, []),
  (51, .goto 4, 54, [55]),
  (54, .iconst 0, 55, []),
  (55, .bastore, 56, []),
  (56, .aload_n 0, 57, []),
  (57, .getfield 20, 60, []),
  (60, .iload_n 2, 61, []),
  (61, .iconst 0, 62, []),
  (62, .bastore, 63, []),
  (63, .iinc 2 1, 66, []),
  (66, .goto (-62), 69, [4]),
  (69, .iconst 0, 70, []),
  (70, .istore_n 2, 71, []),
  (71, .iload_n 2, 72, []),
  (72, .sipush 384, 75, []),
  (75, .if_icmp .ge 44, 78, [119]),
  (78, .aload_n 0, 79, []),
  (79, .getfield 52, 82, []),
  (82, .iload_n 2, 83, []),
  (83, .baload, 84, []),
  (84, .ifCond .ne 6, 87, [90]),
  (87, .goto 26, 90, [113]),
  (90, .aload_n 0, 91, []),
  (91, .getfield 16, 94, []),
  (94, .iload_n 2, 95, []),
  (95, .aload_n 0, 96, []),
  (96, .getfield 16, 99, []),
  (99, .iload_n 2, 100, []),
  (100, .baload, 101, []),
  (101, .ifCond .ne 7, 104, [108]),
  (104, .iconst 1, 105, []),
  (105, .goto 4, 108, [109]),
  (108, .iconst 0, 109, []),
  (109, .bastore, 110, []),
  (110, .iinc 1 1, 113, []),
  (113, .iinc 2 1, 116, []),
  (116, .goto (-45), 119, [71]),
  (119, .iconst 0, 120, []),
  (120, .istore_n 2, 121, []),
  (121, .iload_n 2, 122, []),
  (122, .sipush 384, 125, []),
  (125, .if_icmp .ge 26, 128, [151]),
  (128, .aload_n 0, 129, []),
  (129, .getfield 52, 132, []),
  (132, .iload_n 2, 133, []),
  (133, .baload, 134, []),
  (134, .ifCond .ne 6, 137, [140]),
  (137, .goto 8, 140, [145]),
  (140, .aload_n 0, 141, []),
  (141, .iload_n 2, 142, []),
  (142, .invokevirtual 123, 145, []),
  (145, .iinc 2 1, 148, []),
  (148, .goto (-27), 151, [121]),
  (151, .aload_n 0, 152, []),
  (152, .invokevirtual 133, 155, []),
  (155, .iload_n 1, 156, []),
  (156, .ireturn, 157, [])]
theorem ck_B_invert : jm_chk b_B_invert k_B_invert = true := by decide +kernel
theorem lk_B_invert (pre : List Int → jm_S → Prop) (post : List Int → jm_S → Int → jm_S → Prop) : jm_Lk R_B 145 y_B_invert b_B_invert 3 (some .int) (false, 0, false, pre, post) := ⟨lw_in (by decide +kernel) rfl, lw_in (List.mem_of_getElem? (i := 228) rfl) rfl, (fun h => Bool.noConfusion h), fun _ => ⟨lw_in (by decide +kernel) rfl, lw_in (by decide +kernel) rfl⟩, lw_in (by decide +kernel) rfl, (by show _ ∧ _ ∧ _ = some 0; decide +kernel), ⟨(fun h => Bool.noConfusion h), (fun h => by cases h)⟩, by decide⟩
def k_B_fall : List jm_I := [
  (0, .iconst 0, 1, []),
  (1, .istore_n 1, 2, []),
  (2, .bipush 64, 4, []),
  (4, .istore_n 2, 5, []),
  (5, .iload_n 2, 6, []),
  (6, .sipush 384, 9, []),
  (9, .if_icmp .ge 52, 12, [61]),
  (12, .aload_n 0, 13, []),
  (13, .getfield 7, 16, []),
  (16, .iload_n 2, 17, []),
  (17, .baload, 18, []),
  (18, .iconst 4, 19, []),
  (19, .if_icmp .ne 36, 22, [55]),
  (22, .aload_n 0, 23, []),
  (23, .getfield 7, 26, []),
  (26, .iload_n 2, 27, []),
  (27, .bipush 64, 29, []),
  (29, .isub, 30, []),
  (30, .baload, 31, []),
  (31, .ifCond .eq 6, 34, [37]),
  (34, .goto 21, 37, [55]),
  (37, .aload_n 0, 38, []),
  (38, .iload_n 2, 39, []),
  (39, .iconst 0, 40, []),
  (40, .invokevirtual 130, 43, []),
  (43, .aload_n 0, 44, []),
  (44, .iload_n 2, 45, []),
  (45, .bipush 64, 47, []),
  (47, .isub, 48, []),
  (48, .iconst 4, 49, []),
  (49, .invokevirtual 130, 52, []),
  (52, .iinc 1 1, 55, []),
  (55, .iinc 2 1, 58, []),
  (58, .goto (-53), 61, [5]),
  (61, .aload_n 0, 62, []),
  (62, .invokevirtual 133, 65, []),
  (65, .iload_n 1, 66, []),
  (66, .ireturn, 67, [])]
theorem ck_B_fall : jm_chk b_B_fall k_B_fall = true := by decide +kernel
theorem lk_B_fall (pre : List Int → jm_S → Prop) (post : List Int → jm_S → Int → jm_S → Prop) : jm_Lk R_B 149 y_B_fall b_B_fall 3 (some .int) (false, 0, false, pre, post) := ⟨lw_in (by decide +kernel) rfl, lw_in (List.mem_of_getElem? (i := 236) rfl) rfl, (fun h => Bool.noConfusion h), fun _ => ⟨lw_in (by decide +kernel) rfl, lw_in (by decide +kernel) rfl⟩, lw_in (by decide +kernel) rfl, (by show _ ∧ _ ∧ _ = some 0; decide +kernel), ⟨(fun h => Bool.noConfusion h), (fun h => by cases h)⟩, by decide⟩
def k_B_stands : List jm_I := [
  (0, .iload_n 1, 1, []),
  (1, .bipush 63, 3, []),
  (3, .if_icmp .le 33, 6, [36]),
  (6, .aload_n 0, 7, []),
  (7, .getfield 7, 10, []),
  (10, .iload_n 1, 11, []),
  (11, .bipush 64, 13, []),
  (13, .isub, 14, []),
  (14, .baload, 15, []),
  (15, .iconst 1, 16, []),
  (16, .if_icmp .eq 16, 19, [32]),
  (19, .aload_n 0, 20, []),
  (20, .getfield 7, 23, []),
  (23, .iload_n 1, 24, []),
  (24, .bipush 64, 26, []),
  (26, .isub, 27, []),
  (27, .baload, 28, []),
  (28, .iconst 4, 29, []),
  (29, .if_icmp .ne 7, 32, [36]),
  (32, .iconst 1, 33, []),
  (33, .goto 4, 36, [37]),
  (36, .iconst 0, 37, []),
  (37, .ireturn, 38, [])]
theorem ck_B_stands : jm_chk b_B_stands k_B_stands = true := by decide +kernel
theorem lk_B_stands (pre : List Int → jm_S → Prop) (post : List Int → jm_S → Int → jm_S → Prop) : jm_Lk R_B 139 y_B_stands b_B_stands 2 (some .boolean) (false, 1, false, pre, post) := ⟨lw_in (by decide +kernel) rfl, lw_in (List.mem_of_getElem? (i := 244) rfl) rfl, (fun h => Bool.noConfusion h), fun _ => ⟨lw_in (by decide +kernel) rfl, lw_in (by decide +kernel) rfl⟩, lw_in (by decide +kernel) rfl, (by show _ ∧ _ ∧ _ = some 1; decide +kernel), ⟨(fun h => Bool.noConfusion h), (fun h => by cases h)⟩, by decide⟩
def k_B_grow : List jm_I := [
  (0, .iconst 0, 1, []),
  (1, .istore_n 1, 2, []),
  (2, .iload_n 1, 3, []),
  (3, .sipush 384, 6, []),
  (6, .if_icmp .ge 119, 9, [125]),
  (9, .aload_n 0, 10, []),
  (10, .getfield 55, 13, []),
  (13, .iload_n 1, 14, []),
  (14, .aload_n 0, 15, []),
  (15, .getfield 7, 18, []),
  (18, .iload_n 1, 19, []),
  (19, .baload, 20, []),
  (20, .bipush 9, 22, []),
  (22, .if_icmp .ne 15, 25, [37]),
  (25, .aload_n 0, 26, []),
  (26, .iload_n 1, 27, []),
  (27, .invokevirtual 139, 30, []),
  (30, .ifCond .ne 7, 33, [37]),
  (33, .iconst 1, 34, []),
  (34, .goto 4, 37, [38]),
  (37, .iconst 0, 38, []),
  (38, .bastore, 39, []),
  (39, .aload_n 0, 40, []),
  (40, .getfield 7, 43, []),
  (43, .iload_n 1, 44, []),
  (44, .baload, 45, []),
  (45, .bipush 9, 47, []),
  (47, .if_icmp .ne 72, 50, [119]),
  (50, .aload_n 0, 51, []),
  (51, .iload_n 1, 52, []),
  (52, .invokevirtual 139, 55, []),
  (55, .ifCond .eq 64, 58, [119]),
  (58, .aload_n 0, 59, []),
  (59, .getfield 13, 62, []),
  (62, .iload_n 1, 63, []),
  (63, .baload, 64, []),
  (64, .bipush 7, 66, []),
  (66, .if_icmp .eq 53, 69, [119]),
  (69, .aload_n 0, 70, []),
  (70, .getfield 23, 73, []),
  (73, .iload_n 1, 74, []),
  (74, .baload, 75, []),
  (75, .bipush 9, 77, []),
  (77, .if_icmp .ge 21, 80, [98]),
  (80, .aload_n 0, 81, []),
  (81, .getfield 23, 84, []),
  (84, .sipush 384, 87, []),
  (87, .iload_n 1, 88, []),
  (88, .iadd, 89, []),
  (89, .baload, 90, []),
  (90, .bipush 9, 92, []),
  (92, .if_icmp .ge 6, 95, [98]),
  (95, .goto 24, 98, [119]),
  (98, .aload_n 0, 99, []),
  (99, .getfield 13, 102, []),
  (102, .iload_n 1, 103, []),
  (103, .dup2, 104, []),
  (104, .baload, 105, []),
  (105, .iconst 1, 106, []),
  (106, .iadd, 107, []),
  (107, .i2b, 108, []),
  (108, .bastore, 109, []),
  (109, .aload_n 0, 110, []),
  (110, .getfield 48, 113, []),
  (113, .iconst 3, 114, []),
  (114, .dup2, 115, []),
  (115, .iaload, 116, []),
  (116, .iconst 1, 117, []),
  (117, .iadd, 118, []),
  (118, .iastore, 119, []),
  (119, .iinc 1 1, 122, []),
  (122, .goto (-120), 125, [2]),
  (125, .iconst 0, 126, []),
  (126, .istore_n 1, 127, []),
  (127, .iload_n 1, 128, []),
  (128, .sipush 384, 131, []),
  (131, .if_icmp .ge 37, 134, [168]),
  (134, .aload_n 0, 135, []),
  (135, .getfield 55, 138, []),
  (138, .iload_n 1, 139, []),
  (139, .baload, 140, []),
  (140, .ifCond .ne 6, 143, [146]),
  (143, .goto 19, 146, [162]),
  (146, .aload_n 0, 147, []),
  (147, .iload_n 1, 148, []),
  (148, .iconst 0, 149, []),
  (149, .invokevirtual 130, 152, []),
  (152, .aload_n 0, 153, []),
  (153, .getfield 48, 156, []),
  (156, .iconst 4, 157, []),
  (157, .dup2, 158, []),
  (158, .iaload, 159, []),
  (159, .iconst 1, 160, []),
  (160, .iadd, 161, []),
  (161, .iastore, 162, []),
  (162, .iinc 1 1, 165, []),
  (165, .goto (-38), 168, [127]),
  (168, .aload_n 0, 169, []),
  (169, .invokevirtual 133, 172, []),
  (172, .return_, 173, [])]
theorem ck_B_grow : jm_chk b_B_grow k_B_grow = true := by decide +kernel
theorem lk_B_grow (pre : List Int → jm_S → Prop) (post : List Int → jm_S → Int → jm_S → Prop) : jm_Lk R_B 152 y_B_grow b_B_grow 2 none (false, 0, true, pre, post) := ⟨lw_in (by decide +kernel) rfl, lw_in (List.mem_of_getElem? (i := 240) rfl) rfl, (fun h => Bool.noConfusion h), fun _ => ⟨lw_in (by decide +kernel) rfl, lw_in (by decide +kernel) rfl⟩, lw_in (by decide +kernel) rfl, (by show _ ∧ _ ∧ _ = some 0; decide +kernel), ⟨fun _ => rfl, fun _ => rfl⟩, by decide⟩
def k_B_block : List jm_I := [
  (0, .iload_n 1, 1, []),
  (1, .invokestatic 142, 4, []),
  (4, .ifCond .eq 12, 7, [16]),
  (7, .aload_n 0, 8, []),
  (8, .getfield 7, 11, []),
  (11, .iload_n 1, 12, []),
  (12, .baload, 13, []),
  (13, .goto 4, 16, [17]),
  (16, .iconst (-1), 17, []),
  (17, .ireturn, 18, [])]
theorem ck_B_block : jm_chk b_B_block k_B_block = true := by decide +kernel
def k_B_light : List jm_I := [
  (0, .iload_n 1, 1, []),
  (1, .invokestatic 142, 4, []),
  (4, .ifCond .eq 12, 7, [16]),
  (7, .aload_n 0, 8, []),
  (8, .getfield 23, 11, []),
  (11, .iload_n 1, 12, []),
  (12, .baload, 13, []),
  (13, .goto 4, 16, [17]),
  (16, .iconst (-1), 17, []),
  (17, .ireturn, 18, [])]
theorem ck_B_light : jm_chk b_B_light k_B_light = true := by decide +kernel
def k_B_sky : List jm_I := [
  (0, .iload_n 1, 1, []),
  (1, .invokestatic 142, 4, []),
  (4, .ifCond .eq 16, 7, [20]),
  (7, .aload_n 0, 8, []),
  (8, .getfield 23, 11, []),
  (11, .sipush 384, 14, []),
  (14, .iload_n 1, 15, []),
  (15, .iadd, 16, []),
  (16, .baload, 17, []),
  (17, .goto 4, 20, [21]),
  (20, .iconst (-1), 21, []),
  (21, .ireturn, 22, [])]
theorem ck_B_sky : jm_chk b_B_sky k_B_sky = true := by decide +kernel
def k_B_power : List jm_I := [
  (0, .iload_n 1, 1, []),
  (1, .invokestatic 142, 4, []),
  (4, .ifCond .ne 5, 7, [9]),
  (7, .iconst (-1), 8, []),
  (8, .ireturn, 9, []),
  (9, .aload_n 0, 10, []),
  (10, .getfield 7, 13, []),
  (13, .iload_n 1, 14, []),
  (14, .baload, 15, []),
  (15, .tableswitch 66 5 9 #[33, 66, 44, 44, 59], 48, [81, 48, 81, 59, 59, 74]),
  (48, .aload_n 0, 49, []),
  (49, .getfield 23, 52, []),
  (52, .sipush 768, 55, []),
  (55, .iload_n 1, 56, []),
  (56, .iadd, 57, []),
  (57, .baload, 58, []),
  (58, .ireturn, 59, []),
  (59, .aload_n 0, 60, []),
  (60, .getfield 16, 63, []),
  (63, .iload_n 1, 64, []),
  (64, .baload, 65, []),
  (65, .ifCond .eq 7, 68, [72]),
  (68, .iconst 1, 69, []),
  (69, .goto 4, 72, [73]),
  (72, .iconst 0, 73, []),
  (73, .ireturn, 74, []),
  (74, .aload_n 0, 75, []),
  (75, .getfield 13, 78, []),
  (78, .iload_n 1, 79, []),
  (79, .baload, 80, []),
  (80, .ireturn, 81, []),
  (81, .aload_n 0, 82, []),
  (82, .getfield 7, 85, []),
  (85, .iload_n 1, 86, []),
  (86, .baload, 87, []),
  (87, .bipush 6, 89, []),
  (89, .if_icmp .ne 8, 92, [97]),
  (92, .bipush 15, 94, []),
  (94, .goto 4, 97, [98]),
  (97, .iconst 0, 98, []),
  (98, .ireturn, 99, [])]
theorem ck_B_power : jm_chk b_B_power k_B_power = true := by decide +kernel
def k_B_fed : List jm_I := [
  (0, .iload_n 1, 1, []),
  (1, .invokestatic 142, 4, []),
  (4, .ifCond .eq 15, 7, [19]),
  (7, .aload_n 0, 8, []),
  (8, .iload_n 1, 9, []),
  (9, .invokevirtual 117, 12, []),
  (12, .ifCond .eq 7, 15, [19]),
  (15, .iconst 1, 16, []),
  (16, .goto 4, 19, [20]),
  (19, .iconst 0, 20, []),
  (20, .ireturn, 21, [])]
theorem ck_B_fed : jm_chk b_B_fed k_B_fed = true := by decide +kernel
def k_B_tick : List jm_I := [
  (0, .iload_n 1, 1, []),
  (1, .iconst 1, 2, []),
  (2, .if_icmp .lt 9, 5, [11]),
  (5, .iload_n 1, 6, []),
  (6, .bipush 50, 8, []),
  (8, .if_icmp .le 5, 11, [13]),
  (11, .iconst (-1), 12, []),
  (12, .ireturn, 13, []),
  (13, .iconst 0, 14, []),
  (14, .istore_n 2, 15, []),
  (15, .iconst 1, 16, []),
  (16, .istore_n 3, 17, []),
  (17, .iload_n 3, 18, []),
  (18, .ifCond .eq 121, 21, [139]),
  (21, .iload_n 2, 22, []),
  (22, .iload_n 1, 23, []),
  (23, .if_icmp .ge 116, 26, [139]),
  (26, .aload_n 0, 27, []),
  (27, .getfield 48, 30, []),
  (30, .iconst 1, 31, []),
  (31, .iaload, 32, []),
  (32, .aload_n 0, 33, []),
  (33, .getfield 48, 36, []),
  (36, .iconst 2, 37, []),
  (37, .iaload, 38, []),
  (38, .iadd, 39, []),
  (39, .aload_n 0, 40, []),
  (40, .getfield 48, 43, []),
  (43, .iconst 3, 44, []),
  (44, .iaload, 45, []),
  (45, .iadd, 46, []),
  (46, .aload_n 0, 47, []),
  (47, .getfield 48, 50, []),
  (50, .iconst 4, 51, []),
  (51, .iaload, 52, []),
  (52, .iadd, 53, []),
  (53, .istore 4, 55, []),
  (55, .aload_n 0, 56, []),
  (56, .getfield 48, 59, []),
  (59, .iconst 1, 60, []),
  (60, .dup2, 61, []),
  (61, .iaload, 62, []),
  (62, .aload_n 0, 63, []),
  (63, .invokevirtual 145, 66, []),
  (66, .iadd, 67, []),
  (67, .iastore, 68, []),
  (68, .aload_n 0, 69, []),
  (69, .getfield 48, 72, []),
  (72, .iconst 2, 73, []),
  (73, .dup2, 74, []),
  (74, .iaload, 75, []),
  (75, .aload_n 0, 76, []),
  (76, .invokevirtual 149, 79, []),
  (79, .iadd, 80, []),
  (80, .iastore, 81, []),
  (81, .aload_n 0, 82, []),
  (82, .invokevirtual 152, 85, []),
  (85, .aload_n 0, 86, []),
  (86, .getfield 48, 89, []),
  (89, .iconst 0, 90, []),
  (90, .dup2, 91, []),
  (91, .iaload, 92, []),
  (92, .iconst 1, 93, []),
  (93, .iadd, 94, []),
  (94, .iastore, 95, []),
  (95, .iinc 2 1, 98, []),
  (98, .aload_n 0, 99, []),
  (99, .getfield 48, 102, []),
  (102, .iconst 1, 103, []),
  (103, .iaload, 104, []),
  (104, .aload_n 0, 105, []),
  (105, .getfield 48, 108, []),
  (108, .iconst 2, 109, []),
  (109, .iaload, 110, []),
  (110, .iadd, 111, []),
  (111, .aload_n 0, 112, []),
  (112, .getfield 48, 115, []),
  (115, .iconst 3, 116, []),
  (116, .iaload, 117, []),
  (117, .iadd, 118, []),
  (118, .aload_n 0, 119, []),
  (119, .getfield 48, 122, []),
  (122, .iconst 4, 123, []),
  (123, .iaload, 124, []),
  (124, .iadd, 125, []),
  (125, .iload 4, 127, []),
  (127, .if_icmp .eq 7, 130, [134]),
  (130, .iconst 1, 131, []),
  (131, .goto 4, 134, [135]),
  (134, .iconst 0, 135, []),
  (135, .istore_n 3, 136, []),
  (136, .goto (-119), 139, [17]),
  (139, .iload_n 2, 140, []),
  (140, .ireturn, 141, [])]
theorem ck_B_tick : jm_chk b_B_tick k_B_tick = true := by decide +kernel
def k_B_since : List jm_I := [
  (0, .iload_n 1, 1, []),
  (1, .ifCond .lt 8, 4, [9]),
  (4, .iload_n 1, 5, []),
  (5, .iconst 4, 6, []),
  (6, .if_icmp .le 7, 9, [13]),
  (9, .iconst (-1), 10, []),
  (10, .goto 9, 13, [19]),
  (13, .aload_n 0, 14, []),
  (14, .getfield 48, 17, []),
  (17, .iload_n 1, 18, []),
  (18, .iaload, 19, []),
  (19, .ireturn, 20, [])]
theorem ck_B_since : jm_chk b_B_since k_B_since = true := by decide +kernel
def k_B_count : List jm_I := [
  (0, .iload_n 1, 1, []),
  (1, .ifCond .lt 16, 4, [17]),
  (4, .iload_n 1, 5, []),
  (5, .bipush 10, 7, []),
  (7, .if_icmp .ge 10, 10, [17]),
  (10, .aload_n 0, 11, []),
  (11, .getfield 42, 14, []),
  (14, .iload_n 1, 15, []),
  (15, .saload, 16, []),
  (16, .ireturn, 17, []),
  (17, .iconst 0, 18, []),
  (18, .istore_n 2, 19, []),
  (19, .iload_n 1, 20, []),
  (20, .tableswitch 190 10 15 #[40, 40, 91, 124, 124, 162], 60, [210, 60, 60, 111, 144, 144, 182]),
  (60, .iconst 0, 61, []),
  (61, .istore_n 3, 62, []),
  (62, .iload_n 3, 63, []),
  (63, .sipush 384, 66, []),
  (66, .if_icmp .ge 43, 69, [109]),
  (69, .aload_n 0, 70, []),
  (70, .getfield 16, 73, []),
  (73, .iload_n 3, 74, []),
  (74, .baload, 75, []),
  (75, .ifCond .eq 28, 78, [103]),
  (78, .aload_n 0, 79, []),
  (79, .getfield 7, 82, []),
  (82, .iload_n 3, 83, []),
  (83, .baload, 84, []),
  (84, .iload_n 1, 85, []),
  (85, .bipush 10, 87, []),
  (87, .if_icmp .ne 8, 90, [95]),
  (90, .bipush 8, 92, []),
  (92, .goto 5, 95, [97]),
  (95, .bipush 7, 97, []),
  (97, .if_icmp .ne 6, 100, [103]),
  (100, .iinc 2 1, 103, []),
  (103, .iinc 3 1, 106, []),
  (106, .goto (-44), 109, [62]),
  (109, .iload_n 2, 110, []),
  (110, .ireturn, 111, []),
  (111, .iconst 0, 112, []),
  (112, .istore_n 3, 113, []),
  (113, .iload_n 3, 114, []),
  (114, .sipush 384, 117, []),
  (117, .if_icmp .ge 25, 120, [142]),
  (120, .aload_n 0, 121, []),
  (121, .getfield 23, 124, []),
  (124, .sipush 768, 127, []),
  (127, .iload_n 3, 128, []),
  (128, .iadd, 129, []),
  (129, .baload, 130, []),
  (130, .ifCond .le 6, 133, [136]),
  (133, .iinc 2 1, 136, []),
  (136, .iinc 3 1, 139, []),
  (139, .goto (-26), 142, [113]),
  (142, .iload_n 2, 143, []),
  (143, .ireturn, 144, []),
  (144, .sipush 384, 147, []),
  (147, .iload_n 1, 148, []),
  (148, .bipush 13, 150, []),
  (150, .isub, 151, []),
  (151, .imul, 152, []),
  (152, .istore_n 3, 153, []),
  (153, .iload_n 3, 154, []),
  (154, .sipush 384, 157, []),
  (157, .iload_n 1, 158, []),
  (158, .bipush 12, 160, []),
  (160, .isub, 161, []),
  (161, .imul, 162, []),
  (162, .if_icmp .ge 18, 165, [180]),
  (165, .iload_n 2, 166, []),
  (166, .aload_n 0, 167, []),
  (167, .getfield 23, 170, []),
  (170, .iload_n 3, 171, []),
  (171, .baload, 172, []),
  (172, .iadd, 173, []),
  (173, .istore_n 2, 174, []),
  (174, .iinc 3 1, 177, []),
  (177, .goto (-24), 180, [153]),
  (180, .iload_n 2, 181, []),
  (181, .ireturn, 182, []),
  (182, .iconst 0, 183, []),
  (183, .istore_n 3, 184, []),
  (184, .iload_n 3, 185, []),
  (185, .bipush 64, 187, []),
  (187, .if_icmp .ge 21, 190, [208]),
  (190, .iload_n 2, 191, []),
  (191, .bipush 6, 193, []),
  (193, .aload_n 0, 194, []),
  (194, .getfield 39, 197, []),
  (197, .iload_n 3, 198, []),
  (198, .baload, 199, []),
  (199, .isub, 200, []),
  (200, .iadd, 201, []),
  (201, .istore_n 2, 202, []),
  (202, .iinc 3 1, 205, []),
  (205, .goto (-21), 208, [184]),
  (208, .iload_n 2, 209, []),
  (209, .ireturn, 210, []),
  (210, .iconst (-1), 211, []),
  (211, .ireturn, 212, [])]
theorem ck_B_count : jm_chk b_B_count k_B_count = true := by decide +kernel
def k_B_dark : List jm_I := [
  (0, .iconst 0, 1, []),
  (1, .istore_n 3, 2, []),
  (2, .bipush 64, 4, []),
  (4, .istore 4, 6, []),
  (6, .iload 4, 8, []),
  (8, .sipush 384, 11, []),
  (11, .if_icmp .ge 79, 14, [90]),
  (14, .iload_n 1, 15, []),
  (15, .ifCond .lt 75, 18, [90]),
  (18, .aload_n 0, 19, []),
  (19, .getfield 7, 22, []),
  (22, .iload 4, 24, []),
  (24, .baload, 25, []),
  (25, .ifCond .ne 59, 28, [84]),
  (28, .aload_n 0, 29, []),
  (29, .getfield 7, 32, []),
  (32, .iload 4, 34, []),
  (34, .bipush 64, 36, []),
  (36, .isub, 37, []),
  (37, .baload, 38, []),
  (38, .invokestatic 74, 41, []),
  (41, .ifCond .eq 43, 44, [84]),
  (44, .aload_n 0, 45, []),
  (45, .getfield 23, 48, []),
  (48, .iload 4, 50, []),
  (50, .baload, 51, []),
  (51, .iload_n 2, 52, []),
  (52, .if_icmp .gt 32, 55, [84]),
  (55, .aload_n 0, 56, []),
  (56, .getfield 23, 59, []),
  (59, .sipush 384, 62, []),
  (62, .iload 4, 64, []),
  (64, .iadd, 65, []),
  (65, .baload, 66, []),
  (66, .iload_n 2, 67, []),
  (67, .if_icmp .le 6, 70, [73]),
  (70, .goto 14, 73, [84]),
  (73, .iload_n 3, 74, []),
  (74, .iload_n 1, 75, []),
  (75, .if_icmp .ne 6, 78, [81]),
  (78, .iload 4, 80, []),
  (80, .ireturn, 81, []),
  (81, .iinc 3 1, 84, []),
  (84, .iinc 4 1, 87, []),
  (87, .goto (-81), 90, [6]),
  (90, .iconst (-1), 91, []),
  (91, .ireturn, 92, [])]
theorem ck_B_dark : jm_chk b_B_dark k_B_dark = true := by decide +kernel
def k_B_belongs : List jm_I := [
  (0, .aload_n 0, 1, []),
  (1, .getfield 7, 4, []),
  (4, .iload_n 1, 5, []),
  (5, .baload, 6, []),
  (6, .invokestatic 74, 9, []),
  (9, .ifCond .ne 17, 12, [26]),
  (12, .aload_n 0, 13, []),
  (13, .getfield 23, 16, []),
  (16, .iload_n 1, 17, []),
  (17, .baload, 18, []),
  (18, .iload_n 2, 19, []),
  (19, .if_icmp .lt 7, 22, [26]),
  (22, .iconst 1, 23, []),
  (23, .goto 4, 26, [27]),
  (26, .iconst 0, 27, []),
  (27, .ireturn, 28, [])]
theorem ck_B_belongs : jm_chk b_B_belongs k_B_belongs = true := by decide +kernel
theorem lk_B_belongs (pre : List Int → jm_S → Prop) (post : List Int → jm_S → Int → jm_S → Prop) : jm_Lk R_B 155 y_B_belongs b_B_belongs 3 (some .boolean) (false, 2, false, pre, post) := ⟨lw_in (by decide +kernel) rfl, lw_in (List.mem_of_getElem? (i := 264) rfl) rfl, (fun h => Bool.noConfusion h), fun _ => ⟨lw_in (by decide +kernel) rfl, lw_in (by decide +kernel) rfl⟩, lw_in (by decide +kernel) rfl, (by show _ ∧ _ ∧ _ = some 2; decide +kernel), ⟨(fun h => Bool.noConfusion h), (fun h => by cases h)⟩, by decide⟩
def k_B_lit : List jm_I := [
  (0, .iload_n 1, 1, []),
  (1, .invokestatic 142, 4, []),
  (4, .ifCond .eq 12, 7, [16]),
  (7, .aload_n 0, 8, []),
  (8, .iload_n 1, 9, []),
  (9, .iload_n 2, 10, []),
  (10, .invokevirtual 155, 13, []),
  (13, .ifCond .ne 5, 16, [18]),
  (16, .iconst 0, 17, []),
  (17, .ireturn, 18, []),
  (18, .iconst 0, 19, []),
  (19, .istore_n 3, 20, []),
  (20, .iload_n 3, 21, []),
  (21, .sipush 384, 24, []),
  (24, .if_icmp .ge 16, 27, [40]),
  (27, .aload_n 0, 28, []),
  (28, .getfield 52, 31, []),
  (31, .iload_n 3, 32, []),
  (32, .iconst 0, 33, []),
  (33, .bastore, 34, []),
  (34, .iinc 3 1, 37, []),
  (37, .goto (-17), 40, [20]),
  (40, .iconst 0, 41, []),
  (41, .istore_n 3, 42, []),
  (42, .iconst 0, 43, []),
  (43, .istore 4, 45, []),
  (45, .aload_n 0, 46, []),
  (46, .getfield 45, 49, []),
  (49, .iload 4, 51, []),
  (51, .iinc 4 1, 54, []),
  (54, .iload_n 1, 55, []),
  (55, .i2s, 56, []),
  (56, .sastore, 57, []),
  (57, .aload_n 0, 58, []),
  (58, .getfield 52, 61, []),
  (61, .iload_n 1, 62, []),
  (62, .iconst 1, 63, []),
  (63, .bastore, 64, []),
  (64, .iload 4, 66, []),
  (66, .ifCond .le 95, 69, [161]),
  (69, .aload_n 0, 70, []),
  (70, .getfield 45, 73, []),
  (73, .iinc 4 (-1), 76, []),
  (76, .iload 4, 78, []),
  (78, .saload, 79, []),
  (79, .istore 5, 81, []),
  (81, .iinc 3 1, 84, []),
  (84, .iconst 0, 85, []),
  (85, .istore 6, 87, []),
  (87, .iload 6, 89, []),
  (89, .bipush 6, 91, []),
  (91, .if_icmp .ge 67, 94, [158]),
  (94, .iload 5, 96, []),
  (96, .iload 6, 98, []),
  (98, .invokestatic 58, 101, []),
  (101, .istore 7, 103, []),
  (103, .iload 7, 105, []),
  (105, .ifCond .lt 47, 108, [152]),
  (108, .aload_n 0, 109, []),
  (109, .getfield 52, 112, []),
  (112, .iload 7, 114, []),
  (114, .baload, 115, []),
  (115, .ifCond .ne 37, 118, [152]),
  (118, .aload_n 0, 119, []),
  (119, .iload 7, 121, []),
  (121, .iload_n 2, 122, []),
  (122, .invokevirtual 155, 125, []),
  (125, .ifCond .ne 6, 128, [131]),
  (128, .goto 24, 131, [152]),
  (131, .aload_n 0, 132, []),
  (132, .getfield 52, 135, []),
  (135, .iload 7, 137, []),
  (137, .iconst 1, 138, []),
  (138, .bastore, 139, []),
  (139, .aload_n 0, 140, []),
  (140, .getfield 45, 143, []),
  (143, .iload 4, 145, []),
  (145, .iinc 4 1, 148, []),
  (148, .iload 7, 150, []),
  (150, .i2s, 151, []),
  (151, .sastore, 152, []),
  (152, .iinc 6 1, 155, []),
  (155, .goto (-68), 158, [87]),
  (158, .goto (-94), 161, [64]),
  (161, .iload_n 3, 162, []),
  (162, .ireturn, 163, [])]
theorem ck_B_lit : jm_chk b_B_lit k_B_lit = true := by decide +kernel
def k_M_among : List jm_I := [
  (0, .iload_n 1, 1, []),
  (1, .ifCond .lt 12, 4, [13]),
  (4, .iload_n 1, 5, []),
  (5, .iload_n 2, 6, []),
  (6, .if_icmp .ge 7, 9, [13]),
  (9, .iconst 1, 10, []),
  (10, .goto 4, 13, [14]),
  (13, .iconst 0, 14, []),
  (14, .ireturn, 15, [])]
theorem ck_M_among : jm_chk b_M_among k_M_among = true := by decide +kernel
theorem lk_M_among (pre : List Int → jm_S → Prop) (post : List Int → jm_S → Int → jm_S → Prop) : jm_Lk R_M 78 y_M_among b_M_among 3 (some .boolean) (false, 2, false, pre, post) := ⟨lw_in (by decide +kernel) rfl, lw_in (List.mem_of_getElem? (i := 325) rfl) rfl, (fun h => Bool.noConfusion h), fun _ => ⟨lw_in (by decide +kernel) rfl, lw_in (by decide +kernel) rfl⟩, lw_in (by decide +kernel) rfl, (by show _ ∧ _ ∧ _ = some 2; decide +kernel), ⟨(fun h => Bool.noConfusion h), (fun h => by cases h)⟩, by decide⟩
def k_M_number : List jm_I := [
  (0, .iload_n 1, 1, []),
  (1, .bipush 8, 3, []),
  (3, .iload_n 3, 4, []),
  (4, .imul, 5, []),
  (5, .iadd, 6, []),
  (6, .bipush 64, 8, []),
  (8, .iload_n 2, 9, []),
  (9, .imul, 10, []),
  (10, .iadd, 11, []),
  (11, .ireturn, 12, [])]
theorem ck_M_number : jm_chk b_M_number k_M_number = true := by decide +kernel
theorem lk_M_number (pre : List Int → jm_S → Prop) (post : List Int → jm_S → Int → jm_S → Prop) : jm_Lk R_M 86 y_M_number b_M_number 4 (some .int) (false, 3, false, pre, post) := ⟨lw_in (by decide +kernel) rfl, lw_in (List.mem_of_getElem? (i := 329) rfl) rfl, (fun h => Bool.noConfusion h), fun _ => ⟨lw_in (by decide +kernel) rfl, lw_in (by decide +kernel) rfl⟩, lw_in (by decide +kernel) rfl, (by show _ ∧ _ ∧ _ = some 3; decide +kernel), ⟨(fun h => Bool.noConfusion h), (fun h => by cases h)⟩, by decide⟩
def k_M_opaque : List jm_I := [
  (0, .aload_n 0, 1, []),
  (1, .getfield 7, 4, []),
  (4, .iload_n 1, 5, []),
  (5, .iaload, 6, []),
  (6, .iconst 1, 7, []),
  (7, .if_icmp .eq 24, 10, [31]),
  (10, .aload_n 0, 11, []),
  (11, .getfield 7, 14, []),
  (14, .iload_n 1, 15, []),
  (15, .iaload, 16, []),
  (16, .iconst 4, 17, []),
  (17, .if_icmp .eq 14, 20, [31]),
  (20, .aload_n 0, 21, []),
  (21, .getfield 7, 24, []),
  (24, .iload_n 1, 25, []),
  (25, .iaload, 26, []),
  (26, .bipush 6, 28, []),
  (28, .if_icmp .ne 7, 31, [35]),
  (31, .iconst 1, 32, []),
  (32, .goto 4, 35, [36]),
  (35, .iconst 0, 36, []),
  (36, .ireturn, 37, [])]
theorem ck_M_opaque : jm_chk b_M_opaque k_M_opaque = true := by decide +kernel
theorem lk_M_opaque (pre : List Int → jm_S → Prop) (post : List Int → jm_S → Int → jm_S → Prop) : jm_Lk R_M 72 y_M_opaque b_M_opaque 2 (some .boolean) (false, 1, false, pre, post) := ⟨lw_in (by decide +kernel) rfl, lw_in (List.mem_of_getElem? (i := 377) rfl) rfl, (fun h => Bool.noConfusion h), fun _ => ⟨lw_in (by decide +kernel) rfl, lw_in (by decide +kernel) rfl⟩, lw_in (by decide +kernel) rfl, (by show _ ∧ _ ∧ _ = some 1; decide +kernel), ⟨(fun h => Bool.noConfusion h), (fun h => by cases h)⟩, by decide⟩
def k_M_neighbour : List jm_I := [
  (0, .iload_n 2, 1, []),
  (1, .ifCond .ne 18, 4, [19]),
  (4, .iload_n 1, 5, []),
  (5, .bipush 7, 7, []),
  (7, .iand, 8, []),
  (8, .ifCond .le 9, 11, [17]),
  (11, .iload_n 1, 12, []),
  (12, .iconst 1, 13, []),
  (13, .isub, 14, []),
  (14, .goto 4, 17, [18]),
  (17, .iconst (-1), 18, []),
  (18, .ireturn, 19, []),
  (19, .iload_n 2, 20, []),
  (20, .iconst 1, 21, []),
  (21, .if_icmp .ne 20, 24, [41]),
  (24, .iload_n 1, 25, []),
  (25, .bipush 7, 27, []),
  (27, .iand, 28, []),
  (28, .bipush 7, 30, []),
  (30, .if_icmp .ge 9, 33, [39]),
  (33, .iload_n 1, 34, []),
  (34, .iconst 1, 35, []),
  (35, .iadd, 36, []),
  (36, .goto 4, 39, [40]),
  (39, .iconst (-1), 40, []),
  (40, .ireturn, 41, []),
  (41, .iload_n 2, 42, []),
  (42, .iconst 2, 43, []),
  (43, .if_icmp .ne 18, 46, [61]),
  (46, .iload_n 1, 47, []),
  (47, .bipush 63, 49, []),
  (49, .if_icmp .le 10, 52, [59]),
  (52, .iload_n 1, 53, []),
  (53, .bipush 64, 55, []),
  (55, .isub, 56, []),
  (56, .goto 4, 59, [60]),
  (59, .iconst (-1), 60, []),
  (60, .ireturn, 61, []),
  (61, .iload_n 2, 62, []),
  (62, .iconst 3, 63, []),
  (63, .if_icmp .ne 19, 66, [82]),
  (66, .iload_n 1, 67, []),
  (67, .sipush 320, 70, []),
  (70, .if_icmp .ge 10, 73, [80]),
  (73, .iload_n 1, 74, []),
  (74, .bipush 64, 76, []),
  (76, .iadd, 77, []),
  (77, .goto 4, 80, [81]),
  (80, .iconst (-1), 81, []),
  (81, .ireturn, 82, []),
  (82, .iload_n 2, 83, []),
  (83, .iconst 4, 84, []),
  (84, .if_icmp .ne 21, 87, [105]),
  (87, .iload_n 1, 88, []),
  (88, .iconst 3, 89, []),
  (89, .ishr, 90, []),
  (90, .bipush 7, 92, []),
  (92, .iand, 93, []),
  (93, .ifCond .le 10, 96, [103]),
  (96, .iload_n 1, 97, []),
  (97, .bipush 8, 99, []),
  (99, .isub, 100, []),
  (100, .goto 4, 103, [104]),
  (103, .iconst (-1), 104, []),
  (104, .ireturn, 105, []),
  (105, .iload_n 1, 106, []),
  (106, .iconst 3, 107, []),
  (107, .ishr, 108, []),
  (108, .bipush 7, 110, []),
  (110, .iand, 111, []),
  (111, .bipush 7, 113, []),
  (113, .if_icmp .ge 10, 116, [123]),
  (116, .iload_n 1, 117, []),
  (117, .bipush 8, 119, []),
  (119, .iadd, 120, []),
  (120, .goto 4, 123, [124]),
  (123, .iconst (-1), 124, []),
  (124, .ireturn, 125, [])]
theorem ck_M_neighbour : jm_chk b_M_neighbour k_M_neighbour = true := by decide +kernel
theorem lk_M_neighbour (pre : List Int → jm_S → Prop) (post : List Int → jm_S → Int → jm_S → Prop) : jm_Lk R_M 41 y_M_neighbour b_M_neighbour 3 (some .int) (false, 2, false, pre, post) := ⟨lw_in (by decide +kernel) rfl, lw_in (List.mem_of_getElem? (i := 361) rfl) rfl, (fun h => Bool.noConfusion h), fun _ => ⟨lw_in (by decide +kernel) rfl, lw_in (by decide +kernel) rfl⟩, lw_in (by decide +kernel) rfl, (by show _ ∧ _ ∧ _ = some 2; decide +kernel), ⟨(fun h => Bool.noConfusion h), (fun h => by cases h)⟩, by decide⟩
def k_M_driven : List jm_I := [
  (0, .iconst 0, 1, []),
  (1, .istore_n 2, 2, []),
  (2, .iload_n 2, 3, []),
  (3, .bipush 6, 5, []),
  (5, .if_icmp .ge 61, 8, [66]),
  (8, .aload_n 0, 9, []),
  (9, .iload_n 1, 10, []),
  (10, .iload_n 2, 11, []),
  (11, .invokevirtual 41, 14, []),
  (14, .istore_n 3, 15, []),
  (15, .iload_n 3, 16, []),
  (16, .ifCond .ge 6, 19, [22]),
  (19, .goto 41, 22, [60]),
  (22, .aload_n 0, 23, []),
  (23, .getfield 7, 26, []),
  (26, .iload_n 3, 27, []),
  (27, .iaload, 28, []),
  (28, .bipush 6, 30, []),
  (30, .if_icmp .eq 28, 33, [58]),
  (33, .aload_n 0, 34, []),
  (34, .getfield 7, 37, []),
  (37, .iload_n 3, 38, []),
  (38, .iaload, 39, []),
  (39, .bipush 7, 41, []),
  (41, .if_icmp .ne 19, 44, [60]),
  (44, .aload_n 0, 45, []),
  (45, .getfield 16, 48, []),
  (48, .iload_n 3, 49, []),
  (49, .baload, 50, []),
  (50, .ifCond .eq 10, 53, [60]),
  (53, .iload_n 2, 54, []),
  (54, .iconst 3, 55, []),
  (55, .if_icmp .eq 5, 58, [60]),
  (58, .iconst 1, 59, []),
  (59, .ireturn, 60, []),
  (60, .iinc 2 1, 63, []),
  (63, .goto (-61), 66, [2]),
  (66, .iconst 0, 67, []),
  (67, .ireturn, 68, [])]
theorem ck_M_driven : jm_chk b_M_driven k_M_driven = true := by decide +kernel
theorem lk_M_driven (pre : List Int → jm_S → Prop) (post : List Int → jm_S → Int → jm_S → Prop) : jm_Lk R_M 45 y_M_driven b_M_driven 4 (some .boolean) (false, 1, false, pre, post) := ⟨lw_in (by decide +kernel) rfl, lw_in (List.mem_of_getElem? (i := 357) rfl) rfl, (fun h => Bool.noConfusion h), fun _ => ⟨lw_in (by decide +kernel) rfl, lw_in (by decide +kernel) rfl⟩, lw_in (by decide +kernel) rfl, (by show _ ∧ _ ∧ _ = some 1; decide +kernel), ⟨(fun h => Bool.noConfusion h), (fun h => by cases h)⟩, by decide⟩
def k_M_feeds : List jm_I := [
  (0, .aload_n 0, 1, []),
  (1, .iload_n 1, 2, []),
  (2, .invokevirtual 45, 5, []),
  (5, .ifCond .eq 5, 8, [10]),
  (8, .iconst 1, 9, []),
  (9, .ireturn, 10, []),
  (10, .iconst 0, 11, []),
  (11, .istore_n 2, 12, []),
  (12, .iload_n 2, 13, []),
  (13, .bipush 6, 15, []),
  (15, .if_icmp .ge 51, 18, [66]),
  (18, .aload_n 0, 19, []),
  (19, .getfield 7, 22, []),
  (22, .iload_n 1, 23, []),
  (23, .iaload, 24, []),
  (24, .iconst 5, 25, []),
  (25, .if_icmp .eq 41, 28, [66]),
  (28, .aload_n 0, 29, []),
  (29, .iload_n 1, 30, []),
  (30, .iload_n 2, 31, []),
  (31, .invokevirtual 41, 34, []),
  (34, .istore_n 3, 35, []),
  (35, .iload_n 3, 36, []),
  (36, .ifCond .lt 24, 39, [60]),
  (39, .aload_n 0, 40, []),
  (40, .getfield 7, 43, []),
  (43, .iload_n 3, 44, []),
  (44, .iaload, 45, []),
  (45, .iconst 5, 46, []),
  (46, .if_icmp .ne 14, 49, [60]),
  (49, .aload_n 0, 50, []),
  (50, .getfield 20, 53, []),
  (53, .iload_n 3, 54, []),
  (54, .iaload, 55, []),
  (55, .ifCond .le 5, 58, [60]),
  (58, .iconst 1, 59, []),
  (59, .ireturn, 60, []),
  (60, .iinc 2 1, 63, []),
  (63, .goto (-51), 66, [12]),
  (66, .iconst 0, 67, []),
  (67, .ireturn, 68, [])]
theorem ck_M_feeds : jm_chk b_M_feeds k_M_feeds = true := by decide +kernel
theorem lk_M_feeds (pre : List Int → jm_S → Prop) (post : List Int → jm_S → Int → jm_S → Prop) : jm_Lk R_M 56 y_M_feeds b_M_feeds 4 (some .boolean) (false, 1, false, pre, post) := ⟨lw_in (by decide +kernel) rfl, lw_in (List.mem_of_getElem? (i := 369) rfl) rfl, (fun h => Bool.noConfusion h), fun _ => ⟨lw_in (by decide +kernel) rfl, lw_in (by decide +kernel) rfl⟩, lw_in (by decide +kernel) rfl, (by show _ ∧ _ ∧ _ = some 1; decide +kernel), ⟨(fun h => Bool.noConfusion h), (fun h => by cases h)⟩, by decide⟩
def k_M_findPower : List jm_I := [
  (0, .aload_n 0, 1, []),
  (1, .getfield 49, 4, []),
  (4, .ifCond .eq 4, 7, [8]),
  (7, .return_, 8, []),
  (8, .aload_n 0, 9, []),
  (9, .iconst 1, 10, []),
  (10, .putfield 49, 13, []),
  (13, .iconst 0, 14, []),
  (14, .istore_n 1, 15, []),
  (15, .iload_n 1, 16, []),
  (16, .sipush 384, 19, []),
  (19, .if_icmp .ge 39, 22, [58]),
  (22, .aload_n 0, 23, []),
  (23, .getfield 20, 26, []),
  (26, .iload_n 1, 27, []),
  (27, .aload_n 0, 28, []),
  (28, .getfield 7, 31, []),
  (31, .iload_n 1, 32, []),
  (32, .iaload, 33, []),
  (33, .iconst 5, 34, []),
  (34, .if_icmp .ne 16, 37, [50]),
  (37, .aload_n 0, 38, []),
  (38, .iload_n 1, 39, []),
  (39, .invokevirtual 45, 42, []),
  (42, .ifCond .eq 8, 45, [50]),
  (45, .bipush 15, 47, []),
  (47, .goto 4, 50, [51]),
  (50, .iconst 0, 51, []),
  (51, .iastore, 52, []),
  (52, .iinc 1 1, 55, []),
  (55, .goto (-40), 58, [15]),
  (58, .iconst 1, 59, []),
  (59, .istore_n 1, 60, []),
  (60, .iload_n 1, 61, []),
  (61, .ifCond .eq 68, 64, [129]),
  (64, .iconst 0, 65, []),
  (65, .istore_n 1, 66, []),
  (66, .iconst 0, 67, []),
  (67, .istore_n 2, 68, []),
  (68, .iload_n 2, 69, []),
  (69, .sipush 384, 72, []),
  (72, .if_icmp .ge 54, 75, [126]),
  (75, .aload_n 0, 76, []),
  (76, .getfield 7, 79, []),
  (79, .iload_n 2, 80, []),
  (80, .iaload, 81, []),
  (81, .iconst 5, 82, []),
  (82, .if_icmp .ne 14, 85, [96]),
  (85, .aload_n 0, 86, []),
  (86, .iconst 0, 87, []),
  (87, .iload_n 2, 88, []),
  (88, .invokevirtual 53, 91, []),
  (91, .iconst 1, 92, []),
  (92, .isub, 93, []),
  (93, .goto 4, 96, [97]),
  (96, .iconst 0, 97, []),
  (97, .istore_n 3, 98, []),
  (98, .iload_n 3, 99, []),
  (99, .aload_n 0, 100, []),
  (100, .getfield 20, 103, []),
  (103, .iload_n 2, 104, []),
  (104, .iaload, 105, []),
  (105, .if_icmp .gt 6, 108, [111]),
  (108, .goto 12, 111, [120]),
  (111, .aload_n 0, 112, []),
  (112, .getfield 20, 115, []),
  (115, .iload_n 2, 116, []),
  (116, .iload_n 3, 117, []),
  (117, .iastore, 118, []),
  (118, .iconst 1, 119, []),
  (119, .istore_n 1, 120, []),
  (120, .iinc 2 1, 123, []),
  (123, .goto (-55), 126, [68]),
  (126, .goto (-66), 129, [60]),
  (129, .iconst 0, 130, []),
  (130, .istore_n 2, 131, []),
  (131, .iload_n 2, 132, []),
  (132, .sipush 384, 135, []),
  (135, .if_icmp .ge 31, 138, [166]),
  (138, .aload_n 0, 139, []),
  (139, .getfield 7, 142, []),
  (142, .iload_n 2, 143, []),
  (143, .iaload, 144, []),
  (144, .bipush 8, 146, []),
  (146, .if_icmp .ne 14, 149, [160]),
  (149, .aload_n 0, 150, []),
  (150, .getfield 16, 153, []),
  (153, .iload_n 2, 154, []),
  (154, .aload_n 0, 155, []),
  (155, .iload_n 2, 156, []),
  (156, .invokevirtual 56, 159, []),
  (159, .bastore, 160, []),
  (160, .iinc 2 1, 163, []),
  (163, .goto (-32), 166, [131]),
  (166, .return_, 167, [])]
theorem ck_M_findPower : jm_chk b_M_findPower k_M_findPower = true := by decide +kernel
theorem lk_M_findPower (pre : List Int → jm_S → Prop) (post : List Int → jm_S → Int → jm_S → Prop) : jm_Lk R_M 59 y_M_findPower b_M_findPower 4 none (false, 0, true, pre, post) := ⟨lw_in (by decide +kernel) rfl, lw_in (List.mem_of_getElem? (i := 353) rfl) rfl, (fun h => Bool.noConfusion h), fun _ => ⟨lw_in (by decide +kernel) rfl, lw_in (by decide +kernel) rfl⟩, lw_in (by decide +kernel) rfl, (by show _ ∧ _ ∧ _ = some 0; decide +kernel), ⟨fun _ => rfl, fun _ => rfl⟩, by decide⟩
def k_M_findLight : List jm_I := [
  (0, .aload_n 0, 1, []),
  (1, .invokevirtual 59, 4, []),
  (4, .aload_n 0, 5, []),
  (5, .getfield 62, 8, []),
  (8, .ifCond .eq 4, 11, [12]),
  (11, .return_, 12, []),
  (12, .aload_n 0, 13, []),
  (13, .iconst 1, 14, []),
  (14, .putfield 62, 17, []),
  (17, .iconst 0, 18, []),
  (18, .istore_n 1, 19, []),
  (19, .iload_n 1, 20, []),
  (20, .sipush 384, 23, []),
  (23, .if_icmp .ge 56, 26, [79]),
  (26, .aload_n 0, 27, []),
  (27, .getfield 23, 30, []),
  (30, .iload_n 1, 31, []),
  (31, .aload_n 0, 32, []),
  (32, .getfield 7, 35, []),
  (35, .iload_n 1, 36, []),
  (36, .iaload, 37, []),
  (37, .iconst 3, 38, []),
  (38, .if_icmp .ne 8, 41, [46]),
  (41, .bipush 14, 43, []),
  (43, .goto 29, 46, [72]),
  (46, .aload_n 0, 47, []),
  (47, .getfield 7, 50, []),
  (50, .iload_n 1, 51, []),
  (51, .iaload, 52, []),
  (52, .bipush 8, 54, []),
  (54, .if_icmp .ne 17, 57, [71]),
  (57, .aload_n 0, 58, []),
  (58, .getfield 16, 61, []),
  (61, .iload_n 1, 62, []),
  (62, .baload, 63, []),
  (63, .ifCond .eq 8, 66, [71]),
  (66, .bipush 12, 68, []),
  (68, .goto 4, 71, [72]),
  (71, .iconst 0, 72, []),
  (72, .iastore, 73, []),
  (73, .iinc 1 1, 76, []),
  (76, .goto (-57), 79, [19]),
  (79, .aload_n 0, 80, []),
  (80, .iconst 1, 81, []),
  (81, .invokevirtual 65, 84, []),
  (84, .return_, 85, [])]
theorem ck_M_findLight : jm_chk b_M_findLight k_M_findLight = true := by decide +kernel
theorem lk_M_findLight (pre : List Int → jm_S → Prop) (post : List Int → jm_S → Int → jm_S → Prop) : jm_Lk R_M 94 y_M_findLight b_M_findLight 2 none (false, 0, true, pre, post) := ⟨lw_in (by decide +kernel) rfl, lw_in (List.mem_of_getElem? (i := 349) rfl) rfl, (fun h => Bool.noConfusion h), fun _ => ⟨lw_in (by decide +kernel) rfl, lw_in (by decide +kernel) rfl⟩, lw_in (by decide +kernel) rfl, (by show _ ∧ _ ∧ _ = some 0; decide +kernel), ⟨fun _ => rfl, fun _ => rfl⟩, by decide⟩
def k_M_findSky : List jm_I := [
  (0, .aload_n 0, 1, []),
  (1, .getfield 69, 4, []),
  (4, .ifCond .eq 4, 7, [8]),
  (7, .return_, 8, []),
  (8, .aload_n 0, 9, []),
  (9, .iconst 1, 10, []),
  (10, .putfield 69, 13, []),
  (13, .sipush 383, 16, []),
  (16, .istore_n 1, 17, []),
  (17, .iload_n 1, 18, []),
  (18, .ifCond .lt 68, 21, [86]),
  (21, .aload_n 0, 22, []),
  (22, .getfield 29, 25, []),
  (25, .iload_n 1, 26, []),
  (26, .aload_n 0, 27, []),
  (27, .iload_n 1, 28, []),
  (28, .invokevirtual 72, 31, []),
  (31, .ifCond .ne 26, 34, [57]),
  (34, .iload_n 1, 35, []),
  (35, .sipush 320, 38, []),
  (38, .if_icmp .ge 15, 41, [53]),
  (41, .aload_n 0, 42, []),
  (42, .getfield 29, 45, []),
  (45, .iload_n 1, 46, []),
  (46, .bipush 64, 48, []),
  (48, .iadd, 49, []),
  (49, .baload, 50, []),
  (50, .ifCond .eq 7, 53, [57]),
  (53, .iconst 1, 54, []),
  (54, .goto 4, 57, [58]),
  (57, .iconst 0, 58, []),
  (58, .bastore, 59, []),
  (59, .aload_n 0, 60, []),
  (60, .getfield 26, 63, []),
  (63, .iload_n 1, 64, []),
  (64, .aload_n 0, 65, []),
  (65, .getfield 29, 68, []),
  (68, .iload_n 1, 69, []),
  (69, .baload, 70, []),
  (70, .ifCond .eq 8, 73, [78]),
  (73, .bipush 15, 75, []),
  (75, .goto 4, 78, [79]),
  (78, .iconst 0, 79, []),
  (79, .iastore, 80, []),
  (80, .iinc 1 (-1), 83, []),
  (83, .goto (-66), 86, [17]),
  (86, .aload_n 0, 87, []),
  (87, .iconst 2, 88, []),
  (88, .invokevirtual 65, 91, []),
  (91, .return_, 92, [])]
theorem ck_M_findSky : jm_chk b_M_findSky k_M_findSky = true := by decide +kernel
theorem lk_M_findSky (pre : List Int → jm_S → Prop) (post : List Int → jm_S → Int → jm_S → Prop) : jm_Lk R_M 97 y_M_findSky b_M_findSky 2 none (false, 0, true, pre, post) := ⟨lw_in (by decide +kernel) rfl, lw_in (List.mem_of_getElem? (i := 385) rfl) rfl, (fun h => Bool.noConfusion h), fun _ => ⟨lw_in (by decide +kernel) rfl, lw_in (by decide +kernel) rfl⟩, lw_in (by decide +kernel) rfl, (by show _ ∧ _ ∧ _ = some 0; decide +kernel), ⟨fun _ => rfl, fun _ => rfl⟩, by decide⟩
def k_M_around : List jm_I := [
  (0, .iconst 0, 1, []),
  (1, .istore_n 3, 2, []),
  (2, .iconst 0, 3, []),
  (3, .istore 4, 5, []),
  (5, .iload 4, 7, []),
  (7, .bipush 6, 9, []),
  (9, .if_icmp .ge 73, 12, [82]),
  (12, .aload_n 0, 13, []),
  (13, .iload_n 2, 14, []),
  (14, .iload 4, 16, []),
  (16, .invokevirtual 41, 19, []),
  (19, .istore 5, 21, []),
  (21, .iload 5, 23, []),
  (23, .ifCond .ge 6, 26, [29]),
  (26, .goto 50, 29, [76]),
  (29, .iload_n 1, 30, []),
  (30, .ifCond .ne 13, 33, [43]),
  (33, .aload_n 0, 34, []),
  (34, .getfield 20, 37, []),
  (37, .iload 5, 39, []),
  (39, .iaload, 40, []),
  (40, .goto 25, 43, [65]),
  (43, .iload_n 1, 44, []),
  (44, .iconst 1, 45, []),
  (45, .if_icmp .ne 13, 48, [58]),
  (48, .aload_n 0, 49, []),
  (49, .getfield 23, 52, []),
  (52, .iload 5, 54, []),
  (54, .iaload, 55, []),
  (55, .goto 10, 58, [65]),
  (58, .aload_n 0, 59, []),
  (59, .getfield 26, 62, []),
  (62, .iload 5, 64, []),
  (64, .iaload, 65, []),
  (65, .istore 6, 67, []),
  (67, .iload 6, 69, []),
  (69, .iload_n 3, 70, []),
  (70, .if_icmp .le 6, 73, [76]),
  (73, .iload 6, 75, []),
  (75, .istore_n 3, 76, []),
  (76, .iinc 4 1, 79, []),
  (79, .goto (-74), 82, [5]),
  (82, .iload_n 3, 83, []),
  (83, .ireturn, 84, [])]
theorem ck_M_around : jm_chk b_M_around k_M_around = true := by decide +kernel
theorem lk_M_around (pre : List Int → jm_S → Prop) (post : List Int → jm_S → Int → jm_S → Prop) : jm_Lk R_M 53 y_M_around b_M_around 7 (some .int) (false, 2, false, pre, post) := ⟨lw_in (by decide +kernel) rfl, lw_in (List.mem_of_getElem? (i := 365) rfl) rfl, (fun h => Bool.noConfusion h), fun _ => ⟨lw_in (by decide +kernel) rfl, lw_in (by decide +kernel) rfl⟩, lw_in (by decide +kernel) rfl, (by show _ ∧ _ ∧ _ = some 2; decide +kernel), ⟨(fun h => Bool.noConfusion h), (fun h => by cases h)⟩, by decide⟩
def k_M_spread : List jm_I := [
  (0, .iconst 1, 1, []),
  (1, .istore_n 2, 2, []),
  (2, .iload_n 2, 3, []),
  (3, .ifCond .eq 142, 6, [145]),
  (6, .iconst 0, 7, []),
  (7, .istore_n 2, 8, []),
  (8, .aload_n 0, 9, []),
  (9, .aload_n 0, 10, []),
  (10, .getfield 75, 13, []),
  (13, .ifCond .ne 7, 16, [20]),
  (16, .iconst 1, 17, []),
  (17, .goto 4, 20, [21]),
  (20, .iconst 0, 21, []),
  (21, .putfield 75, 24, []),
  (24, .iconst 0, 25, []),
  (25, .istore_n 3, 26, []),
  (26, .iload_n 3, 27, []),
  (27, .sipush 384, 30, []),
  (30, .if_icmp .ge 112, 33, [142]),
  (33, .aload_n 0, 34, []),
  (34, .getfield 75, 37, []),
  (37, .ifCond .eq 7, 40, [44]),
  (40, .iload_n 3, 41, []),
  (41, .goto 8, 44, [49]),
  (44, .sipush 383, 47, []),
  (47, .iload_n 3, 48, []),
  (48, .isub, 49, []),
  (49, .istore 4, 51, []),
  (51, .aload_n 0, 52, []),
  (52, .iload 4, 54, []),
  (54, .invokevirtual 72, 57, []),
  (57, .ifCond .eq 6, 60, [63]),
  (60, .goto 76, 63, [136]),
  (63, .aload_n 0, 64, []),
  (64, .iload_n 1, 65, []),
  (65, .iload 4, 67, []),
  (67, .invokevirtual 53, 70, []),
  (70, .iconst 1, 71, []),
  (71, .isub, 72, []),
  (72, .istore 5, 74, []),
  (74, .iload_n 1, 75, []),
  (75, .iconst 1, 76, []),
  (76, .if_icmp .ne 13, 79, [89]),
  (79, .aload_n 0, 80, []),
  (80, .getfield 23, 83, []),
  (83, .iload 4, 85, []),
  (85, .iaload, 86, []),
  (86, .goto 10, 89, [96]),
  (89, .aload_n 0, 90, []),
  (90, .getfield 26, 93, []),
  (93, .iload 4, 95, []),
  (95, .iaload, 96, []),
  (96, .istore 6, 98, []),
  (98, .iload 5, 100, []),
  (100, .iload 6, 102, []),
  (102, .if_icmp .gt 6, 105, [108]),
  (105, .goto 31, 108, [136]),
  (108, .iload_n 1, 109, []),
  (109, .iconst 1, 110, []),
  (110, .if_icmp .ne 15, 113, [125]),
  (113, .aload_n 0, 114, []),
  (114, .getfield 23, 117, []),
  (117, .iload 4, 119, []),
  (119, .iload 5, 121, []),
  (121, .iastore, 122, []),
  (122, .goto 12, 125, [134]),
  (125, .aload_n 0, 126, []),
  (126, .getfield 26, 129, []),
  (129, .iload 4, 131, []),
  (131, .iload 5, 133, []),
  (133, .iastore, 134, []),
  (134, .iconst 1, 135, []),
  (135, .istore_n 2, 136, []),
  (136, .iinc 3 1, 139, []),
  (139, .goto (-113), 142, [26]),
  (142, .goto (-140), 145, [2]),
  (145, .return_, 146, [])]
theorem ck_M_spread : jm_chk b_M_spread k_M_spread = true := by decide +kernel
theorem lk_M_spread (pre : List Int → jm_S → Prop) (post : List Int → jm_S → Int → jm_S → Prop) : jm_Lk R_M 65 y_M_spread b_M_spread 7 none (false, 1, true, pre, post) := ⟨lw_in (by decide +kernel) rfl, lw_in (List.mem_of_getElem? (i := 373) rfl) rfl, (fun h => Bool.noConfusion h), fun _ => ⟨lw_in (by decide +kernel) rfl, lw_in (by decide +kernel) rfl⟩, lw_in (by decide +kernel) rfl, (by show _ ∧ _ ∧ _ = some 1; decide +kernel), ⟨fun _ => rfl, fun _ => rfl⟩, by decide⟩
def k_M_become : List jm_I := [
  (0, .aload_n 0, 1, []),
  (1, .getfield 7, 4, []),
  (4, .iload_n 1, 5, []),
  (5, .iload_n 2, 6, []),
  (6, .iastore, 7, []),
  (7, .aload_n 0, 8, []),
  (8, .getfield 13, 11, []),
  (11, .iload_n 1, 12, []),
  (12, .iconst 0, 13, []),
  (13, .iastore, 14, []),
  (14, .aload_n 0, 15, []),
  (15, .getfield 16, 18, []),
  (18, .iload_n 1, 19, []),
  (19, .iload_n 2, 20, []),
  (20, .bipush 7, 22, []),
  (22, .if_icmp .ne 7, 25, [29]),
  (25, .iconst 1, 26, []),
  (26, .goto 4, 29, [30]),
  (29, .iconst 0, 30, []),
  (30, .bastore, 31, []),
  (31, .aload_n 0, 32, []),
  (32, .iconst 0, 33, []),
  (33, .putfield 49, 36, []),
  (36, .aload_n 0, 37, []),
  (37, .iconst 0, 38, []),
  (38, .putfield 62, 41, []),
  (41, .aload_n 0, 42, []),
  (42, .iconst 0, 43, []),
  (43, .putfield 69, 46, []),
  (46, .return_, 47, [])]
theorem ck_M_become : jm_chk b_M_become k_M_become = true := by decide +kernel
theorem lk_M_become (pre : List Int → jm_S → Prop) (post : List Int → jm_S → Int → jm_S → Prop) : jm_Lk R_M 90 y_M_become b_M_become 3 none (false, 2, true, pre, post) := ⟨lw_in (by decide +kernel) rfl, lw_in (List.mem_of_getElem? (i := 333) rfl) rfl, (fun h => Bool.noConfusion h), fun _ => ⟨lw_in (by decide +kernel) rfl, lw_in (by decide +kernel) rfl⟩, lw_in (by decide +kernel) rfl, (by show _ ∧ _ ∧ _ = some 2; decide +kernel), ⟨fun _ => rfl, fun _ => rfl⟩, by decide⟩
def k_M_isCell : List jm_I := [
  (0, .aload_n 0, 1, []),
  (1, .iload_n 1, 2, []),
  (2, .bipush 8, 4, []),
  (4, .invokevirtual 78, 7, []),
  (7, .ifCond .eq 27, 10, [34]),
  (10, .aload_n 0, 11, []),
  (11, .iload_n 2, 12, []),
  (12, .bipush 6, 14, []),
  (14, .invokevirtual 78, 17, []),
  (17, .ifCond .eq 17, 20, [34]),
  (20, .aload_n 0, 21, []),
  (21, .iload_n 3, 22, []),
  (22, .bipush 8, 24, []),
  (24, .invokevirtual 78, 27, []),
  (27, .ifCond .eq 7, 30, [34]),
  (30, .iconst 1, 31, []),
  (31, .goto 4, 34, [35]),
  (34, .iconst 0, 35, []),
  (35, .ireturn, 36, [])]
theorem ck_M_isCell : jm_chk b_M_isCell k_M_isCell = true := by decide +kernel
theorem lk_M_isCell (pre : List Int → jm_S → Prop) (post : List Int → jm_S → Int → jm_S → Prop) : jm_Lk R_M 82 y_M_isCell b_M_isCell 4 (some .boolean) (false, 3, false, pre, post) := ⟨lw_in (by decide +kernel) rfl, lw_in (List.mem_of_getElem? (i := 321) rfl) rfl, (fun h => Bool.noConfusion h), fun _ => ⟨lw_in (by decide +kernel) rfl, lw_in (by decide +kernel) rfl⟩, lw_in (by decide +kernel) rfl, (by show _ ∧ _ ∧ _ = some 3; decide +kernel), ⟨(fun h => Bool.noConfusion h), (fun h => by cases h)⟩, by decide⟩
def k_M_put : List jm_I := [
  (0, .aload_n 0, 1, []),
  (1, .iload_n 1, 2, []),
  (2, .iload_n 2, 3, []),
  (3, .iload_n 3, 4, []),
  (4, .invokevirtual 82, 7, []),
  (7, .ifCond .eq 14, 10, [21]),
  (10, .aload_n 0, 11, []),
  (11, .iload 4, 13, []),
  (13, .bipush 10, 15, []),
  (15, .invokevirtual 78, 18, []),
  (18, .ifCond .ne 5, 21, [23]),
  (21, .iconst (-1), 22, []),
  (22, .ireturn, 23, []),
  (23, .aload_n 0, 24, []),
  (24, .iload_n 1, 25, []),
  (25, .iload_n 2, 26, []),
  (26, .iload_n 3, 27, []),
  (27, .invokevirtual 86, 30, []),
  (30, .istore 5, 32, []),
  (32, .aload_n 0, 33, []),
  (33, .getfield 7, 36, []),
  (36, .iload 5, 38, []),
  (38, .iaload, 39, []),
  (39, .istore 6, 41, []),
  (41, .aload_n 0, 42, []),
  (42, .iload 5, 44, []),
  (44, .iload 4, 46, []),
  (46, .invokevirtual 90, 49, []),
  (49, .iload 6, 51, []),
  (51, .ireturn, 52, [])]
theorem ck_M_put : jm_chk b_M_put k_M_put = true := by decide +kernel
def k_M_fill : List jm_I := [
  (0, .aload_n 0, 1, []),
  (1, .iload_n 1, 2, []),
  (2, .iload_n 2, 3, []),
  (3, .iload_n 3, 4, []),
  (4, .invokevirtual 82, 7, []),
  (7, .ifCond .eq 45, 10, [52]),
  (10, .aload_n 0, 11, []),
  (11, .iload 4, 13, []),
  (13, .iload 5, 15, []),
  (15, .iload 6, 17, []),
  (17, .invokevirtual 82, 20, []),
  (20, .ifCond .eq 32, 23, [52]),
  (23, .aload_n 0, 24, []),
  (24, .iload 7, 26, []),
  (26, .bipush 10, 28, []),
  (28, .invokevirtual 78, 31, []),
  (31, .ifCond .eq 21, 34, [52]),
  (34, .iload 4, 36, []),
  (36, .iload_n 1, 37, []),
  (37, .if_icmp .lt 15, 40, [52]),
  (40, .iload 5, 42, []),
  (42, .iload_n 2, 43, []),
  (43, .if_icmp .lt 9, 46, [52]),
  (46, .iload 6, 48, []),
  (48, .iload_n 3, 49, []),
  (49, .if_icmp .ge 5, 52, [54]),
  (52, .iconst (-1), 53, []),
  (53, .ireturn, 54, []),
  (54, .iconst 0, 55, []),
  (55, .istore 8, 57, []),
  (57, .iconst 0, 58, []),
  (58, .istore 9, 60, []),
  (60, .iload 9, 62, []),
  (62, .sipush 384, 65, []),
  (65, .if_icmp .ge 110, 68, [175]),
  (68, .iload 9, 70, []),
  (70, .bipush 8, 72, []),
  (72, .irem, 73, []),
  (73, .iload_n 1, 74, []),
  (74, .if_icmp .lt 61, 77, [135]),
  (77, .iload 9, 79, []),
  (79, .bipush 8, 81, []),
  (81, .irem, 82, []),
  (82, .iload 4, 84, []),
  (84, .if_icmp .gt 51, 87, [135]),
  (87, .iload 9, 89, []),
  (89, .bipush 8, 91, []),
  (91, .idiv, 92, []),
  (92, .bipush 8, 94, []),
  (94, .irem, 95, []),
  (95, .iload_n 3, 96, []),
  (96, .if_icmp .lt 39, 99, [135]),
  (99, .iload 9, 101, []),
  (101, .bipush 8, 103, []),
  (103, .idiv, 104, []),
  (104, .bipush 8, 106, []),
  (106, .irem, 107, []),
  (107, .iload 6, 109, []),
  (109, .if_icmp .gt 26, 112, [135]),
  (112, .iload 9, 114, []),
  (114, .bipush 64, 116, []),
  (116, .idiv, 117, []),
  (117, .iload_n 2, 118, []),
  (118, .if_icmp .lt 17, 121, [135]),
  (121, .iload 9, 123, []),
  (123, .bipush 64, 125, []),
  (125, .idiv, 126, []),
  (126, .iload 5, 128, []),
  (128, .if_icmp .gt 7, 131, [135]),
  (131, .iconst 1, 132, []),
  (132, .goto 4, 135, [136]),
  (135, .iconst 0, 136, []),
  (136, .istore 10, 138, []),
  (138, .iload 10, 140, []),
  (140, .ifCond .ne 6, 143, [146]),
  (143, .goto 26, 146, [169]),
  (146, .aload_n 0, 147, []),
  (147, .getfield 7, 150, []),
  (150, .iload 9, 152, []),
  (152, .iaload, 153, []),
  (153, .iload 7, 155, []),
  (155, .if_icmp .eq 6, 158, [161]),
  (158, .iinc 8 1, 161, []),
  (161, .aload_n 0, 162, []),
  (162, .iload 9, 164, []),
  (164, .iload 7, 166, []),
  (166, .invokevirtual 90, 169, []),
  (169, .iinc 9 1, 172, []),
  (172, .goto (-112), 175, [60]),
  (175, .iload 8, 177, []),
  (177, .ireturn, 178, [])]
theorem ck_M_fill : jm_chk b_M_fill k_M_fill = true := by decide +kernel
def k_M_block : List jm_I := [
  (0, .aload_n 0, 1, []),
  (1, .iload_n 1, 2, []),
  (2, .sipush 384, 5, []),
  (5, .invokevirtual 78, 8, []),
  (8, .ifCond .eq 12, 11, [20]),
  (11, .aload_n 0, 12, []),
  (12, .getfield 7, 15, []),
  (15, .iload_n 1, 16, []),
  (16, .iaload, 17, []),
  (17, .goto 4, 20, [21]),
  (20, .iconst (-1), 21, []),
  (21, .ireturn, 22, [])]
theorem ck_M_block : jm_chk b_M_block k_M_block = true := by decide +kernel
def k_M_light : List jm_I := [
  (0, .aload_n 0, 1, []),
  (1, .iload_n 1, 2, []),
  (2, .sipush 384, 5, []),
  (5, .invokevirtual 78, 8, []),
  (8, .ifCond .ne 5, 11, [13]),
  (11, .iconst (-1), 12, []),
  (12, .ireturn, 13, []),
  (13, .aload_n 0, 14, []),
  (14, .invokevirtual 94, 17, []),
  (17, .aload_n 0, 18, []),
  (18, .getfield 23, 21, []),
  (21, .iload_n 1, 22, []),
  (22, .iaload, 23, []),
  (23, .ireturn, 24, [])]
theorem ck_M_light : jm_chk b_M_light k_M_light = true := by decide +kernel
def k_M_sky : List jm_I := [
  (0, .aload_n 0, 1, []),
  (1, .iload_n 1, 2, []),
  (2, .sipush 384, 5, []),
  (5, .invokevirtual 78, 8, []),
  (8, .ifCond .ne 5, 11, [13]),
  (11, .iconst (-1), 12, []),
  (12, .ireturn, 13, []),
  (13, .aload_n 0, 14, []),
  (14, .invokevirtual 97, 17, []),
  (17, .aload_n 0, 18, []),
  (18, .getfield 26, 21, []),
  (21, .iload_n 1, 22, []),
  (22, .iaload, 23, []),
  (23, .ireturn, 24, [])]
theorem ck_M_sky : jm_chk b_M_sky k_M_sky = true := by decide +kernel
def k_M_power : List jm_I := [
  (0, .aload_n 0, 1, []),
  (1, .iload_n 1, 2, []),
  (2, .sipush 384, 5, []),
  (5, .invokevirtual 78, 8, []),
  (8, .ifCond .ne 5, 11, [13]),
  (11, .iconst (-1), 12, []),
  (12, .ireturn, 13, []),
  (13, .aload_n 0, 14, []),
  (14, .invokevirtual 59, 17, []),
  (17, .aload_n 0, 18, []),
  (18, .getfield 7, 21, []),
  (21, .iload_n 1, 22, []),
  (22, .iaload, 23, []),
  (23, .istore_n 2, 24, []),
  (24, .iload_n 2, 25, []),
  (25, .iconst 5, 26, []),
  (26, .if_icmp .ne 12, 29, [38]),
  (29, .aload_n 0, 30, []),
  (30, .getfield 20, 33, []),
  (33, .iload_n 1, 34, []),
  (34, .iaload, 35, []),
  (35, .goto 59, 38, [94]),
  (38, .iload_n 2, 39, []),
  (39, .bipush 7, 41, []),
  (41, .if_icmp .eq 9, 44, [50]),
  (44, .iload_n 2, 45, []),
  (45, .bipush 8, 47, []),
  (47, .if_icmp .ne 20, 50, [67]),
  (50, .aload_n 0, 51, []),
  (51, .getfield 16, 54, []),
  (54, .iload_n 1, 55, []),
  (55, .baload, 56, []),
  (56, .ifCond .eq 7, 59, [63]),
  (59, .iconst 1, 60, []),
  (60, .goto 34, 63, [94]),
  (63, .iconst 0, 64, []),
  (64, .goto 30, 67, [94]),
  (67, .iload_n 2, 68, []),
  (68, .bipush 9, 70, []),
  (70, .if_icmp .ne 12, 73, [82]),
  (73, .aload_n 0, 74, []),
  (74, .getfield 13, 77, []),
  (77, .iload_n 1, 78, []),
  (78, .iaload, 79, []),
  (79, .goto 15, 82, [94]),
  (82, .iload_n 2, 83, []),
  (83, .bipush 6, 85, []),
  (85, .if_icmp .ne 8, 88, [93]),
  (88, .bipush 15, 90, []),
  (90, .goto 4, 93, [94]),
  (93, .iconst 0, 94, []),
  (94, .ireturn, 95, [])]
theorem ck_M_power : jm_chk b_M_power k_M_power = true := by decide +kernel
def k_M_fed : List jm_I := [
  (0, .aload_n 0, 1, []),
  (1, .iload_n 1, 2, []),
  (2, .sipush 384, 5, []),
  (5, .invokevirtual 78, 8, []),
  (8, .ifCond .ne 5, 11, [13]),
  (11, .iconst 0, 12, []),
  (12, .ireturn, 13, []),
  (13, .aload_n 0, 14, []),
  (14, .invokevirtual 59, 17, []),
  (17, .aload_n 0, 18, []),
  (18, .iload_n 1, 19, []),
  (19, .invokevirtual 56, 22, []),
  (22, .ireturn, 23, [])]
theorem ck_M_fed : jm_chk b_M_fed k_M_fed = true := by decide +kernel
def k_M_quiet : List jm_I := [
  (0, .iload_n 1, 1, []),
  (1, .ifCond .ge 5, 4, [6]),
  (4, .iconst 1, 5, []),
  (5, .ireturn, 6, []),
  (6, .aload_n 0, 7, []),
  (7, .getfield 7, 10, []),
  (10, .iload_n 1, 11, []),
  (11, .iaload, 12, []),
  (12, .istore_n 2, 13, []),
  (13, .iload_n 2, 14, []),
  (14, .bipush 6, 16, []),
  (16, .if_icmp .eq 42, 19, [58]),
  (19, .iload_n 2, 20, []),
  (20, .iconst 5, 21, []),
  (21, .if_icmp .ne 12, 24, [33]),
  (24, .aload_n 0, 25, []),
  (25, .getfield 20, 28, []),
  (28, .iload_n 1, 29, []),
  (29, .iaload, 30, []),
  (30, .ifCond .ne 28, 33, [58]),
  (33, .iload_n 2, 34, []),
  (34, .bipush 7, 36, []),
  (36, .if_icmp .eq 9, 39, [45]),
  (39, .iload_n 2, 40, []),
  (40, .bipush 8, 42, []),
  (42, .if_icmp .ne 12, 45, [54]),
  (45, .aload_n 0, 46, []),
  (46, .getfield 16, 49, []),
  (49, .iload_n 1, 50, []),
  (50, .baload, 51, []),
  (51, .ifCond .ne 7, 54, [58]),
  (54, .iconst 1, 55, []),
  (55, .goto 4, 58, [59]),
  (58, .iconst 0, 59, []),
  (59, .ireturn, 60, [])]
theorem ck_M_quiet : jm_chk b_M_quiet k_M_quiet = true := by decide +kernel
theorem lk_M_quiet (pre : List Int → jm_S → Prop) (post : List Int → jm_S → Int → jm_S → Prop) : jm_Lk R_M 100 y_M_quiet b_M_quiet 3 (some .boolean) (false, 1, false, pre, post) := ⟨lw_in (by decide +kernel) rfl, lw_in (List.mem_of_getElem? (i := 405) rfl) rfl, (fun h => Bool.noConfusion h), fun _ => ⟨lw_in (by decide +kernel) rfl, lw_in (by decide +kernel) rfl⟩, lw_in (by decide +kernel) rfl, (by show _ ∧ _ ∧ _ = some 1; decide +kernel), ⟨(fun h => Bool.noConfusion h), (fun h => by cases h)⟩, by decide⟩
def k_M_invert : List jm_I := [
  (0, .iconst 0, 1, []),
  (1, .istore_n 1, 2, []),
  (2, .aload_n 0, 3, []),
  (3, .invokevirtual 59, 6, []),
  (6, .iconst 0, 7, []),
  (7, .istore_n 2, 8, []),
  (8, .iload_n 2, 9, []),
  (9, .sipush 384, 12, []),
  (12, .if_icmp .ge 23, 15, [35]),
  (15, .aload_n 0, 16, []),
  (16, .getfield 32, 19, []),
  (19, .iload_n 2, 20, []),
  (20, .aload_n 0, 21, []),
  (21, .iload_n 2, 22, []),
  (22, .bipush 64, 24, []),
  (24, .isub, 25, []),
  (25, .invokevirtual 100, 28, []),
  (28, .bastore, 29, []),
  (29, .iinc 2 1, 32, []),
  (32, .goto (-24), 35, [8]),
  (35, .iconst 0, 36, []),
  (36, .istore_n 2, 37, []),
  (37, .iload_n 2, 38, []),
  (38, .sipush 384, 41, []),
  (41, .if_icmp .ge 53, 44, [94]),
  (44, .aload_n 0, 45, []),
  (45, .getfield 7, 48, []),
  (48, .iload_n 2, 49, []),
  (49, .iaload, 50, []),
  (50, .bipush 7, 52, []),
  (52, .if_icmp .ne 36, 55, [88]),
  (55, .aload_n 0, 56, []),
  (56, .getfield 32, 59, []),
  (59, .iload_n 2, 60, []),
  (60, .baload, 61, []),
  (61, .aload_n 0, 62, []),
  (62, .getfield 16, 65, []),
  (65, .iload_n 2, 66, []),
  (66, .baload, 67, []),
  (67, .if_icmp .ne 6, 70, [73]),
  (70, .goto 18, 73, [88]),
  (73, .aload_n 0, 74, []),
  (74, .getfield 16, 77, []),
  (77, .iload_n 2, 78, []),
  (78, .aload_n 0, 79, []),
  (79, .getfield 32, 82, []),
  (82, .iload_n 2, 83, []),
  (83, .baload, 84, []),
  (84, .bastore, 85, []),
  (85, .iinc 1 1, 88, []),
  (88, .iinc 2 1, 91, []),
  (91, .goto (-54), 94, [37]),
  (94, .iload_n 1, 95, []),
  (95, .ifCond .le 13, 98, [108]),
  (98, .aload_n 0, 99, []),
  (99, .iconst 0, 100, []),
  (100, .putfield 49, 103, []),
  (103, .aload_n 0, 104, []),
  (104, .iconst 0, 105, []),
  (105, .putfield 62, 108, []),
  (108, .aload_n 0, 109, []),
  (109, .getfield 38, 112, []),
  (112, .iconst 1, 113, []),
  (113, .dup2, 114, []),
  (114, .iaload, 115, []),
  (115, .iload_n 1, 116, []),
  (116, .iadd, 117, []),
  (117, .iastore, 118, []),
  (118, .iload_n 1, 119, []),
  (119, .ireturn, 120, [])]
theorem ck_M_invert : jm_chk b_M_invert k_M_invert = true := by decide +kernel
theorem lk_M_invert (pre : List Int → jm_S → Prop) (post : List Int → jm_S → Int → jm_S → Prop) : jm_Lk R_M 103 y_M_invert b_M_invert 3 (some .int) (false, 0, false, pre, post) := ⟨lw_in (by decide +kernel) rfl, lw_in (List.mem_of_getElem? (i := 401) rfl) rfl, (fun h => Bool.noConfusion h), fun _ => ⟨lw_in (by decide +kernel) rfl, lw_in (by decide +kernel) rfl⟩, lw_in (by decide +kernel) rfl, (by show _ ∧ _ ∧ _ = some 0; decide +kernel), ⟨(fun h => Bool.noConfusion h), (fun h => by cases h)⟩, by decide⟩
def k_M_fall : List jm_I := [
  (0, .iconst 0, 1, []),
  (1, .istore_n 1, 2, []),
  (2, .bipush 64, 4, []),
  (4, .istore_n 2, 5, []),
  (5, .iload_n 2, 6, []),
  (6, .sipush 384, 9, []),
  (9, .if_icmp .ge 52, 12, [61]),
  (12, .aload_n 0, 13, []),
  (13, .getfield 7, 16, []),
  (16, .iload_n 2, 17, []),
  (17, .iaload, 18, []),
  (18, .iconst 4, 19, []),
  (19, .if_icmp .ne 36, 22, [55]),
  (22, .aload_n 0, 23, []),
  (23, .getfield 7, 26, []),
  (26, .iload_n 2, 27, []),
  (27, .bipush 64, 29, []),
  (29, .isub, 30, []),
  (30, .iaload, 31, []),
  (31, .ifCond .eq 6, 34, [37]),
  (34, .goto 21, 37, [55]),
  (37, .aload_n 0, 38, []),
  (38, .iload_n 2, 39, []),
  (39, .bipush 64, 41, []),
  (41, .isub, 42, []),
  (42, .iconst 4, 43, []),
  (43, .invokevirtual 90, 46, []),
  (46, .aload_n 0, 47, []),
  (47, .iload_n 2, 48, []),
  (48, .iconst 0, 49, []),
  (49, .invokevirtual 90, 52, []),
  (52, .iinc 1 1, 55, []),
  (55, .iinc 2 1, 58, []),
  (58, .goto (-53), 61, [5]),
  (61, .aload_n 0, 62, []),
  (62, .getfield 38, 65, []),
  (65, .iconst 2, 66, []),
  (66, .dup2, 67, []),
  (67, .iaload, 68, []),
  (68, .iload_n 1, 69, []),
  (69, .iadd, 70, []),
  (70, .iastore, 71, []),
  (71, .iload_n 1, 72, []),
  (72, .ireturn, 73, [])]
theorem ck_M_fall : jm_chk b_M_fall k_M_fall = true := by decide +kernel
theorem lk_M_fall (pre : List Int → jm_S → Prop) (post : List Int → jm_S → Int → jm_S → Prop) : jm_Lk R_M 107 y_M_fall b_M_fall 3 (some .int) (false, 0, false, pre, post) := ⟨lw_in (by decide +kernel) rfl, lw_in (List.mem_of_getElem? (i := 409) rfl) rfl, (fun h => Bool.noConfusion h), fun _ => ⟨lw_in (by decide +kernel) rfl, lw_in (by decide +kernel) rfl⟩, lw_in (by decide +kernel) rfl, (by show _ ∧ _ ∧ _ = some 0; decide +kernel), ⟨(fun h => Bool.noConfusion h), (fun h => by cases h)⟩, by decide⟩
def k_M_grow : List jm_I := [
  (0, .iconst 0, 1, []),
  (1, .istore_n 1, 2, []),
  (2, .aload_n 0, 3, []),
  (3, .invokevirtual 94, 6, []),
  (6, .aload_n 0, 7, []),
  (7, .invokevirtual 97, 10, []),
  (10, .sipush 383, 13, []),
  (13, .istore_n 2, 14, []),
  (14, .iload_n 2, 15, []),
  (15, .ifCond .lt 151, 18, [166]),
  (18, .aload_n 0, 19, []),
  (19, .getfield 7, 22, []),
  (22, .iload_n 2, 23, []),
  (23, .iaload, 24, []),
  (24, .bipush 9, 26, []),
  (26, .if_icmp .eq 6, 29, [32]),
  (29, .goto 131, 32, [160]),
  (32, .iload_n 2, 33, []),
  (33, .bipush 64, 35, []),
  (35, .if_icmp .lt 33, 38, [68]),
  (38, .aload_n 0, 39, []),
  (39, .getfield 7, 42, []),
  (42, .iload_n 2, 43, []),
  (43, .bipush 64, 45, []),
  (45, .isub, 46, []),
  (46, .iaload, 47, []),
  (47, .iconst 1, 48, []),
  (48, .if_icmp .eq 16, 51, [64]),
  (51, .aload_n 0, 52, []),
  (52, .getfield 7, 55, []),
  (55, .iload_n 2, 56, []),
  (56, .bipush 64, 58, []),
  (58, .isub, 59, []),
  (59, .iaload, 60, []),
  (60, .iconst 4, 61, []),
  (61, .if_icmp .ne 7, 64, [68]),
  (64, .iconst 1, 65, []),
  (65, .goto 4, 68, [69]),
  (68, .iconst 0, 69, []),
  (69, .istore_n 3, 70, []),
  (70, .iload_n 3, 71, []),
  (71, .ifCond .ne 33, 74, [104]),
  (74, .aload_n 0, 75, []),
  (75, .getfield 38, 78, []),
  (78, .iconst 4, 79, []),
  (79, .dup2, 80, []),
  (80, .iaload, 81, []),
  (81, .iconst 1, 82, []),
  (82, .iadd, 83, []),
  (83, .iastore, 84, []),
  (84, .iinc 1 1, 87, []),
  (87, .aload_n 0, 88, []),
  (88, .getfield 7, 91, []),
  (91, .iload_n 2, 92, []),
  (92, .iconst 0, 93, []),
  (93, .iastore, 94, []),
  (94, .aload_n 0, 95, []),
  (95, .getfield 13, 98, []),
  (98, .iload_n 2, 99, []),
  (99, .iconst 0, 100, []),
  (100, .iastore, 101, []),
  (101, .goto 59, 104, [160]),
  (104, .aload_n 0, 105, []),
  (105, .getfield 23, 108, []),
  (108, .iload_n 2, 109, []),
  (109, .iaload, 110, []),
  (110, .bipush 8, 112, []),
  (112, .if_icmp .gt 14, 115, [126]),
  (115, .aload_n 0, 116, []),
  (116, .getfield 26, 119, []),
  (119, .iload_n 2, 120, []),
  (120, .iaload, 121, []),
  (121, .bipush 8, 123, []),
  (123, .if_icmp .le 37, 126, [160]),
  (126, .aload_n 0, 127, []),
  (127, .getfield 13, 130, []),
  (130, .iload_n 2, 131, []),
  (131, .iaload, 132, []),
  (132, .bipush 7, 134, []),
  (134, .if_icmp .ge 26, 137, [160]),
  (137, .aload_n 0, 138, []),
  (138, .getfield 13, 141, []),
  (141, .iload_n 2, 142, []),
  (142, .dup2, 143, []),
  (143, .iaload, 144, []),
  (144, .iconst 1, 145, []),
  (145, .iadd, 146, []),
  (146, .iastore, 147, []),
  (147, .aload_n 0, 148, []),
  (148, .getfield 38, 151, []),
  (151, .iconst 3, 152, []),
  (152, .dup2, 153, []),
  (153, .iaload, 154, []),
  (154, .iconst 1, 155, []),
  (155, .iadd, 156, []),
  (156, .iastore, 157, []),
  (157, .iinc 1 1, 160, []),
  (160, .iinc 2 (-1), 163, []),
  (163, .goto (-149), 166, [14]),
  (166, .iload_n 1, 167, []),
  (167, .ireturn, 168, [])]
theorem ck_M_grow : jm_chk b_M_grow k_M_grow = true := by decide +kernel
theorem lk_M_grow (pre : List Int → jm_S → Prop) (post : List Int → jm_S → Int → jm_S → Prop) : jm_Lk R_M 110 y_M_grow b_M_grow 4 (some .int) (false, 0, false, pre, post) := ⟨lw_in (by decide +kernel) rfl, lw_in (List.mem_of_getElem? (i := 413) rfl) rfl, (fun h => Bool.noConfusion h), fun _ => ⟨lw_in (by decide +kernel) rfl, lw_in (by decide +kernel) rfl⟩, lw_in (by decide +kernel) rfl, (by show _ ∧ _ ∧ _ = some 0; decide +kernel), ⟨(fun h => Bool.noConfusion h), (fun h => by cases h)⟩, by decide⟩
def k_M_tick : List jm_I := [
  (0, .iload_n 1, 1, []),
  (1, .iconst 1, 2, []),
  (2, .if_icmp .lt 9, 5, [11]),
  (5, .iload_n 1, 6, []),
  (6, .bipush 50, 8, []),
  (8, .if_icmp .le 5, 11, [13]),
  (11, .iconst (-1), 12, []),
  (12, .ireturn, 13, []),
  (13, .iconst 0, 14, []),
  (14, .istore_n 2, 15, []),
  (15, .iconst 1, 16, []),
  (16, .istore_n 3, 17, []),
  (17, .iload_n 3, 18, []),
  (18, .ifCond .eq 59, 21, [77]),
  (21, .iload_n 2, 22, []),
  (22, .iload_n 1, 23, []),
  (23, .if_icmp .ge 54, 26, [77]),
  (26, .iinc 2 1, 29, []),
  (29, .aload_n 0, 30, []),
  (30, .getfield 38, 33, []),
  (33, .iconst 0, 34, []),
  (34, .dup2, 35, []),
  (35, .iaload, 36, []),
  (36, .iconst 1, 37, []),
  (37, .iadd, 38, []),
  (38, .iastore, 39, []),
  (39, .aload_n 0, 40, []),
  (40, .invokevirtual 103, 43, []),
  (43, .istore 4, 45, []),
  (45, .iload 4, 47, []),
  (47, .aload_n 0, 48, []),
  (48, .invokevirtual 107, 51, []),
  (51, .iadd, 52, []),
  (52, .istore 4, 54, []),
  (54, .iload 4, 56, []),
  (56, .aload_n 0, 57, []),
  (57, .invokevirtual 110, 60, []),
  (60, .iadd, 61, []),
  (61, .istore 4, 63, []),
  (63, .iload 4, 65, []),
  (65, .ifCond .le 7, 68, [72]),
  (68, .iconst 1, 69, []),
  (69, .goto 4, 72, [73]),
  (72, .iconst 0, 73, []),
  (73, .istore_n 3, 74, []),
  (74, .goto (-57), 77, [17]),
  (77, .iload_n 2, 78, []),
  (78, .ireturn, 79, [])]
theorem ck_M_tick : jm_chk b_M_tick k_M_tick = true := by decide +kernel
def k_M_since : List jm_I := [
  (0, .aload_n 0, 1, []),
  (1, .iload_n 1, 2, []),
  (2, .iconst 5, 3, []),
  (3, .invokevirtual 78, 6, []),
  (6, .ifCond .eq 12, 9, [18]),
  (9, .aload_n 0, 10, []),
  (10, .getfield 38, 13, []),
  (13, .iload_n 1, 14, []),
  (14, .iaload, 15, []),
  (15, .goto 4, 18, [19]),
  (18, .iconst (-1), 19, []),
  (19, .ireturn, 20, [])]
theorem ck_M_since : jm_chk b_M_since k_M_since = true := by decide +kernel
def k_M_count : List jm_I := [
  (0, .aload_n 0, 1, []),
  (1, .invokevirtual 59, 4, []),
  (4, .iload_n 1, 5, []),
  (5, .bipush 13, 7, []),
  (7, .if_icmp .ne 7, 10, [14]),
  (10, .aload_n 0, 11, []),
  (11, .invokevirtual 94, 14, []),
  (14, .iload_n 1, 15, []),
  (15, .bipush 13, 17, []),
  (17, .if_icmp .le 7, 20, [24]),
  (20, .aload_n 0, 21, []),
  (21, .invokevirtual 97, 24, []),
  (24, .iconst 0, 25, []),
  (25, .istore_n 2, 26, []),
  (26, .iconst 0, 27, []),
  (27, .istore_n 3, 28, []),
  (28, .iload_n 3, 29, []),
  (29, .sipush 384, 32, []),
  (32, .if_icmp .ge 169, 35, [201]),
  (35, .aload_n 0, 36, []),
  (36, .getfield 7, 39, []),
  (39, .iload_n 3, 40, []),
  (40, .iaload, 41, []),
  (41, .istore 4, 43, []),
  (43, .iload_n 1, 44, []),
  (44, .bipush 10, 46, []),
  (46, .if_icmp .ge 20, 49, [66]),
  (49, .iload_n 2, 50, []),
  (50, .iload 4, 52, []),
  (52, .iload_n 1, 53, []),
  (53, .if_icmp .ne 7, 56, [60]),
  (56, .iconst 1, 57, []),
  (57, .goto 4, 60, [61]),
  (60, .iconst 0, 61, []),
  (61, .iadd, 62, []),
  (62, .istore_n 2, 63, []),
  (63, .goto 132, 66, [195]),
  (66, .iload_n 1, 67, []),
  (67, .bipush 10, 69, []),
  (69, .if_icmp .eq 9, 72, [78]),
  (72, .iload_n 1, 73, []),
  (73, .bipush 11, 75, []),
  (75, .if_icmp .ne 41, 78, [116]),
  (78, .iload_n 2, 79, []),
  (79, .iload 4, 81, []),
  (81, .iload_n 1, 82, []),
  (82, .bipush 10, 84, []),
  (84, .if_icmp .ne 8, 87, [92]),
  (87, .bipush 8, 89, []),
  (89, .goto 5, 92, [94]),
  (92, .bipush 7, 94, []),
  (94, .if_icmp .ne 16, 97, [110]),
  (97, .aload_n 0, 98, []),
  (98, .getfield 16, 101, []),
  (101, .iload_n 3, 102, []),
  (102, .baload, 103, []),
  (103, .ifCond .eq 7, 106, [110]),
  (106, .iconst 1, 107, []),
  (107, .goto 4, 110, [111]),
  (110, .iconst 0, 111, []),
  (111, .iadd, 112, []),
  (112, .istore_n 2, 113, []),
  (113, .goto 82, 116, [195]),
  (116, .iload_n 1, 117, []),
  (117, .bipush 12, 119, []),
  (119, .if_icmp .ne 29, 122, [148]),
  (122, .iload_n 2, 123, []),
  (123, .iload 4, 125, []),
  (125, .iconst 5, 126, []),
  (126, .if_icmp .ne 16, 129, [142]),
  (129, .aload_n 0, 130, []),
  (130, .getfield 20, 133, []),
  (133, .iload_n 3, 134, []),
  (134, .iaload, 135, []),
  (135, .ifCond .le 7, 138, [142]),
  (138, .iconst 1, 139, []),
  (139, .goto 4, 142, [143]),
  (142, .iconst 0, 143, []),
  (143, .iadd, 144, []),
  (144, .istore_n 2, 145, []),
  (145, .goto 50, 148, [195]),
  (148, .iload_n 2, 149, []),
  (149, .iload_n 1, 150, []),
  (150, .bipush 13, 152, []),
  (152, .if_icmp .ne 12, 155, [164]),
  (155, .aload_n 0, 156, []),
  (156, .getfield 23, 159, []),
  (159, .iload_n 3, 160, []),
  (160, .iaload, 161, []),
  (161, .goto 32, 164, [193]),
  (164, .iload_n 1, 165, []),
  (165, .bipush 14, 167, []),
  (167, .if_icmp .ne 12, 170, [179]),
  (170, .aload_n 0, 171, []),
  (171, .getfield 26, 174, []),
  (174, .iload_n 3, 175, []),
  (175, .iaload, 176, []),
  (176, .goto 17, 179, [193]),
  (179, .aload_n 0, 180, []),
  (180, .getfield 29, 183, []),
  (183, .iload_n 3, 184, []),
  (184, .baload, 185, []),
  (185, .ifCond .eq 7, 188, [192]),
  (188, .iconst 1, 189, []),
  (189, .goto 4, 192, [193]),
  (192, .iconst 0, 193, []),
  (193, .iadd, 194, []),
  (194, .istore_n 2, 195, []),
  (195, .iinc 3 1, 198, []),
  (198, .goto (-170), 201, [28]),
  (201, .aload_n 0, 202, []),
  (202, .iload_n 1, 203, []),
  (203, .bipush 16, 205, []),
  (205, .invokevirtual 78, 208, []),
  (208, .ifCond .eq 7, 211, [215]),
  (211, .iload_n 2, 212, []),
  (212, .goto 4, 215, [216]),
  (215, .iconst (-1), 216, []),
  (216, .ireturn, 217, [])]
theorem ck_M_count : jm_chk b_M_count k_M_count = true := by decide +kernel
def k_M_dark : List jm_I := [
  (0, .aload_n 0, 1, []),
  (1, .invokevirtual 94, 4, []),
  (4, .aload_n 0, 5, []),
  (5, .invokevirtual 97, 8, []),
  (8, .iload_n 1, 9, []),
  (9, .istore_n 3, 10, []),
  (10, .bipush 64, 12, []),
  (12, .istore 4, 14, []),
  (14, .iload 4, 16, []),
  (16, .sipush 384, 19, []),
  (19, .if_icmp .ge 70, 22, [89]),
  (22, .iload_n 3, 23, []),
  (23, .ifCond .lt 66, 26, [89]),
  (26, .aload_n 0, 27, []),
  (27, .getfield 7, 30, []),
  (30, .iload 4, 32, []),
  (32, .iaload, 33, []),
  (33, .ifCond .ne 50, 36, [83]),
  (36, .aload_n 0, 37, []),
  (37, .iload 4, 39, []),
  (39, .bipush 64, 41, []),
  (41, .isub, 42, []),
  (42, .invokevirtual 72, 45, []),
  (45, .ifCond .eq 38, 48, [83]),
  (48, .aload_n 0, 49, []),
  (49, .getfield 23, 52, []),
  (52, .iload 4, 54, []),
  (54, .iaload, 55, []),
  (55, .iload_n 2, 56, []),
  (56, .if_icmp .gt 27, 59, [83]),
  (59, .aload_n 0, 60, []),
  (60, .getfield 26, 63, []),
  (63, .iload 4, 65, []),
  (65, .iaload, 66, []),
  (66, .iload_n 2, 67, []),
  (67, .if_icmp .le 6, 70, [73]),
  (70, .goto 13, 73, [83]),
  (73, .iload_n 3, 74, []),
  (74, .ifCond .ne 6, 77, [80]),
  (77, .iload 4, 79, []),
  (79, .ireturn, 80, []),
  (80, .iinc 3 (-1), 83, []),
  (83, .iinc 4 1, 86, []),
  (86, .goto (-72), 89, [14]),
  (89, .iconst (-1), 90, []),
  (90, .ireturn, 91, [])]
theorem ck_M_dark : jm_chk b_M_dark k_M_dark = true := by decide +kernel
def k_M_lit : List jm_I := [
  (0, .aload_n 0, 1, []),
  (1, .iload_n 1, 2, []),
  (2, .sipush 384, 5, []),
  (5, .invokevirtual 78, 8, []),
  (8, .ifCond .ne 5, 11, [13]),
  (11, .iconst 0, 12, []),
  (12, .ireturn, 13, []),
  (13, .aload_n 0, 14, []),
  (14, .invokevirtual 94, 17, []),
  (17, .aload_n 0, 18, []),
  (18, .iload_n 1, 19, []),
  (19, .invokevirtual 72, 22, []),
  (22, .ifCond .ne 13, 25, [35]),
  (25, .aload_n 0, 26, []),
  (26, .getfield 23, 29, []),
  (29, .iload_n 1, 30, []),
  (30, .iaload, 31, []),
  (31, .iload_n 2, 32, []),
  (32, .if_icmp .ge 5, 35, [37]),
  (35, .iconst 0, 36, []),
  (36, .ireturn, 37, []),
  (37, .iconst 0, 38, []),
  (38, .istore_n 3, 39, []),
  (39, .iload_n 3, 40, []),
  (40, .sipush 384, 43, []),
  (43, .if_icmp .ge 25, 46, [68]),
  (46, .aload_n 0, 47, []),
  (47, .getfield 35, 50, []),
  (50, .iload_n 3, 51, []),
  (51, .iload_n 3, 52, []),
  (52, .iload_n 1, 53, []),
  (53, .if_icmp .ne 7, 56, [60]),
  (56, .iconst 1, 57, []),
  (57, .goto 4, 60, [61]),
  (60, .iconst 0, 61, []),
  (61, .bastore, 62, []),
  (62, .iinc 3 1, 65, []),
  (65, .goto (-26), 68, [39]),
  (68, .iconst 1, 69, []),
  (69, .istore_n 3, 70, []),
  (70, .iconst 1, 71, []),
  (71, .istore 4, 73, []),
  (73, .iload 4, 75, []),
  (75, .ifCond .eq 82, 78, [157]),
  (78, .iconst 0, 79, []),
  (79, .istore 4, 81, []),
  (81, .iconst 0, 82, []),
  (82, .istore 5, 84, []),
  (84, .iload 5, 86, []),
  (86, .sipush 384, 89, []),
  (89, .if_icmp .ge 65, 92, [154]),
  (92, .aload_n 0, 93, []),
  (93, .getfield 35, 96, []),
  (96, .iload 5, 98, []),
  (98, .baload, 99, []),
  (99, .ifCond .ne 49, 102, [148]),
  (102, .aload_n 0, 103, []),
  (103, .iload 5, 105, []),
  (105, .invokevirtual 72, 108, []),
  (108, .ifCond .ne 40, 111, [148]),
  (111, .aload_n 0, 112, []),
  (112, .getfield 23, 115, []),
  (115, .iload 5, 117, []),
  (117, .iaload, 118, []),
  (118, .iload_n 2, 119, []),
  (119, .if_icmp .lt 29, 122, [148]),
  (122, .aload_n 0, 123, []),
  (123, .iload 5, 125, []),
  (125, .invokevirtual 113, 128, []),
  (128, .ifCond .ne 6, 131, [134]),
  (131, .goto 17, 134, [148]),
  (134, .aload_n 0, 135, []),
  (135, .getfield 35, 138, []),
  (138, .iload 5, 140, []),
  (140, .iconst 1, 141, []),
  (141, .bastore, 142, []),
  (142, .iinc 3 1, 145, []),
  (145, .iconst 1, 146, []),
  (146, .istore 4, 148, []),
  (148, .iinc 5 1, 151, []),
  (151, .goto (-67), 154, [84]),
  (154, .goto (-81), 157, [73]),
  (157, .iload_n 3, 158, []),
  (158, .ireturn, 159, [])]
theorem ck_M_lit : jm_chk b_M_lit k_M_lit = true := by decide +kernel
def k_M_touches : List jm_I := [
  (0, .iconst 0, 1, []),
  (1, .istore_n 2, 2, []),
  (2, .iload_n 2, 3, []),
  (3, .bipush 6, 5, []),
  (5, .if_icmp .ge 31, 8, [36]),
  (8, .aload_n 0, 9, []),
  (9, .iload_n 1, 10, []),
  (10, .iload_n 2, 11, []),
  (11, .invokevirtual 41, 14, []),
  (14, .istore_n 3, 15, []),
  (15, .iload_n 3, 16, []),
  (16, .ifCond .lt 14, 19, [30]),
  (19, .aload_n 0, 20, []),
  (20, .getfield 35, 23, []),
  (23, .iload_n 3, 24, []),
  (24, .baload, 25, []),
  (25, .ifCond .eq 5, 28, [30]),
  (28, .iconst 1, 29, []),
  (29, .ireturn, 30, []),
  (30, .iinc 2 1, 33, []),
  (33, .goto (-31), 36, [2]),
  (36, .iconst 0, 37, []),
  (37, .ireturn, 38, [])]
theorem ck_M_touches : jm_chk b_M_touches k_M_touches = true := by decide +kernel
theorem lk_M_touches (pre : List Int → jm_S → Prop) (post : List Int → jm_S → Int → jm_S → Prop) : jm_Lk R_M 113 y_M_touches b_M_touches 4 (some .boolean) (false, 1, false, pre, post) := ⟨lw_in (by decide +kernel) rfl, lw_in (List.mem_of_getElem? (i := 433) rfl) rfl, (fun h => Bool.noConfusion h), fun _ => ⟨lw_in (by decide +kernel) rfl, lw_in (by decide +kernel) rfl⟩, lw_in (by decide +kernel) rfl, (by show _ ∧ _ ∧ _ = some 1; decide +kernel), ⟨(fun h => Bool.noConfusion h), (fun h => by cases h)⟩, by decide⟩
end
section
/-! PURE ROWS: no program in sight -/
theorem jm_a0 {as : List Int} (h : as.length = 0) : as = [] := List.eq_nil_of_length_eq_zero h
theorem jm_a1 {as : List Int} (h : as.length = 1) : ∃ a, as = [a] := by
  match as, h with
  | [a], _ => exact ⟨a, rfl⟩
theorem jm_a2 {as : List Int} (h : as.length = 2) : ∃ a b, as = [a, b] := by
  match as, h with
  | [a, b], _ => exact ⟨a, b, rfl⟩
theorem jm_a3 {as : List Int} (h : as.length = 3) : ∃ a b c, as = [a, b, c] := by
  match as, h with
  | [a, b, c], _ => exact ⟨a, b, c, rfl⟩
theorem jm_a4 {as : List Int} (h : as.length = 4) : ∃ a b c d, as = [a, b, c, d] := by
  match as, h with
  | [a, b, c, d], _ => exact ⟨a, b, c, d, rfl⟩
theorem jm_a7 {as : List Int} (h : as.length = 7) : ∃ a b c d e f g, as = [a, b, c, d, e, f, g] := by
  match as, h with
  | [a, b, c, d, e, f, g], _ => exact ⟨a, b, c, d, e, f, g, rfl⟩
/-- the neighbour of a cell in a direction; -1: none -/
def bw_nb (c d : Int) : Int := if d = 0 then (if 320 ≤ c then -1 else c + 64) else if d = 1 then (if c < 64 then -1 else c - 64) else if d = 2 then (if c % 8 = 7 then -1 else c + 1) else if d = 3 then (if c % 8 = 0 then -1 else c - 1) else if d = 4 then (if c / 8 % 8 = 7 then -1 else c + 8) else (if c / 8 % 8 = 0 then -1 else c - 8)
abbrev bw_cl (c : Int) : Prop := 0 ≤ c ∧ c < 384
theorem bw_nb_rg {c d : Int} (hc : bw_cl c) (hd : 0 ≤ d ∧ d < 6) : -1 ≤ bw_nb c d ∧ bw_nb c d < 384 := by
  unfold bw_nb
  repeat' split
  all_goals omega
theorem bw_nb_ne {c d : Int} (hc : bw_cl c) : bw_nb c d ≠ c := by
  unfold bw_nb
  repeat' split
  all_goals omega
theorem bw_nb_back {c d : Int} (hc : bw_cl c) (hd : 0 ≤ d ∧ d < 6) (h : 0 ≤ bw_nb c d) : bw_nb (bw_nb c d) (d + 1 - 2 * (d % 2)) = c := by
  have : d = 0 ∨ d = 1 ∨ d = 2 ∨ d = 3 ∨ d = 4 ∨ d = 5 := by omega
  rcases this with rfl | rfl | rfl | rfl | rfl | rfl <;> simp [bw_nb] at h ⊢ <;> split at h <;> (try omega) <;> simp_all <;> omega
theorem bw_nb_up {c d : Int} (hc : bw_cl c) (hd : 0 ≤ d ∧ d < 6) : bw_nb c d = c + 64 ↔ (d = 0 ∧ c < 320) := by
  have : d = 0 ∨ d = 1 ∨ d = 2 ∨ d = 3 ∨ d = 4 ∨ d = 5 := by omega
  rcases this with rfl | rfl | rfl | rfl | rfl | rfl <;> simp [bw_nb] <;> omega
def bw_adj (c k : Int) : Prop := ∃ d, (0 ≤ d ∧ d < 6) ∧ bw_nb c d = k ∧ 0 ≤ k
theorem bw_adj_cl {c k : Int} (hc : bw_cl c) (h : bw_adj c k) : bw_cl k := by
  obtain ⟨d, hd, rfl, h0⟩ := h
  have := bw_nb_rg hc hd
  exact ⟨h0, this.2⟩
theorem bw_adj_sym {c k : Int} (hc : bw_cl c) (h : bw_adj c k) : bw_adj k c := by
  obtain ⟨d, hd, rfl, h0⟩ := h
  exact ⟨d + 1 - 2 * (d % 2), by omega, bw_nb_back hc hd h0, hc.1⟩
theorem bw_adj_ne {c k : Int} (hc : bw_cl c) (h : bw_adj c k) : k ≠ c := by
  obtain ⟨d, hd, rfl, h0⟩ := h
  exact bw_nb_ne hc
theorem bw_adj_of {c d : Int} (hd : 0 ≤ d ∧ d < 6) (h : 0 ≤ bw_nb c d) : bw_adj c (bw_nb c d) := ⟨d, hd, rfl, h⟩
theorem bw_adj_up {c : Int} (hc : bw_cl c) (h : c < 320) : bw_adj c (c + 64) := ⟨0, by omega, by simp [bw_nb]; omega, by omega⟩
theorem bw_adj_dn {c : Int} (hc : bw_cl c) (h : 64 ≤ c) : bw_adj c (c - 64) := ⟨1, by omega, by simp [bw_nb]; omega, by omega⟩
/-! fields: what passes, with what a cell begins; a cell is good; the equation has one solution -/
def bw_gd (ps : Int → Prop) (bg F : Int → Int) (k : Int) : Prop := (ps k → bg k ≤ F k) ∧ (0 < F k → ps k ∧ (F k ≤ bg k ∨ ∃ n, bw_adj k n ∧ F k < F n))
def bw_A (ps : Int → Prop) (F : Int → Int) : Prop := ∀ k, bw_cl k → ps k → ∀ n, bw_adj k n → F n - 1 ≤ F k
theorem bw_le {ps ps' : Int → Prop} {bg bg' F F' : Int → Int} (hF : ∀ k, bw_cl k → F k ≤ 15) (hF' : ∀ k, bw_cl k → 0 ≤ F' k) (hps : ∀ k, bw_cl k → ps k → ps' k) (hbg : ∀ k, bw_cl k → ps k → bg k = bg' k) (hA' : bw_A ps' F') (hg : ∀ k, bw_cl k → bw_gd ps bg F k) (hg' : ∀ k, bw_cl k → bw_gd ps' bg' F' k) :
    ∀ (n : Nat) (k : Int), bw_cl k → 15 - F k ≤ n → F k ≤ F' k := by
  intro n
  induction n with
  | zero =>
    intro k hk hn
    have h1 := hF k hk
    have h2 := hF' k hk
    by_cases h0 : 0 < F k
    · obtain ⟨p, q⟩ := (hg k hk).2 h0
      rcases q with q | ⟨m, hm, q⟩
      · have := (hg' k hk).1 (hps k hk p)
        have := hbg k hk p
        omega
      · have := hF m (bw_adj_cl hk hm)
        omega
    · omega
  | succ n ih =>
    intro k hk hn
    have h1 := hF k hk
    have h2 := hF' k hk
    by_cases h0 : 0 < F k
    · obtain ⟨p, q⟩ := (hg k hk).2 h0
      rcases q with q | ⟨m, hm, q⟩
      · have := (hg' k hk).1 (hps k hk p)
        have := hbg k hk p
        omega
      · have h3 := ih m (bw_adj_cl hk hm) (by omega)
        have h4 := hA' k hk (hps k hk p) m hm
        omega
    · omega
theorem bw_uniq {ps ps' : Int → Prop} {bg bg' F F' : Int → Int} (hF : ∀ k, bw_cl k → 0 ≤ F k ∧ F k ≤ 15) (hF' : ∀ k, bw_cl k → 0 ≤ F' k ∧ F' k ≤ 15) (hps : ∀ k, bw_cl k → (ps k ↔ ps' k)) (hbg : ∀ k, bw_cl k → ps k → bg k = bg' k) (hA : bw_A ps F) (hA' : bw_A ps' F') (hg : ∀ k, bw_cl k → bw_gd ps bg F k) (hg' : ∀ k, bw_cl k → bw_gd ps' bg' F' k) :
    ∀ k, bw_cl k → F k = F' k := by
  intro k hk
  have h1 := bw_le (fun k h => (hF k h).2) (fun k h => (hF' k h).1) (fun k h => (hps k h).mp) hbg hA' hg hg' 15 k hk (by have := hF k hk; omega)
  have h2 := bw_le (fun k h => (hF' k h).2) (fun k h => (hF k h).1) (fun k h => (hps k h).mpr) (fun k h p => (hbg k h ((hps k h).mpr p)).symm) hA hg' hg 15 k hk (by have := hF' k hk; omega)
  omega
/-! counting -/
def bw_cnt (p : Int → Bool) : Nat → Int
  | 0 => 0
  | n + 1 => bw_cnt p n + (if p (n : Int) = true then 1 else 0)
theorem bw_cnt_rg (p : Int → Bool) : ∀ n : Nat, 0 ≤ bw_cnt p n ∧ bw_cnt p n ≤ n
  | 0 => by simp [bw_cnt]
  | n + 1 => by
    have := bw_cnt_rg p n
    unfold bw_cnt
    split <;> omega
theorem bw_cnt_congr {p q : Int → Bool} : ∀ (n : Nat), (∀ i : Int, 0 ≤ i → i < n → p i = q i) → bw_cnt p n = bw_cnt q n
  | 0, _ => rfl
  | n + 1, h => by
    unfold bw_cnt
    rw [bw_cnt_congr n (fun i h1 h2 => h i h1 (by omega)), h n (by omega) (by omega)]
theorem bw_cnt_set {p q : Int → Bool} {c : Int} : ∀ (n : Nat), (∀ i : Int, 0 ≤ i → i < n → i ≠ c → q i = p i) → 0 ≤ c → c < n → bw_cnt q n = bw_cnt p n + (if q c = true then 1 else 0) - (if p c = true then 1 else 0)
  | 0, _, h1, h2 => by simp at h2; omega
  | n + 1, h, h1, h2 => by
    unfold bw_cnt
    by_cases hc : c = n
    · subst hc
      rw [bw_cnt_congr n (q := p) (fun i h3 h4 => h i h3 (by omega) (by omega))]
      omega
    · rw [bw_cnt_set n (fun i h3 h4 h5 => h i h3 (by omega) h5) h1 (by omega), h n (by omega) (by omega) (Ne.symm hc)]
      omega
theorem bw_cnt_lt {p : Int → Bool} {c : Int} {n : Nat} (h1 : 0 ≤ c) (h2 : c < n) (h : p c = false) : bw_cnt p n ≤ n - 1 := by
  have h3 := bw_cnt_set (p := p) (q := fun i => if i = c then true else p i) (c := c) n (fun i _ _ h => by simp [h]) h1 h2
  have h4 := (bw_cnt_rg (fun i => if i = c then true else p i) n).2
  rw [if_pos (show (if c = c then true else p c) = true by simp), h, if_neg (by decide)] at h3
  omega
theorem bw_cnt_pos {p : Int → Bool} {c : Int} {n : Nat} (h1 : 0 ≤ c) (h2 : c < n) (h : p c = true) : 1 ≤ bw_cnt p n := by
  have h3 := bw_cnt_set (p := p) (q := fun i => if i = c then false else p i) (c := c) n (fun i _ _ h => by simp [h]) h1 h2
  have h4 := (bw_cnt_rg (fun i => if i = c then false else p i) n).1
  rw [if_neg (show ¬ (if c = c then false else p c) = true by simp), h, if_pos rfl] at h3
  omega
theorem bw_cnt_none {p : Int → Bool} (n : Nat) (h : ∀ i : Int, 0 ≤ i → i < n → p i = false) : bw_cnt p n = 0 := by
  rw [bw_cnt_congr n (q := fun _ => false) h]
  clear h
  induction n with
  | zero => rfl
  | succ n ih => simp [bw_cnt, ih]
theorem bw_cnt_0 {p : Int → Bool} {n : Nat} (h : bw_cnt p n = 0) : ∀ i : Int, 0 ≤ i → i < n → p i = false := by
  intro i h1 h2
  cases hp : p i
  · rfl
  · have := bw_cnt_pos h1 h2 hp
    omega
theorem bw_cnt_all (n : Nat) : bw_cnt (fun _ => true) n = n := by
  induction n with
  | zero => rfl
  | succ n ih => simp [bw_cnt, ih]
end
section
/-! contracts of the component's leaves -/
set_option maxHeartbeats 4000000 in
theorem jm_con2 {cl : List vw_C} {C : String} {T : u_T} {N : Nat} {ty0 : Nat → FieldType} {D : Nat → jm_F} {fi : Nat → Option Nat} {ks : List Nat} {ci : Nat} {y : MethodName} {bytes : ByteArray} {maxL : Nat} {z : Option Bool} {lv : Nat} {sp : jm_K} {code : List jm_I} {L : List (Nat × jm_K)}
    (hCF : jm_CF cl C T N ty0 D fi ks ci) (hyC : y.cls = C) (hpl : plainName y.cls = true) (hchk : jm_chk bytes code = true) (hcal : jm_cals cl C D N ks ci lv L) (hn : (bif sp.1 then 0 else 1) + sp.2.1 ≤ maxL)
    (h : ∀ (σ : jm_S) (as : List Int), as.length = sp.2.1 → (∀ x ∈ as, -2147483648 ≤ x ∧ x ≤ 2147483647) → jm_okS D σ → sp.2.2.2.1 as σ → ∀ Q : Int → jm_S → Prop, (∀ r u, sp.2.2.2.2 as σ r u → Q r u) → jm_Ok D fi (jm_look L) code z Q 0 (jm_l0 sp.1 as maxL) [] σ) :
    jm_Con cl D N ks ci y bytes maxL (jm_rt z) lv sp :=
  jm_con hCF hyC hpl hchk hcal hn fun σ as h1 h2 h3 h4 => h σ as h1 h2 h3 h4 _ fun _ _ q => q
abbrev bw_op (b : Int) : Prop := b = 1 ∨ b = 4 ∨ b = 6
def sp_B_near : jm_K := (true, 2, false, fun as _ => (match as with
  | [c, d] => bw_cl c ∧ 0 ≤ d ∧ d < 6
  | _ => False), fun as σ r σ' => (match as with
  | [c, d] => r = bw_nb c d ∧ σ' = σ
  | _ => False))
def L_B_near : List (Nat × jm_K) := []
set_option maxHeartbeats 4000000 in
set_option maxRecDepth 100000 in
theorem con_B_near : jm_Con classes D_B 17 ks_B 0 y_B_near b_B_near 2 (jm_rt (some false)) 0 sp_B_near := by
  refine jm_con2 (L := L_B_near) (code := k_B_near) CF_B rfl (by decide) ck_B_near trivial (by decide) ?_
  intro σ as hl hr hs hp Q hQ
  obtain ⟨c, d, rfl⟩ := jm_a2 hl
  obtain ⟨hc, hd⟩ := hp
  refine jm_Ok.go 60 [] ?_
  repeat' (first | apply And.intro | intro _)
  all_goals first | omega | trivial | (refine hQ _ _ ⟨?_, rfl⟩; unfold bw_nb; repeat' split)
  all_goals omega
def sp_B_isCell : jm_K := (true, 1, false, fun _ _ => True, fun as σ r σ' => (match as with
  | [c] => ((r = 1 ∧ bw_cl c) ∨ (r = 0 ∧ ¬ bw_cl c)) ∧ σ' = σ
  | _ => False))
def L_B_isCell : List (Nat × jm_K) := []
set_option maxHeartbeats 4000000 in
set_option maxRecDepth 100000 in
theorem con_B_isCell : jm_Con classes D_B 17 ks_B 0 y_B_isCell b_B_isCell 1 (jm_rt (some true)) 0 sp_B_isCell := by
  refine jm_con2 (L := L_B_isCell) (code := k_B_isCell) CF_B rfl (by decide) ck_B_isCell trivial (by decide) ?_
  intro σ as hl hr hs hp Q hQ
  obtain ⟨c, rfl⟩ := jm_a1 hl
  refine jm_Ok.go 60 [] ?_
  repeat' (first | apply And.intro | intro _)
  all_goals first | omega | (refine hQ _ _ ⟨?_, rfl⟩; omega)
def sp_B_opaque : jm_K := (true, 1, false, fun _ _ => True, fun as σ r σ' => (match as with
  | [b] => ((r = 1 ∧ bw_op b) ∨ (r = 0 ∧ ¬ bw_op b)) ∧ σ' = σ
  | _ => False))
def L_B_opaque : List (Nat × jm_K) := []
set_option maxHeartbeats 4000000 in
set_option maxRecDepth 100000 in
theorem con_B_opaque : jm_Con classes D_B 17 ks_B 0 y_B_opaque b_B_opaque 1 (jm_rt (some true)) 0 sp_B_opaque := by
  refine jm_con2 (L := L_B_opaque) (code := k_B_opaque) CF_B rfl (by decide) ck_B_opaque trivial (by decide) ?_
  intro σ as hl hr hs hp Q hQ
  obtain ⟨b, rfl⟩ := jm_a1 hl
  refine jm_Ok.go 60 [] ?_
  repeat' (first | apply And.intro | intro _)
  all_goals first | omega | (refine hQ _ _ ⟨?_, rfl⟩; omega)
def sp_B_fits : jm_K := (true, 4, false, fun _ _ => True, fun as σ r σ' => (match as with
  | [x, y, z, b] => ((r = 1 ∧ (0 ≤ x ∧ x < 8) ∧ (0 ≤ y ∧ y < 6) ∧ (0 ≤ z ∧ z < 8) ∧ (0 ≤ b ∧ b < 10)) ∨ (r = 0 ∧ ¬ ((0 ≤ x ∧ x < 8) ∧ (0 ≤ y ∧ y < 6) ∧ (0 ≤ z ∧ z < 8) ∧ (0 ≤ b ∧ b < 10)))) ∧ σ' = σ
  | _ => False))
def L_B_fits : List (Nat × jm_K) := []
set_option maxHeartbeats 4000000 in
set_option maxRecDepth 100000 in
theorem con_B_fits : jm_Con classes D_B 17 ks_B 0 y_B_fits b_B_fits 4 (jm_rt (some true)) 0 sp_B_fits := by
  refine jm_con2 (L := L_B_fits) (code := k_B_fits) CF_B rfl (by decide) ck_B_fits trivial (by decide) ?_
  intro σ as hl hr hs hp Q hQ
  obtain ⟨x, y, z, b, rfl⟩ := jm_a4 hl
  refine jm_Ok.go 60 [] ?_
  repeat' (first | apply And.intro | intro _)
  all_goals first | omega | (refine hQ _ _ ⟨?_, rfl⟩; omega)
def sp_B_feeds : jm_K := (false, 2, false, fun as _ => (match as with
  | [c, d] => bw_cl c
  | _ => False), fun as σ r σ' => (match as with
  | [c, d] => ((r = 1 ∧ (σ 0 c = 6 ∨ (σ 0 c = 7 ∧ σ 2 c = 1 ∧ d ≠ 1))) ∨ (r = 0 ∧ ¬ (σ 0 c = 6 ∨ (σ 0 c = 7 ∧ σ 2 c = 1 ∧ d ≠ 1)))) ∧ σ' = σ
  | _ => False))
def L_B_feeds : List (Nat × jm_K) := []
set_option maxHeartbeats 4000000 in
set_option maxRecDepth 100000 in
theorem con_B_feeds : jm_Con classes D_B 17 ks_B 0 y_B_feeds b_B_feeds 3 (jm_rt (some true)) 0 sp_B_feeds := by
  refine jm_con2 (L := L_B_feeds) (code := k_B_feeds) CF_B rfl (by decide) ck_B_feeds trivial (by decide) ?_
  intro σ as hl hr hs hp Q hQ
  obtain ⟨c, d, rfl⟩ := jm_a2 hl
  have hc : bw_cl c := hp
  refine jm_Ok.go 60 [] ?_
  repeat' (first | apply And.intro | intro _)
  all_goals first | omega | (refine hQ _ _ ⟨?_, rfl⟩; omega)
def bw_shn (B O : Int → Int) (c : Int) : Int := if B c = 3 then 14 else if B c = 8 ∧ O c = 1 then 12 else 0
def sp_B_shines : jm_K := (false, 1, false, fun as _ => (match as with
  | [c] => bw_cl c
  | _ => False), fun as σ r σ' => (match as with
  | [c] => r = bw_shn (σ 0) (σ 2) c ∧ σ' = σ
  | _ => False))
def L_B_shines : List (Nat × jm_K) := []
set_option maxHeartbeats 4000000 in
set_option maxRecDepth 100000 in
theorem con_B_shines : jm_Con classes D_B 17 ks_B 0 y_B_shines b_B_shines 2 (jm_rt (some false)) 0 sp_B_shines := by
  refine jm_con2 (L := L_B_shines) (code := k_B_shines) CF_B rfl (by decide) ck_B_shines trivial (by decide) ?_
  intro σ as hl hr hs hp Q hQ
  obtain ⟨c, rfl⟩ := jm_a1 hl
  have hc : bw_cl c := hp
  refine jm_Ok.go 60 [] ?_
  repeat' (first | apply And.intro | intro _)
  all_goals first | omega | (refine hQ _ _ ⟨?_, rfl⟩; unfold bw_shn; repeat' split)
  all_goals omega
/-- fed by a battery, or by an inverter that is on and not above -/
abbrev bw_mk (B O : Int → Int) (c d : Int) : Prop := 0 ≤ bw_nb c d ∧ (B (bw_nb c d) = 6 ∨ (B (bw_nb c d) = 7 ∧ O (bw_nb c d) = 1 ∧ d ≠ 0))
def bw_drv (B O : Int → Int) (c : Int) : Prop := ∃ d, (0 ≤ d ∧ d < 6) ∧ bw_mk B O c d
def sp_B_fedByMakers : jm_K := (false, 1, false, fun as _ => (match as with
  | [c] => bw_cl c
  | _ => False), fun as σ r σ' => (match as with
  | [c] => ((r = 1 ∧ bw_drv (σ 0) (σ 2) c) ∨ (r = 0 ∧ ¬ bw_drv (σ 0) (σ 2) c)) ∧ σ' = σ
  | _ => False))
def L_B_fedByMakers : List (Nat × jm_K) := [(58, sp_B_near), (62, sp_B_feeds)]
set_option maxHeartbeats 4000000 in
set_option maxRecDepth 100000 in
theorem con_B_fedByMakers : jm_Con classes D_B 17 ks_B 0 y_B_fedByMakers b_B_fedByMakers 4 (jm_rt (some true)) 1 sp_B_fedByMakers := by
  refine jm_con2 (L := L_B_fedByMakers) (code := k_B_fedByMakers) CF_B rfl (by decide) ck_B_fedByMakers ⟨⟨y_B_near, b_B_near, 2, jm_rt (some false), 0, by decide, con_B_near, lk_B_near _ _, rfl⟩, ⟨y_B_feeds, b_B_feeds, 3, jm_rt (some true), 0, by decide, con_B_feeds, lk_B_feeds _ _, rfl⟩, trivial⟩ (by decide) ?_
  intro σ as hl hr hs hp Q hQ
  obtain ⟨c, rfl⟩ := jm_a1 hl
  have hc : bw_cl c := hp
  have loop : ∀ (n : Nat) (d : Int) (l3 : Option jm_V), 0 ≤ d → d + n = 6 → (∀ e, (0 ≤ e ∧ e < d) → ¬ bw_mk (σ 0) (σ 2) c e) → jm_Ok D_B fi_B (jm_look L_B_fedByMakers) k_B_fedByMakers (some true) Q 2 [some (.inr none), some (.inl c), some (.inl d), l3] [] σ := by
    intro n
    induction n with
    | zero =>
      intro d l3 h0 h1 h2
      refine jm_Ok.go 60 [] ?_
      refine ⟨fun _ => ?_, fun _ => by omega⟩
      refine ⟨by omega, hQ _ _ ⟨Or.inr ⟨rfl, ?_⟩, rfl⟩⟩
      rintro ⟨e, he, q⟩
      exact h2 e (by omega) q
    | succ n ih =>
      intro d l3 h0 h1 h2
      refine jm_Ok.go 60 [2] ?_
      refine ⟨fun _ => by omega, fun _ => ?_⟩
      refine ⟨⟨hc, by omega⟩, ?_⟩
      rintro k _ - ⟨rfl, rfl⟩
      have hk := bw_nb_rg hc (show 0 ≤ d ∧ d < 6 by omega)
      refine ⟨fun hk0 => ?_, fun hk0 => ?_⟩
      · refine ⟨by omega, ih (d + 1) _ (by omega) (by omega) ?_⟩
        intro e he q
        by_cases hed : e = d
        · subst hed; omega
        · exact h2 e (by omega) q
      · refine ⟨by omega, ⟨by omega, by omega⟩, ?_⟩
        rintro r _ - ⟨hr, rfl⟩
        refine ⟨fun hr0 => ?_, fun hr0 => ?_⟩
        · refine ⟨by omega, ih (d + 1) _ (by omega) (by omega) ?_⟩
          intro e he q
          by_cases hed : e = d
          · subst hed; omega
          · exact h2 e (by omega) q
        · refine ⟨by omega, hQ _ _ ⟨Or.inl ⟨rfl, d, by omega, hk0, ?_⟩, rfl⟩⟩
          omega
  refine jm_Ok.go 60 [2] ?_
  exact loop 6 0 _ (by omega) (by omega) (fun e he => by omega)
end
section
/-! fields of the component: with what a cell begins, what passes; noticing; drop, raise, give -/
def bw_bgS (R : Int → Int) (c : Int) : Int := if R (c % 64) ≤ c / 64 then 15 else 0
noncomputable def bw_bgP (B O : Int → Int) (c : Int) : Int := @ite Int (B c = 5 ∧ bw_drv B O c) (Classical.propDecidable _) 15 0
noncomputable def bw_bg (B O R : Int → Int) (f c : Int) : Int := if f = 0 then bw_shn B O c else if f = 1 then bw_bgS R c else bw_bgP B O c
def bw_ps (B : Int → Int) (f c : Int) : Prop := (f = 2 ∧ B c = 5) ∨ (f ≠ 2 ∧ ¬ bw_op (B c))
noncomputable def bw_bp (B O R : Int → Int) (f c : Int) : Int := @ite Int (bw_ps B f c) (Classical.propDecidable _) (bw_bg B O R f c) 0
theorem bw_bgP_1 {B O : Int → Int} {c : Int} (h : B c = 5 ∧ bw_drv B O c) : bw_bgP B O c = 15 := if_pos h
theorem bw_bgP_0 {B O : Int → Int} {c : Int} (h : ¬ (B c = 5 ∧ bw_drv B O c)) : bw_bgP B O c = 0 := if_neg h
theorem bw_bp_1 {B O R : Int → Int} {f c : Int} (h : bw_ps B f c) : bw_bp B O R f c = bw_bg B O R f c := if_pos h
theorem bw_bp_0 {B O R : Int → Int} {f c : Int} (h : ¬ bw_ps B f c) : bw_bp B O R f c = 0 := if_neg h
theorem bw_bg_rg (B O R : Int → Int) (f c : Int) : 0 ≤ bw_bg B O R f c ∧ bw_bg B O R f c ≤ 15 := by
  unfold bw_bg
  split
  · unfold bw_shn; repeat' split
    all_goals omega
  · split
    · unfold bw_bgS; split <;> omega
    · unfold bw_bgP; split <;> omega
theorem bw_bp_rg (B O R : Int → Int) (f c : Int) : 0 ≤ bw_bp B O R f c ∧ bw_bp B O R f c ≤ 15 := by
  unfold bw_bp
  split
  · exact bw_bg_rg B O R f c
  · omega
def sp_B_begins : jm_K := (false, 2, false, fun as _ => (match as with
  | [f, c] => (0 ≤ f ∧ f ≤ 2) ∧ bw_cl c
  | _ => False), fun as σ r σ' => (match as with
  | [f, c] => r = bw_bg (σ 0) (σ 2) (σ 11) f c ∧ σ' = σ
  | _ => False))
def L_B_begins : List (Nat × jm_K) := [(66, sp_B_shines), (70, sp_B_fedByMakers)]
set_option maxHeartbeats 4000000 in
set_option maxRecDepth 100000 in
theorem con_B_begins : jm_Con classes D_B 17 ks_B 0 y_B_begins b_B_begins 3 (jm_rt (some false)) 2 sp_B_begins := by
  refine jm_con2 (L := L_B_begins) (code := k_B_begins) CF_B rfl (by decide) ck_B_begins ⟨⟨y_B_shines, b_B_shines, 2, jm_rt (some false), 0, by decide, con_B_shines, lk_B_shines _ _, rfl⟩, ⟨y_B_fedByMakers, b_B_fedByMakers, 4, jm_rt (some true), 1, by decide, con_B_fedByMakers, lk_B_fedByMakers _ _, rfl⟩, trivial⟩ (by decide) ?_
  intro σ as hl hr hs hp Q hQ
  obtain ⟨f, c, rfl⟩ := jm_a2 hl
  obtain ⟨hf, hc⟩ := hp
  refine jm_Ok.go 60 [] ?_
  refine ⟨fun h => ?_, fun h => ?_⟩
  · refine ⟨fun h1 => ?_, fun h1 => ?_⟩
    · refine ⟨by omega, fun b hb _ _ => ⟨fun h2 => ?_, fun h2 => ?_⟩⟩
      · refine hQ _ _ ⟨?_, rfl⟩
        rw [bw_bg, if_neg h, if_neg h1, bw_bgP_0 (by omega)]
      · refine ⟨hc, ?_⟩
        rintro r _ - ⟨hr, rfl⟩
        refine ⟨fun h3 => hQ _ _ ⟨?_, rfl⟩, fun h3 => hQ _ _ ⟨?_, rfl⟩⟩
        · rw [bw_bg, if_neg h, if_neg h1, bw_bgP_0]
          rintro ⟨-, q⟩
          rcases hr with ⟨e, -⟩ | ⟨-, e⟩
          · omega
          · exact e q
        · rw [bw_bg, if_neg h, if_neg h1, bw_bgP_1 ⟨by omega, ?_⟩]
          rcases hr with ⟨-, e⟩ | ⟨e, -⟩
          · exact e
          · omega
    · refine ⟨by omega, fun v hv _ _ => ⟨fun h2 => hQ _ _ ⟨?_, rfl⟩, fun h2 => hQ _ _ ⟨?_, rfl⟩⟩⟩
      · rw [bw_bg, if_neg h, if_pos h1, bw_bgS, if_neg (by omega)]
      · rw [bw_bg, if_neg h, if_pos h1, bw_bgS, if_pos (by omega)]
  · refine ⟨hc, ?_⟩
    rintro r _ - ⟨rfl, rfl⟩
    refine hQ _ _ ⟨?_, rfl⟩
    rw [bw_bg, if_pos h]
def sp_B_passes : jm_K := (false, 2, false, fun as _ => (match as with
  | [f, c] => bw_cl c
  | _ => False), fun as σ r σ' => (match as with
  | [f, c] => ((r = 1 ∧ bw_ps (σ 0) f c) ∨ (r = 0 ∧ ¬ bw_ps (σ 0) f c)) ∧ σ' = σ
  | _ => False))
def L_B_passes : List (Nat × jm_K) := [(74, sp_B_opaque)]
set_option maxHeartbeats 4000000 in
set_option maxRecDepth 100000 in
theorem con_B_passes : jm_Con classes D_B 17 ks_B 0 y_B_passes b_B_passes 3 (jm_rt (some true)) 1 sp_B_passes := by
  refine jm_con2 (L := L_B_passes) (code := k_B_passes) CF_B rfl (by decide) ck_B_passes ⟨⟨y_B_opaque, b_B_opaque, 1, jm_rt (some true), 0, by decide, con_B_opaque, lk_B_opaque _ _, rfl⟩, trivial⟩ (by decide) ?_
  intro σ as hl hr hs hp Q hQ
  obtain ⟨f, c, rfl⟩ := jm_a2 hl
  have hc : bw_cl c := hp
  refine jm_Ok.go 60 [] ?_
  refine ⟨fun h => ?_, fun h => ?_⟩
  · refine ⟨by omega, fun b hb _ _ => ⟨trivial, ?_⟩⟩
    rintro r _ - ⟨hr, rfl⟩
    refine ⟨fun h3 => ⟨by omega, hQ _ _ ⟨?_, rfl⟩⟩, fun h3 => ⟨by omega, hQ _ _ ⟨?_, rfl⟩⟩⟩ <;> unfold bw_ps <;> omega
  · refine ⟨by omega, fun b hb _ _ => ⟨fun h2 => ⟨by omega, hQ _ _ ⟨?_, rfl⟩⟩, fun h2 => ⟨by omega, hQ _ _ ⟨?_, rfl⟩⟩⟩⟩ <;> unfold bw_ps <;> omega
/-- only flags have changed, and only from 0 to 1; a lamp's flag comes with anyLamp -/
def bw_Fl (σ σ' : jm_S) : Prop := (∀ k, k ≠ 3 → k ≠ 9 → k ≠ 10 → σ' k = σ k) ∧ (∀ x, σ' 3 x = σ 3 x ∨ σ' 3 x = 1) ∧ (∀ x, σ' 9 x = σ 9 x ∨ (σ' 9 x = 1 ∧ σ' 10 0 = 1)) ∧ (σ' 10 0 = σ 10 0 ∨ σ' 10 0 = 1)
/-- the cell has been noticed -/
def bw_Sn (σ : jm_S) (n : Int) : Prop := (σ 0 n = 8 → σ 9 n = 1 ∧ σ 10 0 = 1) ∧ (σ 0 n = 7 → σ 3 n = 1)
theorem bw_Fl.rf (σ : jm_S) : bw_Fl σ σ := ⟨fun _ _ _ _ => rfl, fun _ => Or.inl rfl, fun _ => Or.inl rfl, Or.inl rfl⟩
theorem bw_Fl.tr {a b c : jm_S} (h : bw_Fl a b) (g : bw_Fl b c) : bw_Fl a c := by
  obtain ⟨h1, h2, h3, h4⟩ := h
  obtain ⟨g1, g2, g3, g4⟩ := g
  refine ⟨fun k a b c => (g1 k a b c).trans (h1 k a b c), fun x => ?_, fun x => ?_, ?_⟩
  · have := h2 x; have := g2 x; omega
  · have := h3 x; have := g3 x; omega
  · omega
theorem bw_Fl.sn {a b : jm_S} (h : bw_Fl a b) {n : Int} (g : bw_Sn a n) : bw_Sn b n := by
  obtain ⟨h1, h2, h3, h4⟩ := h
  have e := h1 0 (by decide) (by decide) (by decide)
  unfold bw_Sn at g ⊢
  rw [e]
  have := h2 n; have := h3 n
  omega
def sp_B_notice : jm_K := (false, 1, true, fun as _ => (match as with
  | [c] => bw_cl c
  | _ => False), fun as σ _ σ' => (match as with
  | [c] => bw_Fl σ σ' ∧ bw_Sn σ' c
  | _ => False))
def L_B_notice : List (Nat × jm_K) := []
set_option maxHeartbeats 4000000 in
set_option maxRecDepth 100000 in
theorem con_B_notice : jm_Con classes D_B 17 ks_B 0 y_B_notice b_B_notice 2 (jm_rt none) 0 sp_B_notice := by
  refine jm_con2 (L := L_B_notice) (code := k_B_notice) CF_B rfl (by decide) ck_B_notice trivial (by decide) ?_
  intro σ as hl hr hs hp Q hQ
  obtain ⟨c, rfl⟩ := jm_a1 hl
  have hc : bw_cl c := hp
  refine jm_Ok.go 60 [] ?_
  refine ⟨by omega, fun b hb _ _ => ⟨fun h => ?_, fun h => ?_⟩⟩
  · refine ⟨by omega, fun b2 hb2 _ _ => ⟨fun h2 => ?_, fun h2 => ?_⟩⟩
    · refine hQ _ _ ⟨bw_Fl.rf σ, ?_⟩
      unfold bw_Sn; omega
    · refine ⟨by omega, by omega, ?_⟩
      refine hQ _ _ ⟨⟨?_, ?_, ?_, ?_⟩, ?_⟩
      · intro k h3 h9 h10; simp [jm_up, h3, h9, h10]
      · intro x; simp [jm_up]; omega
      · intro x; simp [jm_up]
      · simp [jm_up]
      · simp [bw_Sn, jm_up]; omega
  · refine ⟨by omega, by omega, by omega, by omega, fun b2 hb2 _ _ => ⟨fun h2 => ?_, fun h2 => ?_⟩⟩
    · refine hQ _ _ ⟨⟨?_, ?_, ?_, ?_⟩, ?_⟩
      · intro k h3 h9 h10; simp [jm_up, h3, h9, h10]
      · intro x; simp [jm_up]
      · intro x; simp [jm_up]; omega
      · simp [jm_up]
      · simp [bw_Sn, jm_up]; omega
    · simp [jm_up] at hb2
      omega
def sp_B_touch : jm_K := (false, 2, true, fun as _ => (match as with
  | [f, c] => bw_cl c
  | _ => False), fun as σ _ σ' => (match as with
  | [f, c] => bw_Fl σ σ' ∧ (f ≠ 2 → σ' = σ) ∧ (f = 2 → ∀ n, bw_adj c n → bw_Sn σ' n)
  | _ => False))
def L_B_touch : List (Nat × jm_K) := [(58, sp_B_near), (100, sp_B_notice)]
set_option maxHeartbeats 4000000 in
set_option maxRecDepth 100000 in
theorem con_B_touch : jm_Con classes D_B 17 ks_B 0 y_B_touch b_B_touch 5 (jm_rt none) 1 sp_B_touch := by
  refine jm_con2 (L := L_B_touch) (code := k_B_touch) CF_B rfl (by decide) ck_B_touch ⟨⟨y_B_near, b_B_near, 2, jm_rt (some false), 0, by decide, con_B_near, lk_B_near _ _, rfl⟩, ⟨y_B_notice, b_B_notice, 2, jm_rt none, 0, by decide, con_B_notice, lk_B_notice _ _, rfl⟩, trivial⟩ (by decide) ?_
  intro σ as hl hr hs hp Q hQ
  obtain ⟨f, c, rfl⟩ := jm_a2 hl
  have hc : bw_cl c := hp
  have loop : f = 2 → ∀ (n : Nat) (d : Int) (l4 : Option jm_V) (τ : jm_S), 0 ≤ d → d + n = 6 → bw_Fl σ τ → (∀ e, (0 ≤ e ∧ e < d) → 0 ≤ bw_nb c e → bw_Sn τ (bw_nb c e)) → jm_Ok D_B fi_B (jm_look L_B_touch) k_B_touch none Q 8 [some (.inr none), some (.inl f), some (.inl c), some (.inl d), l4] [] τ := by
    intro hf n
    induction n with
    | zero =>
      intro d l4 τ h0 h1 h2 h3
      refine jm_Ok.go 60 [] ?_
      refine ⟨fun _ => ?_, fun _ => by omega⟩
      refine hQ _ _ ⟨h2, fun q => absurd hf q, fun _ n hn => ?_⟩
      obtain ⟨d', hd', rfl, h0'⟩ := hn
      exact h3 d' (by omega) h0'
    | succ n ih =>
      intro d l4 τ h0 h1 h2 h3
      refine jm_Ok.go 60 [8] ?_
      refine ⟨fun _ => by omega, fun _ => ⟨⟨hc, by omega⟩, ?_⟩⟩
      rintro k _ - ⟨rfl, rfl⟩
      have hk := bw_nb_rg hc (show 0 ≤ d ∧ d < 6 by omega)
      refine ⟨fun hk0 => ?_, fun hk0 => ?_⟩
      · refine ⟨by omega, ih (d + 1) _ _ (by omega) (by omega) h2 ?_⟩
        intro e he q
        by_cases hed : e = d
        · subst hed; omega
        · exact h3 e (by omega) q
      · refine ⟨⟨hk0, by omega⟩, ?_⟩
        rintro _ τ' - ⟨g1, g2⟩
        refine ⟨by omega, ih (d + 1) _ _ (by omega) (by omega) (h2.tr g1) ?_⟩
        intro e he q
        by_cases hed : e = d
        · subst hed; exact g2
        · exact g1.sn (h3 e (by omega) q)
  refine jm_Ok.go 60 [8] ?_
  refine ⟨fun h => ?_, fun h => ?_⟩
  · exact loop h 6 0 _ _ (by omega) (by omega) (bw_Fl.rf σ) (fun e he => by omega)
  · exact hQ _ _ ⟨bw_Fl.rf σ, fun _ => rfl, fun q => absurd q h⟩
end
section
/-! drop, raise, give -/
def bw_F (σ : jm_S) (f : Int) : Int → Int := fun c => σ 4 (384 * f + c)
/-- what a change of fields may do besides: only flags, the fields and their workings change; where a power changes the neighbours are noticed -/
def bw_Ev (σ σ' : jm_S) : Prop := (∀ k, k ≠ 3 → k ≠ 4 → k ≠ 5 → k ≠ 6 → k ≠ 7 → k ≠ 8 → k ≠ 9 → k ≠ 10 → σ' k = σ k) ∧ (∀ x, σ' 3 x = σ 3 x ∨ σ' 3 x = 1) ∧ (∀ x, σ' 9 x = σ 9 x ∨ (σ' 9 x = 1 ∧ σ' 10 0 = 1)) ∧ (σ' 10 0 = σ 10 0 ∨ σ' 10 0 = 1) ∧ (∀ c, bw_cl c → bw_F σ' 2 c ≠ bw_F σ 2 c → ∀ n, bw_adj c n → bw_Sn σ' n)
def bw_Ot (f : Int) (σ σ' : jm_S) : Prop := ∀ g c, (0 ≤ g ∧ g ≤ 2) → g ≠ f → bw_cl c → bw_F σ' g c = bw_F σ g c
theorem bw_Ev.rf (σ : jm_S) : bw_Ev σ σ := ⟨fun _ _ _ _ _ _ _ _ _ => rfl, fun _ => Or.inl rfl, fun _ => Or.inl rfl, Or.inl rfl, fun _ _ h => absurd rfl h⟩
theorem bw_Ev.at0 {a b : jm_S} (h : bw_Ev a b) : b 0 = a 0 := h.1 0 (by decide) (by decide) (by decide) (by decide) (by decide) (by decide) (by decide) (by decide)
theorem bw_Ev.at2 {a b : jm_S} (h : bw_Ev a b) : b 2 = a 2 := h.1 2 (by decide) (by decide) (by decide) (by decide) (by decide) (by decide) (by decide) (by decide)
theorem bw_Ev.at11 {a b : jm_S} (h : bw_Ev a b) : b 11 = a 11 := h.1 11 (by decide) (by decide) (by decide) (by decide) (by decide) (by decide) (by decide) (by decide)
theorem bw_Ev.sn {a b : jm_S} (h : bw_Ev a b) {n : Int} (g : bw_Sn a n) : bw_Sn b n := by
  have e := h.at0
  obtain ⟨h1, h2, h3, h4, h5⟩ := h
  unfold bw_Sn at g ⊢
  rw [e]
  have := h2 n; have := h3 n
  omega
theorem bw_Ev.tr {a b c : jm_S} (h : bw_Ev a b) (g : bw_Ev b c) : bw_Ev a c := by
  have hs := @bw_Ev.sn _ _ g
  obtain ⟨h1, h2, h3, h4, h5⟩ := h
  obtain ⟨g1, g2, g3, g4, g5⟩ := g
  refine ⟨fun k a b c d e f g h => (g1 k a b c d e f g h).trans (h1 k a b c d e f g h), fun x => ?_, fun x => ?_, ?_, fun x hx hne n hn => ?_⟩
  · have := h2 x; have := g2 x; omega
  · have := h3 x; have := g3 x; omega
  · omega
  · by_cases q : bw_F b 2 x = bw_F a 2 x
    · exact g5 x hx (by rw [q]; exact hne) n hn
    · exact hs (h5 x hx q n hn)
theorem bw_Ot.rf (f : Int) (σ : jm_S) : bw_Ot f σ σ := fun _ _ _ _ _ => rfl
theorem bw_Ot.tr {f : Int} {a b c : jm_S} (h : bw_Ot f a b) (g : bw_Ot f b c) : bw_Ot f a c := fun x y h1 h2 h3 => (g x y h1 h2 h3).trans (h x y h1 h2 h3)
theorem bw_Ev_of {f c : Int} {σ σ1 σ' : jm_S} (h : ∀ k, k ≠ 4 → k ≠ 5 → k ≠ 6 → k ≠ 7 → k ≠ 8 → σ1 k = σ k) (hF : ∀ x, bw_cl x → bw_F σ1 2 x ≠ bw_F σ 2 x → f = 2 ∧ x = c) (hfl : bw_Fl σ1 σ') (hsn : f = 2 → ∀ n, bw_adj c n → bw_Sn σ' n) : bw_Ev σ σ' := by
  obtain ⟨g1, g2, g3, g4⟩ := hfl
  have e3 := h 3 (by decide) (by decide) (by decide) (by decide) (by decide)
  have e9 := h 9 (by decide) (by decide) (by decide) (by decide) (by decide)
  have e10 := h 10 (by decide) (by decide) (by decide) (by decide) (by decide)
  have e4 := g1 4 (by decide) (by decide) (by decide)
  refine ⟨fun k a3 a4 a5 a6 a7 a8 a9 a10 => (g1 k a3 a9 a10).trans (h k a4 a5 a6 a7 a8), fun x => ?_, fun x => ?_, ?_, fun x hx hne n hn => ?_⟩
  · rw [← e3]; exact g2 x
  · rw [← e9]; exact g3 x
  · rw [← e10]; exact g4
  · obtain ⟨q1, rfl⟩ := hF x hx (by unfold bw_F at hne ⊢; rw [e4] at hne; exact hne)
    exact hsn q1 n hn
def sp_B_drop : jm_K := (false, 2, true, fun as σ => (match as with
  | [f, c] => (0 ≤ f ∧ f ≤ 2) ∧ bw_cl c ∧ (bw_F σ f c ≠ 0 → σ 8 0 ≤ 383)
  | _ => False), fun as σ _ σ' => (match as with
  | [f, c] => bw_Ev σ σ' ∧ bw_Ot f σ σ' ∧ σ' 5 = σ 5 ∧ (bw_F σ f c = 0 → σ' = σ) ∧ (bw_F σ f c ≠ 0 → (∀ x, bw_F σ' f x = if x = c then 0 else bw_F σ f x) ∧ σ' 8 0 = σ 8 0 + 1 ∧ (∀ i, σ' 6 i = if i = σ 8 0 then c else σ 6 i) ∧ ∀ i, σ' 7 i = if i = σ 8 0 then bw_F σ f c else σ 7 i)
  | _ => False))
def L_B_drop : List (Nat × jm_K) := [(81, sp_B_touch)]
set_option maxHeartbeats 4000000 in
set_option maxRecDepth 100000 in
theorem con_B_drop : jm_Con classes D_B 17 ks_B 0 y_B_drop b_B_drop 4 (jm_rt none) 2 sp_B_drop := by
  refine jm_con2 (L := L_B_drop) (code := k_B_drop) CF_B rfl (by decide) ck_B_drop ⟨⟨y_B_touch, b_B_touch, 5, jm_rt none, 1, by decide, con_B_touch, lk_B_touch _ _, rfl⟩, trivial⟩ (by decide) ?_
  intro σ as hl hr hs hp Q hQ
  obtain ⟨f, c, rfl⟩ := jm_a2 hl
  obtain ⟨hf, hc, ht⟩ := hp
  refine jm_Ok.go 60 [] ?_
  refine ⟨by omega, by omega, by omega, fun v hv _ _ => ⟨fun h => ?_, fun h => ?_⟩⟩
  · have h0 : bw_F σ f c ≠ 0 := by show σ 4 (384 * f + c) ≠ 0; omega
    have ht := ht h0
    refine fun t ht1 ht2 _ => ⟨by omega, fun w hw _ _ => ⟨by omega, by omega, ?_⟩⟩
    refine fun t2 ht3 _ _ => ?_
    simp [jm_up] at ht3
    refine ⟨by omega, by omega, by omega, by omega, by omega, by omega, by omega, hc, ?_⟩
    rintro _ σ' - ⟨g1, g2, g3⟩
    have hE : bw_Ev σ σ' := by
      refine bw_Ev_of (f := f) (c := c) ?_ ?_ g1 g3
      · intro k a4 a5 a6 a7 a8; simp [jm_up, a4, a6, a7, a8]
      · intro x hx; simp [jm_up, bw_F]; omega
    have e4 := g1.1 4 (by decide) (by decide) (by decide)
    have e5 := g1.1 5 (by decide) (by decide) (by decide)
    have e6 := g1.1 6 (by decide) (by decide) (by decide)
    have e7 := g1.1 7 (by decide) (by decide) (by decide)
    have e8 := g1.1 8 (by decide) (by decide) (by decide)
    refine hQ _ _ ⟨hE, ?_, ?_, fun q => absurd q h0, fun _ => ⟨?_, ?_, ?_, ?_⟩⟩
    · intro g x hg hne hx
      unfold bw_F
      rw [e4]
      simp [jm_up]
      omega
    · rw [e5]; simp [jm_up]
    · intro x
      unfold bw_F
      rw [e4]
      simp [jm_up]
    · rw [e8]; simp [jm_up]; omega
    · intro i
      rw [e6]; simp [jm_up]
      subst ht3
      subst ht1
      rfl
    · intro i
      rw [e7]; simp [jm_up, bw_F]
      subst ht1
      rw [hw]
  · have h0 : bw_F σ f c = 0 := by show σ 4 (384 * f + c) = 0; omega
    exact hQ _ _ ⟨bw_Ev.rf σ, bw_Ot.rf f σ, rfl, fun _ => rfl, fun q => absurd h0 q⟩
def sp_B_raise : jm_K := (false, 2, true, fun as σ => (match as with
  | [f, c] => (0 ≤ f ∧ f ≤ 2) ∧ bw_cl c
  | _ => False), fun as σ _ σ' => (match as with
  | [f, c] => bw_Ev σ σ' ∧ bw_Ot f σ σ' ∧ σ' 6 = σ 6 ∧ σ' 7 = σ 7 ∧ σ' 8 = σ 8 ∧ (∀ x, bw_F σ' f x = if x = c ∧ bw_F σ f c < bw_bp (σ 0) (σ 2) (σ 11) f c then bw_bp (σ 0) (σ 2) (σ 11) f c else bw_F σ f x) ∧ (∀ x, σ' 5 x = if x = c ∧ bw_F σ f c < bw_bp (σ 0) (σ 2) (σ 11) f c then 1 else σ 5 x)
  | _ => False))
def L_B_raise : List (Nat × jm_K) := [(91, sp_B_passes), (94, sp_B_begins), (81, sp_B_touch)]
set_option maxHeartbeats 4000000 in
set_option maxRecDepth 100000 in
theorem con_B_raise : jm_Con classes D_B 17 ks_B 0 y_B_raise b_B_raise 5 (jm_rt none) 3 sp_B_raise := by
  refine jm_con2 (L := L_B_raise) (code := k_B_raise) CF_B rfl (by decide) ck_B_raise ⟨⟨y_B_passes, b_B_passes, 3, jm_rt (some true), 1, by decide, con_B_passes, lk_B_passes _ _, rfl⟩, ⟨y_B_begins, b_B_begins, 3, jm_rt (some false), 2, by decide, con_B_begins, lk_B_begins _ _, rfl⟩, ⟨y_B_touch, b_B_touch, 5, jm_rt none, 1, by decide, con_B_touch, lk_B_touch _ _, rfl⟩, trivial⟩ (by decide) ?_
  intro σ as hl hr hs hp Q hQ
  obtain ⟨f, c, rfl⟩ := jm_a2 hl
  obtain ⟨hf, hc⟩ := hp
  have key : ∀ (l3 l4 : Option jm_V) (v : Int), v = bw_bp (σ 0) (σ 2) (σ 11) f c → jm_Ok D_B fi_B (jm_look L_B_raise) k_B_raise none Q 19 [some (.inr none), some (.inl f), some (.inl c), l3, l4] [.inl v] σ := by
    intro l3 l4 v hv
    have hrg := bw_bp_rg (σ 0) (σ 2) (σ 11) f c
    rw [← hv] at hrg
    refine jm_Ok.go 60 [] ?_
    refine ⟨by omega, by omega, by omega, fun w hw _ _ => ⟨fun h => ?_, fun h => ?_⟩⟩
    · refine ⟨by omega, by omega, by omega, by omega, by omega, hc, ?_⟩
      rintro _ σ' - ⟨g1, g2, g3⟩
      have h0 : bw_F σ f c < v := by show σ 4 (384 * f + c) < v; omega
      have hE : bw_Ev σ σ' := by
        refine bw_Ev_of (f := f) (c := c) ?_ ?_ g1 g3
        · intro k a4 a5 a6 a7 a8; simp [jm_up, a4, a5]
        · intro x hx; simp [jm_up, bw_F]; omega
      have e4 := g1.1 4 (by decide) (by decide) (by decide)
      have e5 := g1.1 5 (by decide) (by decide) (by decide)
      have e6 := g1.1 6 (by decide) (by decide) (by decide)
      have e7 := g1.1 7 (by decide) (by decide) (by decide)
      have e8 := g1.1 8 (by decide) (by decide) (by decide)
      refine hQ _ _ ⟨hE, ?_, ?_, ?_, ?_, ?_, ?_⟩
      · intro g x hg hne hx
        unfold bw_F
        rw [e4]
        simp [jm_up]
        omega
      · rw [e6]; simp [jm_up]
      · rw [e7]; simp [jm_up]
      · rw [e8]; simp [jm_up]
      · intro x
        rw [← hv]
        by_cases hx : x = c
        · rw [if_pos ⟨hx, h0⟩, hx, bw_F, e4]; simp [jm_up]
        · rw [if_neg (fun q => hx q.1), bw_F, e4]; simp [jm_up, bw_F]; intro q; omega
      · intro x
        rw [← hv, e5]
        by_cases hx : x = c
        · rw [if_pos ⟨hx, h0⟩, hx]; simp [jm_up]
        · rw [if_neg (fun q => hx q.1)]; simp [jm_up, hx]
    · have h0 : ¬ bw_F σ f c < v := by show ¬ σ 4 (384 * f + c) < v; omega
      refine hQ _ _ ⟨bw_Ev.rf σ, bw_Ot.rf f σ, rfl, rfl, rfl, fun x => ?_, fun x => ?_⟩
      · rw [← hv, if_neg (fun q => h0 q.2)]
      · rw [← hv, if_neg (fun q => h0 q.2)]
  refine jm_Ok.go 60 [19] ?_
  refine ⟨hc, ?_⟩
  rintro r _ - ⟨hr, rfl⟩
  refine ⟨fun h => ?_, fun h => ⟨⟨hf, hc⟩, ?_⟩⟩
  · refine key _ _ _ ?_
    rw [bw_bp_0]
    rcases hr with ⟨e, -⟩ | ⟨-, e⟩
    · omega
    · exact e
  · rintro v _ - ⟨hv, rfl⟩
    refine key _ _ _ ?_
    rw [hv, bw_bp_1]
    rcases hr with ⟨-, e⟩ | ⟨e, -⟩
    · exact e
    · omega
/-- a neighbour that the cell c, with w + 1, raises to w -/
def bw_gv (B : Int → Int) (F : Int → Int) (f c w x : Int) : Prop := bw_adj c x ∧ bw_ps B f x ∧ F x < w
def sp_B_give : jm_K := (false, 2, true, fun as σ => (match as with
  | [f, c] => (0 ≤ f ∧ f ≤ 2) ∧ bw_cl c
  | _ => False), fun as σ _ σ' => (match as with
  | [f, c] => bw_Ev σ σ' ∧ bw_Ot f σ σ' ∧ σ' 6 = σ 6 ∧ σ' 7 = σ 7 ∧ σ' 8 = σ 8 ∧ (∀ x, bw_cl x → bw_gv (σ 0) (bw_F σ f) f c (bw_F σ f c - 1) x → bw_F σ' f x = bw_F σ f c - 1 ∧ σ' 5 x = 1) ∧ (∀ x, bw_cl x → ¬ bw_gv (σ 0) (bw_F σ f) f c (bw_F σ f c - 1) x → bw_F σ' f x = bw_F σ f x ∧ σ' 5 x = σ 5 x)
  | _ => False))
def L_B_give : List (Nat × jm_K) := [(58, sp_B_near), (91, sp_B_passes), (81, sp_B_touch)]
set_option maxHeartbeats 4000000 in
set_option maxRecDepth 100000 in
theorem con_B_give : jm_Con classes D_B 17 ks_B 0 y_B_give b_B_give 6 (jm_rt none) 2 sp_B_give := by
  refine jm_con2 (L := L_B_give) (code := k_B_give) CF_B rfl (by decide) ck_B_give ⟨⟨y_B_near, b_B_near, 2, jm_rt (some false), 0, by decide, con_B_near, lk_B_near _ _, rfl⟩, ⟨y_B_passes, b_B_passes, 3, jm_rt (some true), 1, by decide, con_B_passes, lk_B_passes _ _, rfl⟩, ⟨y_B_touch, b_B_touch, 5, jm_rt none, 1, by decide, con_B_touch, lk_B_touch _ _, rfl⟩, trivial⟩ (by decide) ?_
  intro σ as hl hr hs hp Q hQ
  obtain ⟨f, c, rfl⟩ := jm_a2 hl
  obtain ⟨hf, hc⟩ := hp
  have hFc := hs 4 (384 * f + c) (by omega) (Or.inl (by show _ < (1152 : Int); omega))
  have hFc1 : 0 ≤ bw_F σ f c := hFc.1
  have hFc2 : bw_F σ f c ≤ 15 := hFc.2
  obtain ⟨w, hw⟩ : ∃ w, w = bw_F σ f c - 1 := ⟨_, rfl⟩
  have loop : ∀ (n : Nat) (d : Int) (l5 : Option jm_V) (τ : jm_S), 0 ≤ d → d + n = 6 → bw_Ev σ τ → bw_Ot f σ τ → τ 6 = σ 6 → τ 7 = σ 7 → τ 8 = σ 8 → (∀ x, bw_cl x → (bw_F τ f x = bw_F σ f x ∧ τ 5 x = σ 5 x ∧ (bw_gv (σ 0) (bw_F σ f) f c w x → ∀ e, (0 ≤ e ∧ e < d) → bw_nb c e ≠ x)) ∨ (bw_gv (σ 0) (bw_F σ f) f c w x ∧ bw_F τ f x = w ∧ τ 5 x = 1)) → jm_Ok D_B fi_B (jm_look L_B_give) k_B_give none Q 18 [some (.inr none), some (.inl f), some (.inl c), some (.inl w), some (.inl d), l5] [] τ := by
    intro n
    induction n with
    | zero =>
      intro d l5 τ h0 h1 hE hO e6 e7 e8 hx
      refine jm_Ok.go 60 [] ?_
      refine ⟨fun _ => ?_, fun _ => by omega⟩
      refine hQ _ _ ⟨hE, hO, e6, e7, e8, fun x hcx hg => ?_, fun x hcx hg => ?_⟩
      · rw [← hw] at hg ⊢
        rcases hx x hcx with ⟨a, b, c'⟩ | ⟨a, b, c'⟩
        · obtain ⟨⟨d', hd', hd2, hd3⟩, q2, q3⟩ := id hg
          exact absurd hd2 (c' hg d' (by omega))
        · exact ⟨b, c'⟩
      · rw [← hw] at hg
        rcases hx x hcx with ⟨a, b, c'⟩ | ⟨a, b, c'⟩
        · exact ⟨a, b⟩
        · exact absurd a hg
    | succ n ih =>
      intro d l5 τ h0 h1 hE hO e6 e7 e8 hx
      have eB := hE.at0
      have hk := bw_nb_rg hc (show 0 ≤ d ∧ d < 6 by omega)
      refine jm_Ok.go 60 [98] ?_
      refine ⟨fun _ => by omega, fun _ => ⟨⟨hc, by omega⟩, ?_⟩⟩
      rintro k τ - ⟨rfl, rfl⟩
      have next : ∀ τ', bw_Ev σ τ' → bw_Ot f σ τ' → τ' 6 = σ 6 → τ' 7 = σ 7 → τ' 8 = σ 8 → (∀ x, bw_cl x → (bw_F τ' f x = bw_F σ f x ∧ τ' 5 x = σ 5 x ∧ (bw_gv (σ 0) (bw_F σ f) f c w x → ∀ e, (0 ≤ e ∧ e < d + 1) → bw_nb c e ≠ x)) ∨ (bw_gv (σ 0) (bw_F σ f) f c w x ∧ bw_F τ' f x = w ∧ τ' 5 x = 1)) → jm_Ok D_B fi_B (jm_look L_B_give) k_B_give none Q 98 [some (.inr none), some (.inl f), some (.inl c), some (.inl w), some (.inl d), some (.inl (bw_nb c d))] [] τ' := by
        intro τ' a b c1 d1 e1 f1
        refine jm_Ok.go 60 [18] ?_
        exact ⟨by omega, ih (d + 1) _ _ (by omega) (by omega) a b c1 d1 e1 f1⟩
      have skip : (0 ≤ bw_nb c d → ¬ (bw_ps (σ 0) f (bw_nb c d) ∧ bw_F τ f (bw_nb c d) < w)) → jm_Ok D_B fi_B (jm_look L_B_give) k_B_give none Q 98 [some (.inr none), some (.inl f), some (.inl c), some (.inl w), some (.inl d), some (.inl (bw_nb c d))] [] τ := by
        intro hn
        refine next τ hE hO e6 e7 e8 fun x hcx => ?_
        rcases hx x hcx with ⟨a, b, c'⟩ | q
        · refine Or.inl ⟨a, b, fun hg e he => ?_⟩
          by_cases hed : e = d
          · subst hed
            intro q
            subst q
            exact hn hcx.1 ⟨hg.2.1, by rw [a]; exact hg.2.2⟩
          · exact c' hg e (by omega)
        · exact Or.inr q
      refine ⟨fun hk0 => skip (fun q => by omega), fun hk0 => ?_⟩
      refine ⟨by omega, by omega, by omega, fun v hv _ _ => ⟨fun h => ?_, fun h => ?_⟩⟩
      · refine skip (fun _ q => ?_)
        have := q.2
        unfold bw_F at this
        omega
      · refine ⟨⟨hk0, by omega⟩, ?_⟩
        rintro r τ - ⟨hr, rfl⟩
        rw [eB] at hr
        refine ⟨fun hr0 => ?_, fun hr0 => ?_⟩
        · have hps : bw_ps (σ 0) f (bw_nb c d) := by
            rcases hr with ⟨-, e⟩ | ⟨e, -⟩
            · exact e
            · omega
          have hg : bw_gv (σ 0) (bw_F σ f) f c w (bw_nb c d) := by
            rcases hx (bw_nb c d) ⟨hk0, by omega⟩ with ⟨a, b, c'⟩ | ⟨a, b, c'⟩
            · refine ⟨bw_adj_of (by omega) hk0, hps, ?_⟩
              rw [← a]; show τ 4 (384 * f + bw_nb c d) < w; omega
            · exact a
          refine ⟨by omega, by omega, by omega, by omega, by omega, by omega, by omega, ⟨hk0, by omega⟩, ?_⟩
          rintro _ τ' - ⟨g1, g2, g3⟩
          have f4 := g1.1 4 (by decide) (by decide) (by decide)
          have f5 := g1.1 5 (by decide) (by decide) (by decide)
          have f6 := g1.1 6 (by decide) (by decide) (by decide)
          have f7 := g1.1 7 (by decide) (by decide) (by decide)
          have f8 := g1.1 8 (by decide) (by decide) (by decide)
          refine next τ' (hE.tr ?_) (hO.tr ?_) ?_ ?_ ?_ fun x hcx => ?_
          · refine bw_Ev_of (f := f) (c := bw_nb c d) ?_ ?_ g1 g3
            · intro k a4 a5 a6 a7 a8; simp [jm_up, a4, a5]
            · intro x hx; simp [jm_up, bw_F]; omega
          · intro g x hg hne hx
            unfold bw_F
            rw [f4]
            simp [jm_up]
            omega
          · rw [f6]; simp [jm_up, e6]
          · rw [f7]; simp [jm_up, e7]
          · rw [f8]; simp [jm_up, e8]
          · by_cases hxk : x = bw_nb c d
            · subst hxk
              refine Or.inr ⟨hg, ?_, ?_⟩
              · unfold bw_F; rw [f4]; simp [jm_up]
              · rw [f5]; simp [jm_up]
            · have q1 : bw_F τ' f x = bw_F τ f x := by
                unfold bw_F; rw [f4]; simp [jm_up]; intro q; omega
              have q2 : τ' 5 x = τ 5 x := by rw [f5]; simp [jm_up, hxk]
              rw [q1, q2]
              rcases hx x hcx with ⟨a, b, c'⟩ | q
              · refine Or.inl ⟨a, b, fun hg e he => ?_⟩
                by_cases hed : e = d
                · subst hed; exact fun q => hxk q.symm
                · exact c' hg e (by omega)
              · exact Or.inr q
        · refine skip (fun _ q => ?_)
          rcases hr with ⟨e, -⟩ | ⟨-, e⟩
          · omega
          · exact e q.1
  refine jm_Ok.go 60 [18] ?_
  refine ⟨by omega, by omega, by omega, fun v hv _ _ => ⟨by omega, ?_⟩⟩
  have ew : w = v - 1 := by rw [hw, hv]; rfl
  rw [← ew]
  exact loop 6 0 _ σ (by omega) (by omega) (bw_Ev.rf σ) (bw_Ot.rf f σ) rfl rfl rfl (fun x _ => Or.inl ⟨rfl, rfl, fun _ e he => by omega⟩)
end
section
/-! unspread -/
/-- the field as it was before the cell that was dropped ahead of unspread -/
def bw_F0 (σ : jm_S) (f : Int) : Int → Int := fun x => if σ 8 0 = 1 ∧ x = σ 6 0 then σ 7 0 else bw_F σ f x
def bw_UI (σ : jm_S) (f : Int) : Prop := σ 8 0 = 0 ∨ (σ 8 0 = 1 ∧ bw_cl (σ 6 0) ∧ 0 < σ 7 0 ∧ bw_F σ f (σ 6 0) = 0)
/-- the first loop's invariant -/
def bw_UV (σ τ : jm_S) (f i : Int) : Prop :=
  bw_Ev σ τ ∧ bw_Ot f σ τ ∧ (0 ≤ i ∧ i ≤ τ 8 0 ∧ τ 8 0 ≤ 384) ∧
  (∀ j, 0 ≤ j → j < τ 8 0 → bw_cl (τ 6 j) ∧ τ 7 j = bw_F0 σ f (τ 6 j) ∧ 0 < bw_F0 σ f (τ 6 j) ∧ bw_F τ f (τ 6 j) = 0) ∧
  (∀ x, bw_cl x → bw_F τ f x = bw_F0 σ f x ∨ (bw_F τ f x = 0 ∧ 0 < bw_F0 σ f x ∧ ∃ j, 0 ≤ j ∧ j < τ 8 0 ∧ τ 6 j = x)) ∧
  τ 8 0 = bw_cnt (fun x => decide (bw_F τ f x ≠ bw_F0 σ f x)) 384 ∧
  (∀ j, 0 ≤ j → j < i → ∀ n, bw_adj (τ 6 j) n → bw_F τ f n = 0 ∨ (τ 7 j ≤ bw_F τ f n ∧ τ 5 n = 1)) ∧
  (σ 8 0 = 1 → 1 ≤ τ 8 0 ∧ τ 6 0 = σ 6 0)
theorem bw_UV_ini {σ : jm_S} {f : Int} (h : bw_UI σ f) : bw_UV σ σ f 0 := by
  refine ⟨bw_Ev.rf σ, bw_Ot.rf f σ, ?_, ?_, ?_, ?_, fun j a b => by omega, ?_⟩
  · rcases h with h | h <;> omega
  · intro j h0 h1
    rcases h with h | ⟨h2, h3, h4, h5⟩
    · omega
    · have : j = 0 := by omega
      subst this
      have e : bw_F0 σ f (σ 6 0) = σ 7 0 := if_pos ⟨h2, rfl⟩
      rw [e]
      exact ⟨h3, rfl, h4, h5⟩
  · intro x hx
    by_cases q : σ 8 0 = 1 ∧ x = σ 6 0
    · have e : bw_F0 σ f x = σ 7 0 := if_pos q
      rw [e]
      rcases h with h | ⟨h2, h3, h4, h5⟩
      · omega
      · refine Or.inr ⟨by rw [q.2]; exact h5, h4, 0, by omega, by omega, q.2.symm⟩
    · exact Or.inl (by unfold bw_F0; rw [if_neg q])
  · rcases h with h | ⟨h2, h3, h4, h5⟩
    · rw [h, bw_cnt_none]
      intro i _ _
      have e : bw_F0 σ f i = bw_F σ f i := if_neg (by omega)
      simp [e]
    · have e1 := bw_cnt_set (p := fun _ => false) (q := fun x => decide (bw_F σ f x ≠ bw_F0 σ f x)) (c := σ 6 0) 384 (fun i _ _ hne => by
        have e : bw_F0 σ f i = bw_F σ f i := if_neg (fun q => hne q.2)
        simp [e]) h3.1 h3.2
      have e2 : bw_F0 σ f (σ 6 0) = σ 7 0 := if_pos ⟨h2, rfl⟩
      rw [bw_cnt_none 384 (fun _ _ _ => rfl), if_pos (by rw [e2, h5]; simp; omega), if_neg (by decide)] at e1
      omega
  · intro q; exact ⟨by omega, rfl⟩
theorem bw_UV_room {σ τ : jm_S} {f i k : Int} (h : bw_UV σ τ f i) (hk : bw_cl k) (hF : bw_F τ f k ≠ 0) : τ 8 0 ≤ 383 := by
  obtain ⟨h1, h2, h3, h4, h5, h6, h7⟩ := h
  rcases h5 k hk with q | q
  · have := bw_cnt_lt (p := fun x => decide (bw_F τ f x ≠ bw_F0 σ f x)) (n := 384) hk.1 hk.2 (by simp [q])
    rw [← h6] at this
    omega
  · exact absurd q.1 hF
theorem bw_UV_drop {σ τ τ' : jm_S} {f i k : Int} (h : bw_UV σ τ f i) (hs : jm_okS D_B τ) (hf : 0 ≤ f ∧ f ≤ 2) (hk : bw_cl k) (hF : bw_F τ f k ≠ 0) (hd : sp_B_drop.2.2.2.2 [f, k] τ 0 τ') : bw_UV σ τ' f i := by
  have hr := bw_UV_room h hk hF
  obtain ⟨h1, h2, h3, h4, h5, h6, h7, h8⟩ := h
  obtain ⟨d1, d2, d3, -, d5⟩ := hd
  obtain ⟨g1, g2, g3, g4⟩ := d5 hF
  have hk0 : bw_F τ f k = bw_F0 σ f k := by
    rcases h5 k hk with q | q
    · exact q
    · exact absurd q.1 hF
  have hk1 : 0 < bw_F0 σ f k := by
    have := (hs 4 (384 * f + k) (by omega) (Or.inl (by show _ < (1152 : Int); omega))).1
    have : 0 ≤ bw_F τ f k := this
    omega
  refine ⟨h1.tr d1, h2.tr d2, by omega, ?_, ?_, ?_, ?_, ?_⟩
  · intro j j0 j1
    rw [g1, g3, g4]
    by_cases hj : j = τ 8 0
    · rw [if_pos hj, if_pos hj, if_pos rfl]
      exact ⟨hk, hk0, hk1, rfl⟩
    · rw [if_neg hj, if_neg hj]
      obtain ⟨a, b, c, d⟩ := h4 j j0 (by omega)
      refine ⟨a, b, c, ?_⟩
      split
      · rfl
      · exact d
  · intro x hx
    rw [g1]
    by_cases hxk : x = k
    · subst hxk
      rw [if_pos rfl]
      exact Or.inr ⟨rfl, hk1, τ 8 0, by omega, by omega, by rw [g3, if_pos rfl]⟩
    · rw [if_neg hxk]
      rcases h5 x hx with q | ⟨a, b, j, c, d, e⟩
      · exact Or.inl q
      · exact Or.inr ⟨a, b, j, c, by omega, by rw [g3, if_neg (by omega)]; exact e⟩
  · have e1 := bw_cnt_set (p := fun x => decide (bw_F τ f x ≠ bw_F0 σ f x)) (q := fun x => decide (bw_F τ' f x ≠ bw_F0 σ f x)) (c := k) 384 (fun i _ _ hne => by
      rw [g1, if_neg hne]) hk.1 hk.2
    rw [if_pos (by rw [g1, if_pos rfl]; simp; omega), if_neg (by simp [hk0])] at e1
    omega
  · intro j j0 j1 n hn
    rw [g3, if_neg (by omega)] at hn
    rw [g4, if_neg (by omega), g1, d3]
    split
    · exact Or.inl rfl
    · exact h7 j j0 j1 n hn
  · intro q
    have := h8 q
    rw [g3, if_neg (by omega)]
    exact ⟨by omega, this.2⟩
theorem bw_UV_mark {σ τ : jm_S} {f i k : Int} (h : bw_UV σ τ f i) : bw_UV σ (jm_up τ 5 k 1) f i := by
  obtain ⟨h1, h2, h3, h4, h5, h6, h7, h8⟩ := h
  refine ⟨?_, h2, h3, h4, h5, h6, ?_, h8⟩
  · obtain ⟨a, b, c, d, e⟩ := h1
    exact ⟨fun k h3 h4 h5 h6 h7 h8 h9 h10 => by rw [← a k h3 h4 h5 h6 h7 h8 h9 h10]; simp [jm_up, h5], b, c, d, e⟩
  · intro j j0 j1 n hn
    rcases h7 j j0 j1 n hn with q | q
    · exact Or.inl q
    · refine Or.inr ⟨q.1, ?_⟩
      simp [jm_up, q.2]
/-- what unspread leaves: T, the cells that were taken back -/
def bw_UO (σ σ' : jm_S) (f : Int) : Prop :=
  bw_Ev σ σ' ∧ bw_Ot f σ σ' ∧ σ' 8 0 = 0 ∧ ∃ T : Int → Prop, (∀ x, bw_cl x → T x → 0 < bw_F0 σ f x ∧ bw_F σ' f x = bw_bp (σ 0) (σ 2) (σ 11) f x ∧ (0 < bw_bp (σ 0) (σ 2) (σ 11) f x → σ' 5 x = 1)) ∧
    (∀ x, bw_cl x → ¬ T x → bw_F σ' f x = bw_F0 σ f x) ∧ (∀ x, bw_cl x → T x → ∀ n, bw_adj x n → T n ∨ bw_F0 σ f n = 0 ∨ (bw_F0 σ f x ≤ bw_F0 σ f n ∧ σ' 5 n = 1)) ∧ (σ 8 0 = 1 → T (σ 6 0))
def sp_B_unspread : jm_K := (false, 1, true, fun as σ => (match as with
  | [f] => (0 ≤ f ∧ f ≤ 2) ∧ bw_UI σ f
  | _ => False), fun as σ _ σ' => (match as with
  | [f] => bw_UO σ σ' f
  | _ => False))
/-- the second loop's invariant -/
def bw_U2 (σ τ ρ : jm_S) (f i : Int) : Prop := bw_Ev τ ρ ∧ bw_Ot f τ ρ ∧ ρ 6 = τ 6 ∧ ρ 8 = τ 8 ∧ (0 ≤ i ∧ i ≤ τ 8 0) ∧
  (∀ x, bw_cl x → (∃ j, 0 ≤ j ∧ j < i ∧ τ 6 j = x) → bw_F ρ f x = bw_bp (σ 0) (σ 2) (σ 11) f x ∧ (0 < bw_bp (σ 0) (σ 2) (σ 11) f x → ρ 5 x = 1)) ∧
  (∀ x, bw_cl x → ¬ (∃ j, 0 ≤ j ∧ j < i ∧ τ 6 j = x) → bw_F ρ f x = bw_F τ f x) ∧ (∀ x, τ 5 x = 1 → ρ 5 x = 1)
theorem bw_U2_step {σ τ ρ ρ' : jm_S} {f i : Int} (hv : bw_UV σ τ f (τ 8 0)) (h : bw_U2 σ τ ρ f i) (hi : i < τ 8 0) (hd : sp_B_raise.2.2.2.2 [f, τ 6 i] ρ 0 ρ') : bw_U2 σ τ ρ' f (i + 1) := by
  obtain ⟨v1, v2, v3, v4, v5, v6, v7, v8⟩ := hv
  obtain ⟨h1, h2, h3, h4, h5, h6, h7, h8⟩ := h
  obtain ⟨d1, d2, d3, d4, d5, d6, d7⟩ := hd
  have e0 := h1.at0.trans v1.at0
  have e2 := h1.at2.trans v1.at2
  have e11 := h1.at11.trans v1.at11
  rw [e0, e2, e11] at d6 d7
  have hb := bw_bp_rg (σ 0) (σ 2) (σ 11) f (τ 6 i)
  obtain ⟨c1, c2, c3, c4⟩ := v4 i h5.1 hi
  have hcur : bw_F ρ f (τ 6 i) = bw_bp (σ 0) (σ 2) (σ 11) f (τ 6 i) ∧ (0 < bw_bp (σ 0) (σ 2) (σ 11) f (τ 6 i) → ρ 5 (τ 6 i) = 1) ∨ bw_F ρ f (τ 6 i) = 0 := by
    by_cases q : ∃ j, 0 ≤ j ∧ j < i ∧ τ 6 j = τ 6 i
    · exact Or.inl (h6 _ c1 q)
    · exact Or.inr ((h7 _ c1 q).trans c4)
  have new : bw_F ρ' f (τ 6 i) = bw_bp (σ 0) (σ 2) (σ 11) f (τ 6 i) ∧ (0 < bw_bp (σ 0) (σ 2) (σ 11) f (τ 6 i) → ρ' 5 (τ 6 i) = 1) := by
    rw [d6, d7]
    by_cases q : bw_F ρ f (τ 6 i) < bw_bp (σ 0) (σ 2) (σ 11) f (τ 6 i)
    · rw [if_pos ⟨rfl, q⟩, if_pos ⟨rfl, q⟩]
      exact ⟨rfl, fun _ => rfl⟩
    · rw [if_neg (fun z => q z.2), if_neg (fun z => q z.2)]
      rcases hcur with z | z
      · exact z
      · exact ⟨by omega, fun z2 => by omega⟩
  refine ⟨h1.tr d1, h2.tr d2, d3.trans h3, d5.trans h4, by omega, ?_, ?_, ?_⟩
  · rintro x hx ⟨j, j0, j1, rfl⟩
    by_cases hj : j = i
    · subst hj; exact new
    · by_cases he : τ 6 j = τ 6 i
      · rw [he]; exact new
      · rw [d6, d7, if_neg (fun z => he z.1), if_neg (fun z => he z.1)]
        exact h6 _ hx ⟨j, j0, by omega, rfl⟩
  · intro x hx hn
    have hne : x ≠ τ 6 i := fun e => hn ⟨i, h5.1, by omega, e.symm⟩
    rw [d6, if_neg (fun z => hne z.1)]
    exact h7 x hx (fun ⟨j, a, b, c⟩ => hn ⟨j, a, by omega, c⟩)
  · intro x hx
    rw [d7]
    split
    · rfl
    · exact h8 x hx
theorem bw_U2_end {σ τ ρ : jm_S} {f : Int} (hv : bw_UV σ τ f (τ 8 0)) (h : bw_U2 σ τ ρ f (τ 8 0)) : bw_UO σ (jm_up ρ 8 0 0) f := by
  obtain ⟨v1, v2, v3, v4, v5, v6, v7, v8⟩ := hv
  obtain ⟨h1, h2, h3, h4, h5, h6, h7, h8⟩ := h
  refine ⟨?_, v2.tr h2, by simp [jm_up], fun x => ∃ j, 0 ≤ j ∧ j < τ 8 0 ∧ τ 6 j = x, ?_, ?_, ?_, ?_⟩
  · obtain ⟨a, b, c, d, e⟩ := v1.tr h1
    exact ⟨fun k h3 h4 h5 h6 h7 h8 h9 h10 => by rw [← a k h3 h4 h5 h6 h7 h8 h9 h10]; simp [jm_up, h8], b, c, d, e⟩
  · rintro x hx ⟨j, j0, j1, rfl⟩
    obtain ⟨a, b, c, d⟩ := v4 j j0 j1
    exact ⟨c, h6 _ hx ⟨j, j0, j1, rfl⟩⟩
  · intro x hx hn
    have e : bw_F ρ f x = bw_F0 σ f x := by
      rw [h7 x hx hn]
      rcases v5 x hx with q | ⟨-, -, q⟩
      · exact q
      · exact absurd q hn
    exact e
  · rintro x hx ⟨j, j0, j1, rfl⟩ n hn
    have hn2 := bw_adj_cl hx hn
    obtain ⟨a, b, c, d⟩ := v4 j j0 j1
    rcases v7 j j0 j1 n hn with q | q
    · rcases v5 n hn2 with z | ⟨-, -, z⟩
      · exact Or.inr (Or.inl (by omega))
      · exact Or.inl z
    · rcases v5 n hn2 with z | ⟨-, -, z⟩
      · refine Or.inr (Or.inr ⟨by omega, ?_⟩)
        show jm_up ρ 8 0 0 5 n = 1
        simp [jm_up, h8 n q.2]
      · exact Or.inl z
  · intro q
    obtain ⟨a, b⟩ := v8 q
    exact ⟨0, by omega, by omega, b⟩
def L_B_unspread : List (Nat × jm_K) := [(58, sp_B_near), (85, sp_B_drop), (88, sp_B_raise)]
set_option maxHeartbeats 4000000 in
set_option maxRecDepth 100000 in
theorem con_B_unspread : jm_Con classes D_B 17 ks_B 0 y_B_unspread b_B_unspread 7 (jm_rt none) 4 sp_B_unspread := by
  refine jm_con2 (L := L_B_unspread) (code := k_B_unspread) CF_B rfl (by decide) ck_B_unspread ⟨⟨y_B_near, b_B_near, 2, jm_rt (some false), 0, by decide, con_B_near, lk_B_near _ _, rfl⟩, ⟨y_B_drop, b_B_drop, 4, jm_rt none, 2, by decide, con_B_drop, lk_B_drop _ _, rfl⟩, ⟨y_B_raise, b_B_raise, 5, jm_rt none, 3, by decide, con_B_raise, lk_B_raise _ _, rfl⟩, trivial⟩ (by decide) ?_
  intro σ as hl hr hs hp Q hQ
  obtain ⟨f, rfl⟩ := jm_a1 hl
  obtain ⟨hf, hu⟩ := hp
  -- the second loop
  have loop2 : ∀ τ : jm_S, bw_UV σ τ f (τ 8 0) → ∀ (n : Nat) (i : Int) (l3 l4 l5 l6 : Option jm_V) (ρ : jm_S), i + n = τ 8 0 → bw_U2 σ τ ρ f i → jm_Ok D_B fi_B (jm_look L_B_unspread) k_B_unspread none Q 117 [some (.inr none), some (.inl f), some (.inl i), l3, l4, l5, l6] [] ρ := by
    intro τ hv n
    induction n with
    | zero =>
      intro i l3 l4 l5 l6 ρ hn h
      have hi : i = τ 8 0 := by omega
      subst hi
      refine jm_Ok.go 60 [117] ?_
      refine fun t ht _ _ => ⟨fun _ => ?_, fun q => ?_⟩
      · exact ⟨by omega, hQ _ _ (bw_U2_end hv h)⟩
      · rw [h.2.2.2.1] at ht; omega
    | succ n ih =>
      intro i l3 l4 l5 l6 ρ hn h
      have h5 := h.2.2.2.2.1
      have hv3 := hv.2.2.1
      refine jm_Ok.go 60 [117] ?_
      refine fun t ht _ _ => ⟨fun q => ?_, fun _ => ?_⟩
      · rw [h.2.2.2.1] at ht; omega
      · refine ⟨by omega, fun c hc _ _ => ?_⟩
        rw [h.2.2.1] at hc
        refine ⟨⟨hf, by omega⟩, ?_⟩
        rintro _ ρ' - hd
        rw [hc] at hd
        exact ⟨by omega, ih (i + 1) _ _ _ _ ρ' (by omega) (bw_U2_step hv h (by omega) hd)⟩
  have loop1 : ∀ (n : Nat) (i : Int) (l3 l4 l5 l6 : Option jm_V) (τ : jm_S), i + n = 384 → jm_okS D_B τ → bw_UV σ τ f i → jm_Ok D_B fi_B (jm_look L_B_unspread) k_B_unspread none Q 2 [some (.inr none), some (.inl f), some (.inl i), l3, l4, l5, l6] [] τ := by
    intro n
    induction n with
    | zero =>
      intro i l3 l4 l5 l6 τ hn hs h
      have h3 := h.2.2.1
      refine jm_Ok.go 60 [117] ?_
      refine fun t ht _ _ => ⟨fun _ => ?_, fun q => by omega⟩
      have hi : i = τ 8 0 := by omega
      subst hi
      refine loop2 τ h (τ 8 0).toNat 0 _ _ _ _ τ (by omega) ⟨bw_Ev.rf τ, bw_Ot.rf f τ, rfl, rfl, by omega, ?_, fun _ _ _ => rfl, fun _ q => q⟩
      rintro x - ⟨j, a, b, -⟩; omega
    | succ n ih =>
      intro i l3 l4 l5 l6 τ hn hs h
      have h3 := h.2.2.1
      refine jm_Ok.go 60 [117, 28] ?_
      refine fun t ht _ _ => ⟨fun _ => ?_, fun q => ?_⟩
      · have hi : i = τ 8 0 := by omega
        subst hi
        refine loop2 τ h (τ 8 0).toNat 0 _ _ _ _ τ (by omega) ⟨bw_Ev.rf τ, bw_Ot.rf f τ, rfl, rfl, by omega, ?_, fun _ _ _ => rfl, fun _ q => q⟩
        rintro x - ⟨j, a, b, -⟩; omega
      · refine ⟨by omega, fun c hc _ _ => ⟨by omega, fun was hwas _ _ => ?_⟩⟩
        have hcc : bw_cl c := by omega
        -- the inner loop
        have inner : ∀ (m : Nat) (d : Int) (l6 : Option jm_V) (ρ : jm_S), 0 ≤ d → d + m = 6 → jm_okS D_B ρ → bw_UV σ ρ f i → i < ρ 8 0 → ρ 6 i = c → ρ 7 i = was → (∀ e, (0 ≤ e ∧ e < d) → 0 ≤ bw_nb c e → bw_F ρ f (bw_nb c e) = 0 ∨ (was ≤ bw_F ρ f (bw_nb c e) ∧ ρ 5 (bw_nb c e) = 1)) → jm_Ok D_B fi_B (jm_look L_B_unspread) k_B_unspread none Q 28 [some (.inr none), some (.inl f), some (.inl i), some (.inl c), some (.inl was), some (.inl d), l6] [] ρ := by
          intro m
          induction m with
          | zero =>
            intro d l6 ρ hd0 hd hs h hi ec ew hp
            refine jm_Ok.go 60 [2] ?_
            refine ⟨fun _ => ?_, fun _ => by omega⟩
            refine ⟨by omega, ih (i + 1) _ _ _ _ ρ (by omega) hs ?_⟩
            obtain ⟨h1, h2, h3, h4, h5, h6, h7, h8⟩ := h
            refine ⟨h1, h2, by omega, h4, h5, h6, ?_, h8⟩
            intro j j0 j1 n hna
            by_cases hj : j = i
            · subst hj
              rw [ec] at hna
              obtain ⟨e, he, rfl, hn0⟩ := hna
              rw [ew]
              exact hp e (by omega) hn0
            · exact h7 j j0 (by omega) n hna
          | succ m ihm =>
            intro d l6 ρ hd0 hd hs h hi ec ew hp
            have hk := bw_nb_rg hcc (show 0 ≤ d ∧ d < 6 by omega)
            refine jm_Ok.go 60 [103] ?_
            refine ⟨fun _ => by omega, fun _ => ⟨⟨hcc, by omega⟩, ?_⟩⟩
            rintro k ρ - ⟨rfl, rfl⟩
            have next : ∀ ρ', jm_okS D_B ρ' → bw_UV σ ρ' f i → i < ρ' 8 0 → ρ' 6 i = c → ρ' 7 i = was → (∀ e, (0 ≤ e ∧ e < d + 1) → 0 ≤ bw_nb c e → bw_F ρ' f (bw_nb c e) = 0 ∨ (was ≤ bw_F ρ' f (bw_nb c e) ∧ ρ' 5 (bw_nb c e) = 1)) → jm_Ok D_B fi_B (jm_look L_B_unspread) k_B_unspread none Q 103 [some (.inr none), some (.inl f), some (.inl i), some (.inl c), some (.inl was), some (.inl d), some (.inl (bw_nb c d))] [] ρ' := by
              intro ρ' a1 a2 a3 a4 a5 a6
              refine jm_Ok.go 60 [28] ?_
              exact ⟨by omega, ihm (d + 1) _ ρ' (by omega) (by omega) a1 a2 a3 a4 a5 a6⟩
            refine ⟨fun hk0 => ?_, fun hk0 => ?_⟩
            · refine next ρ hs h hi ec ew fun e he q => ?_
              by_cases hed : e = d
              · subst hed; omega
              · exact hp e (by omega) q
            · have hkc : bw_cl (bw_nb c d) := ⟨hk0, by omega⟩
              refine ⟨by omega, by omega, by omega, fun v hv _ _ => ⟨fun hv0 => ?_, fun hv0 => ?_⟩⟩
              · have hF : bw_F ρ f (bw_nb c d) ≠ 0 := by show ρ 4 (384 * f + bw_nb c d) ≠ 0; omega
                refine ⟨by omega, by omega, by omega, fun v2 hv2 _ _ => ⟨fun hge => ?_, fun hlt => ?_⟩⟩
                · refine ⟨by omega, by omega, ?_⟩
                  refine next _ (hs.up (by decide)) (bw_UV_mark h) hi ec ew fun e he q => ?_
                  by_cases hed : e = d
                  · subst hed
                    refine Or.inr ⟨?_, by simp [jm_up]⟩
                    show was ≤ ρ 4 (384 * f + bw_nb c e); omega
                  · rcases hp e (by omega) q with z | z
                    · exact Or.inl z
                    · exact Or.inr ⟨z.1, by simp [jm_up, z.2]⟩
                · refine ⟨⟨hf, hkc, fun _ => bw_UV_room h hkc hF⟩, ?_⟩
                  rintro _ ρ' hs' hdr
                  have h' := bw_UV_drop h hs hf hkc hF hdr
                  obtain ⟨d1, d2, d3, -, d5⟩ := hdr
                  obtain ⟨g1, g2, g3, g4⟩ := d5 hF
                  refine next ρ' hs' h' (by omega) (by rw [g3, if_neg (by omega)]; exact ec) (by rw [g4, if_neg (by omega)]; exact ew) fun e he q => ?_
                  rw [g1]
                  by_cases hed : bw_nb c e = bw_nb c d
                  · exact Or.inl (if_pos hed)
                  · rw [if_neg hed, d3]
                    by_cases hed2 : e = d
                    · subst hed2; exact absurd rfl hed
                    · exact hp e (by omega) q
              · refine next ρ hs h hi ec ew fun e he q => ?_
                by_cases hed : e = d
                · subst hed; exact Or.inl (by show ρ 4 (384 * f + bw_nb c e) = 0; omega)
                · exact hp e (by omega) q
        exact inner 6 0 _ τ (by omega) (by omega) hs h (by omega) hc.symm hwas.symm (fun e he => by omega)
  refine jm_Ok.go 60 [2] ?_
  exact loop1 384 0 _ _ _ _ σ (by omega) hs (bw_UV_ini hu)
end
section
/-! spread -/
/-- what has come of a field in spread: it has only grown, and what has grown passes and is supported -/
def bw_SI (σ τ : jm_S) (f : Int) : Prop := bw_Ev σ τ ∧ bw_Ot f σ τ ∧ τ 6 = σ 6 ∧ τ 7 = σ 7 ∧ τ 8 = σ 8 ∧ (∀ x, bw_cl x → bw_F σ f x ≤ bw_F τ f x) ∧ (∀ x, bw_cl x → bw_F τ f x ≠ bw_F σ f x → bw_ps (σ 0) f x ∧ ∃ n, bw_adj x n ∧ bw_F τ f x < bw_F τ f n)
def bw_A' (σ : jm_S) (f : Int) : Prop := ∀ k, bw_cl k → bw_ps (σ 0) f k → ∀ n, bw_adj k n → bw_F σ f n - 1 ≤ bw_F σ f k ∨ σ 5 n = 1
theorem bw_SI.rf (σ : jm_S) (f : Int) : bw_SI σ σ f := ⟨bw_Ev.rf σ, bw_Ot.rf f σ, rfl, rfl, rfl, fun _ _ => Int.le_refl _, fun _ _ q => absurd rfl q⟩
theorem bw_SI_give {σ τ τ' : jm_S} {f c v : Int} (h : bw_SI σ τ f) (hA : bw_A' τ f) (hv : ∀ x, bw_cl x → τ 5 x = 1 → bw_F τ f x ≤ v) (hl : ∀ x, 0 ≤ x → x < c → τ 5 x = 1 → bw_F τ f x ≤ v - 1) (hc : bw_cl c) (hF : bw_F τ f c = v) (hd : sp_B_give.2.2.2.2 [f, c] (jm_up τ 5 c 0) 0 τ') :
    bw_SI σ τ' f ∧ bw_A' τ' f ∧ (∀ x, bw_cl x → τ' 5 x = 1 → bw_F τ' f x ≤ v) ∧ (∀ x, 0 ≤ x → x < c + 1 → τ' 5 x = 1 → bw_F τ' f x ≤ v - 1) := by
  obtain ⟨h1, h2, h3, h4, h5, h6, h7⟩ := h
  obtain ⟨d1, d2, d3, d4, d5, d6, d7⟩ := hd
  have eF : bw_F (jm_up τ 5 c 0) f = bw_F τ f := rfl
  have eB : jm_up τ 5 c 0 0 = τ 0 := rfl
  have eB2 := d1.at0
  rw [eB] at eB2
  have eBs := h1.at0
  rw [eF, eB, hF] at d6 d7
  have e5 : ∀ x, x ≠ c → jm_up τ 5 c 0 5 x = τ 5 x := fun x hx => by simp [jm_up, hx]
  have e5c : jm_up τ 5 c 0 5 c = 0 := by simp [jm_up]
  have hnc : ¬ bw_gv (τ 0) (bw_F τ f) f c (v - 1) c := fun q => bw_adj_ne hc q.1 rfl
  obtain ⟨fc, sc⟩ := d7 c hc hnc
  rw [e5c] at sc
  have mono : ∀ x, bw_cl x → bw_F τ f x ≤ bw_F τ' f x := by
    intro x hx
    rcases Classical.em (bw_gv (τ 0) (bw_F τ f) f c (v - 1) x) with q | q
    · rw [(d6 x hx q).1]; have := q.2.2; omega
    · rw [(d7 x hx q).1]; omega
  have hE : bw_Ev τ τ' := by
    obtain ⟨a, b, c', d, e⟩ := d1
    refine ⟨fun k h3 h4 h5 h6 h7 h8 h9 h10 => ?_, b, c', d, e⟩
    rw [a k h3 h4 h5 h6 h7 h8 h9 h10]; simp [jm_up, h5]
  refine ⟨⟨h1.tr hE, h2.tr d2, d3.trans h3, d4.trans h4, d5.trans h5, fun x hx => Int.le_trans (h6 x hx) (mono x hx), ?_⟩, ?_, ?_, ?_⟩
  · intro x hx hne
    rcases Classical.em (bw_gv (τ 0) (bw_F τ f) f c (v - 1) x) with q | q
    · refine ⟨by rw [← eBs]; exact q.2.1, c, bw_adj_sym hc q.1, ?_⟩
      rw [(d6 x hx q).1, fc]; omega
    · have e := (d7 x hx q).1
      rw [e] at hne ⊢
      obtain ⟨p, n, hn, hlt⟩ := h7 x hx hne
      exact ⟨p, n, hn, Int.lt_of_lt_of_le hlt (mono n (bw_adj_cl hx hn))⟩
  · intro k hk hps n hn
    rw [eB2] at hps
    have hn2 := bw_adj_cl hk hn
    by_cases hnc2 : n = c
    · subst hnc2
      left
      rw [fc]
      rcases Classical.em (bw_gv (τ 0) (bw_F τ f) f n (v - 1) k) with q | q
      · rw [(d6 k hk q).1]; omega
      · rw [(d7 k hk q).1]
        have : ¬ bw_F τ f k < v - 1 := fun z => q ⟨bw_adj_sym hk hn, hps, z⟩
        omega
    · rcases Classical.em (bw_gv (τ 0) (bw_F τ f) f c (v - 1) n) with q | q
      · exact Or.inr (d6 n hn2 q).2
      · obtain ⟨e1, e2⟩ := d7 n hn2 q
        rw [e5 n hnc2] at e2
        rw [e1, e2]
        rcases hA k hk hps n hn with z | z
        · left; have := mono k hk; omega
        · exact Or.inr z
  · intro x hx h1
    rcases Classical.em (bw_gv (τ 0) (bw_F τ f) f c (v - 1) x) with q | q
    · rw [(d6 x hx q).1]; omega
    · obtain ⟨e1, e2⟩ := d7 x hx q
      by_cases hxc : x = c
      · subst hxc; omega
      · rw [e5 x hxc] at e2
        rw [e1]
        exact hv x hx (by omega)
  · intro x hx0 hx1 h1
    have hx : bw_cl x := ⟨hx0, by omega⟩
    rcases Classical.em (bw_gv (τ 0) (bw_F τ f) f c (v - 1) x) with q | q
    · rw [(d6 x hx q).1]; omega
    · obtain ⟨e1, e2⟩ := d7 x hx q
      by_cases hxc : x = c
      · subst hxc; omega
      · rw [e5 x hxc] at e2
        rw [e1]
        exact hl x hx0 (by omega) (by omega)
def sp_B_spread : jm_K := (false, 1, true, fun as σ => (match as with
  | [f] => (0 ≤ f ∧ f ≤ 2) ∧ bw_A' σ f
  | _ => False), fun as σ _ σ' => (match as with
  | [f] => bw_SI σ σ' f ∧ (∀ x, bw_cl x → σ' 5 x = 0) ∧ bw_A (bw_ps (σ 0) f) (bw_F σ' f)
  | _ => False))
def L_B_spread : List (Nat × jm_K) := [(97, sp_B_give)]
set_option maxHeartbeats 4000000 in
set_option maxRecDepth 100000 in
theorem con_B_spread : jm_Con classes D_B 17 ks_B 0 y_B_spread b_B_spread 5 (jm_rt none) 3 sp_B_spread := by
  refine jm_con2 (L := L_B_spread) (code := k_B_spread) CF_B rfl (by decide) ck_B_spread ⟨⟨y_B_give, b_B_give, 6, jm_rt none, 2, by decide, con_B_give, lk_B_give _ _, rfl⟩, trivial⟩ (by decide) ?_
  intro σ as hl hr hs hp Q hQ
  obtain ⟨f, rfl⟩ := jm_a1 hl
  obtain ⟨hf, hA⟩ := hp
  -- the last loop: clear the marks
  have loopD : ∀ (n : Nat) (c : Int) (l2 l4 : Option jm_V) (τ : jm_S), 0 ≤ c → c + n = 384 → bw_SI σ τ f → bw_A (bw_ps (σ 0) f) (bw_F τ f) → (∀ x, 0 ≤ x → x < c → τ 5 x = 0) → jm_Ok D_B fi_B (jm_look L_B_spread) k_B_spread none Q 131 [some (.inr none), some (.inl f), l2, some (.inl c), l4] [] τ := by
    intro n
    induction n with
    | zero =>
      intro c l2 l4 τ h0 hn h hA hz
      refine jm_Ok.go 60 [131] ?_
      refine ⟨fun _ => ?_, fun _ => by omega⟩
      exact hQ _ _ ⟨h, fun x hx => hz x hx.1 (by omega), hA⟩
    | succ n ih =>
      intro c l2 l4 τ h0 hn h hA hz
      refine jm_Ok.go 60 [131] ?_
      refine ⟨fun _ => by omega, fun _ => ⟨by omega, by omega, by omega, ?_⟩⟩
      refine ih (c + 1) _ _ _ (by omega) (by omega) ?_ hA ?_
      · obtain ⟨h1, h2, h3, h4, h5, h6, h7⟩ := h
        refine ⟨?_, h2, h3, h4, h5, h6, h7⟩
        obtain ⟨a, b, c', d, e⟩ := h1
        refine ⟨fun k h3 h4 h5 h6 h7 h8 h9 h10 => ?_, b, c', d, e⟩
        rw [← a k h3 h4 h5 h6 h7 h8 h9 h10]; simp [jm_up, h5]
      · intro x hx0 hx1
        by_cases hx : x = c
        · simp [jm_up, hx]
        · simp [jm_up, hx]; exact hz x hx0 (by omega)
  -- the levels
  have loopB : ∀ (m : Nat) (v : Int) (l2 l4 : Option jm_V) (τ : jm_S), v = m → v ≤ 15 → jm_okS D_B τ → bw_SI σ τ f → bw_A' τ f → (∀ x, bw_cl x → τ 5 x = 1 → bw_F τ f x ≤ v) → jm_Ok D_B fi_B (jm_look L_B_spread) k_B_spread none Q 57 [some (.inr none), some (.inl f), l2, some (.inl v), l4] [] τ := by
    intro m
    induction m with
    | zero =>
      intro v l2 l4 τ hv hv15 hs h hA hm
      refine jm_Ok.go 60 [131] ?_
      refine ⟨fun _ => ?_, fun _ => by omega⟩
      refine loopD 384 0 _ _ τ (by omega) (by omega) h ?_ (fun x a b => by omega)
      intro k hk hps n hn
      have eB := h.1.at0
      rcases hA k hk (by rw [eB]; exact hps) n hn with q | q
      · exact q
      · have h1 := hm n (bw_adj_cl hk hn) q
        have h2 := (hs 4 (384 * f + k) (by omega) (Or.inl (by show _ < (1152 : Int); omega))).1
        have h3 : 0 ≤ bw_F τ f k := h2
        omega
    | succ m ihB =>
      intro v l2 l4 τ hv hv15 hs h hA hm
      refine jm_Ok.go 60 [64] ?_
      refine ⟨fun _ => by omega, fun _ => ?_⟩
      have loopC : ∀ (n : Nat) (c : Int) (τ : jm_S), 0 ≤ c → c + n = 384 → jm_okS D_B τ → bw_SI σ τ f → bw_A' τ f → (∀ x, bw_cl x → τ 5 x = 1 → bw_F τ f x ≤ v) → (∀ x, 0 ≤ x → x < c → τ 5 x = 1 → bw_F τ f x ≤ v - 1) → jm_Ok D_B fi_B (jm_look L_B_spread) k_B_spread none Q 64 [some (.inr none), some (.inl f), l2, some (.inl v), some (.inl c)] [] τ := by
        intro n
        induction n with
        | zero =>
          intro c τ hc0 hn hs h hA hm hl
          refine jm_Ok.go 60 [57] ?_
          refine ⟨fun _ => ?_, fun _ => by omega⟩
          refine ⟨by omega, ihB (v + -1) _ _ τ (by omega) (by omega) hs h hA ?_⟩
          intro x hx h1
          have := hl x hx.1 (by omega) h1
          omega
        | succ n ih =>
          intro c τ hc0 hn hs h hA hm hl
          have hcc : bw_cl c := ⟨hc0, by omega⟩
          have next : ∀ τ', jm_okS D_B τ' → bw_SI σ τ' f → bw_A' τ' f → (∀ x, bw_cl x → τ' 5 x = 1 → bw_F τ' f x ≤ v) → (∀ x, 0 ≤ x → x < c + 1 → τ' 5 x = 1 → bw_F τ' f x ≤ v - 1) → jm_Ok D_B fi_B (jm_look L_B_spread) k_B_spread none Q 117 [some (.inr none), some (.inl f), l2, some (.inl v), some (.inl c)] [] τ' := by
            intro τ' a1 a2 a3 a4 a5
            refine jm_Ok.go 60 [64] ?_
            exact ⟨by omega, ih (c + 1) τ' (by omega) (by omega) a1 a2 a3 a4 a5⟩
          refine jm_Ok.go 60 [117] ?_
          refine ⟨fun _ => by omega, fun _ => ⟨by omega, fun b hb _ _ => ⟨fun hb0 => ?_, fun hb0 => ?_⟩⟩⟩
          · refine next τ hs h hA hm fun x hx0 hx1 h1 => ?_
            by_cases hx : x = c
            · subst hx; omega
            · exact hl x hx0 (by omega) h1
          · refine ⟨by omega, by omega, by omega, fun w hw _ _ => ⟨fun hge => ?_, fun hlt => ?_⟩⟩
            · have hF : bw_F τ f c = v := by
                have h1 := hm c hcc (by omega)
                have h2 : bw_F τ f c = w := hw.symm
                omega
              refine ⟨by omega, by omega, ⟨hf, hcc⟩, ?_⟩
              rintro _ τ' hs' hd
              obtain ⟨a1, a2, a3, a4⟩ := bw_SI_give h hA hm hl hcc hF hd
              exact next τ' hs' a1 a2 a3 a4
            · refine next τ hs h hA hm fun x hx0 hx1 h1 => ?_
              by_cases hx : x = c
              · subst hx
                show τ 4 (384 * f + x) ≤ v - 1
                omega
              · exact hl x hx0 (by omega) h1
      exact loopC 384 0 τ (by omega) (by omega) hs h hA hm (fun x a b => by omega)
  -- the greatest number that is marked
  have loopA : ∀ (n : Nat) (top c : Int) (l4 : Option jm_V), 0 ≤ c → c + n = 384 → (0 ≤ top ∧ top ≤ 15) → (∀ x, 0 ≤ x → x < c → σ 5 x = 1 → bw_F σ f x ≤ top) → jm_Ok D_B fi_B (jm_look L_B_spread) k_B_spread none Q 4 [some (.inr none), some (.inl f), some (.inl top), some (.inl c), l4] [] σ := by
    intro n
    induction n with
    | zero =>
      intro top c l4 hc0 hn ht hm
      refine jm_Ok.go 60 [57] ?_
      refine ⟨fun _ => ?_, fun _ => by omega⟩
      exact loopB top.toNat top _ _ σ (by omega) (by omega) hs (bw_SI.rf σ f) hA (fun x hx h1 => hm x hx.1 (by omega) h1)
    | succ n ih =>
      intro top c l4 hc0 hn ht hm
      refine jm_Ok.go 60 [4] ?_
      refine ⟨fun _ => by omega, fun _ => ⟨by omega, fun b hb _ _ => ⟨fun hb0 => ?_, fun hb0 => ?_⟩⟩⟩
      · refine ⟨by omega, ih top (c + 1) _ (by omega) (by omega) ht fun x hx0 hx1 h1 => ?_⟩
        by_cases hx : x = c
        · subst hx; omega
        · exact hm x hx0 (by omega) h1
      · refine ⟨by omega, by omega, by omega, fun w hw _ _ => ⟨fun hle => ?_, fun hgt => ?_⟩⟩
        · refine ⟨by omega, ih top (c + 1) _ (by omega) (by omega) ht fun x hx0 hx1 h1 => ?_⟩
          by_cases hx : x = c
          · subst hx; show σ 4 (384 * f + x) ≤ top; omega
          · exact hm x hx0 (by omega) h1
        · refine ⟨by omega, by omega, by omega, fun w2 hw2 _ _ => ⟨by omega, ih w2 (c + 1) _ (by omega) (by omega) (by omega) fun x hx0 hx1 h1 => ?_⟩⟩
          by_cases hx : x = c
          · subst hx; show σ 4 (384 * f + x) ≤ w2; omega
          · have := hm x hx0 (by omega) h1
            omega
  refine jm_Ok.go 60 [4] ?_
  exact loopA 384 0 0 _ (by omega) (by omega) (by omega) (fun x a b => by omega)
end
section
/-! renew -/
def bw_RO (σ σ' : jm_S) (f c : Int) : Prop := bw_Ev σ σ' ∧ bw_Ot f σ σ' ∧ σ' 8 0 = 0 ∧ bw_A (bw_ps (σ 0) f) (bw_F σ' f) ∧ ∀ k, bw_cl k → (k = c ∨ bw_gd (bw_ps (σ 0) f) (bw_bg (σ 0) (σ 2) (σ 11) f) (bw_F σ f) k) → bw_gd (bw_ps (σ 0) f) (bw_bg (σ 0) (σ 2) (σ 11) f) (bw_F σ' f) k
def sp_B_renew : jm_K := (false, 2, true, fun as σ => (match as with
  | [f, c] => (0 ≤ f ∧ f ≤ 2) ∧ bw_cl c ∧ σ 8 0 = 0 ∧ (∀ k, bw_cl k → k ≠ c → bw_ps (σ 0) f k → ∀ n, bw_adj k n → bw_F σ f n - 1 ≤ bw_F σ f k)
  | _ => False), fun as σ _ σ' => (match as with
  | [f, c] => bw_RO σ σ' f c
  | _ => False))
theorem bw_RN_drop {σ a : jm_S} {f c : Int} (h0 : σ 8 0 = 0) (hs : jm_okS D_B σ) (hf : 0 ≤ f ∧ f ≤ 2) (hc : bw_cl c) (hd : sp_B_drop.2.2.2.2 [f, c] σ 0 a) : bw_UI a f ∧ bw_F0 a f = bw_F σ f ∧ (bw_F σ f c ≠ 0 → a 8 0 = 1 ∧ a 6 0 = c) := by
  obtain ⟨d1, d2, d3, d4, d5⟩ := hd
  by_cases hz : bw_F σ f c = 0
  · have e := d4 hz
    subst e
    refine ⟨Or.inl h0, ?_, fun q => absurd hz q⟩
    funext x
    exact if_neg (by omega)
  · obtain ⟨g1, g2, g3, g4⟩ := d5 hz
    have e1 : a 8 0 = 1 := by omega
    have e2 : a 6 0 = c := by rw [g3, if_pos h0.symm]
    have e3 : a 7 0 = bw_F σ f c := by rw [g4, if_pos h0.symm]
    have h1 : 0 ≤ bw_F σ f c := (hs 4 (384 * f + c) (by omega) (Or.inl (by show _ < (1152 : Int); omega))).1
    refine ⟨Or.inr ⟨e1, by rw [e2]; exact hc, by rw [e3]; omega, by rw [e2, g1, if_pos rfl]⟩, ?_, fun _ => ⟨e1, e2⟩⟩
    funext x
    unfold bw_F0
    rw [e2, e3, g1]
    by_cases hx : x = c
    · rw [if_pos ⟨e1, hx⟩, hx]
    · rw [if_neg (fun q => hx q.2), if_neg hx]
theorem bw_RN_mid {σ a b e g : jm_S} {f c : Int} (hf : 0 ≤ f ∧ f ≤ 2) (hc : bw_cl c) (hse : jm_okS D_B e) (hA : ∀ k, bw_cl k → k ≠ c → bw_ps (σ 0) f k → ∀ n, bw_adj k n → bw_F σ f n - 1 ≤ bw_F σ f k)
    (hE : bw_Ev σ a) (hF0 : bw_F0 a f = bw_F σ f) (hT0 : bw_F σ f c ≠ 0 → a 8 0 = 1 ∧ a 6 0 = c) (hu : bw_UO a b f) (hr : sp_B_raise.2.2.2.2 [f, c] b 0 e)
    (g4 : g 4 = e 4) (g0 : g 0 = σ 0) (g5 : ∀ x, e 5 x = 1 → g 5 x = 1) (gm : bw_ps (σ 0) f c → ∀ n, bw_adj c n → 0 < bw_F e f n → g 5 n = 1) :
    bw_A' g f ∧ ∀ k, bw_cl k → (k = c ∨ bw_gd (bw_ps (σ 0) f) (bw_bg (σ 0) (σ 2) (σ 11) f) (bw_F σ f) k) → bw_gd (bw_ps (σ 0) f) (bw_bg (σ 0) (σ 2) (σ 11) f) (bw_F g f) k := by
  obtain ⟨u1, u2, u3, T, t1, t2, t3, t4⟩ := hu
  obtain ⟨r1, r2, r3, r4, r5, r6, r7⟩ := hr
  rw [hF0] at t1 t2 t3
  rw [hE.at0, hE.at2, hE.at11] at t1
  rw [u1.at0, u1.at2, u1.at11, hE.at0, hE.at2, hE.at11] at r6 r7
  have hbp := bw_bp_rg (σ 0) (σ 2) (σ 11) f
  have pos : ∀ x, bw_cl x → 0 ≤ bw_F e f x := fun x hx => (hse 4 (384 * f + x) (by omega) (Or.inl (by show _ < (1152 : Int); omega))).1
  have gF : bw_F g f = bw_F e f := by unfold bw_F; rw [g4]
  -- the cells that begin anew
  have new : ∀ x, bw_cl x → (T x ∨ x = c) → bw_F e f x = bw_bp (σ 0) (σ 2) (σ 11) f x ∧ (0 < bw_bp (σ 0) (σ 2) (σ 11) f x → e 5 x = 1) := by
    intro x hx hTx
    have h1 := hbp x
    by_cases hTx2 : T x
    · obtain ⟨q1, q2, q3⟩ := t1 x hx hTx2
      rw [r6, r7]
      by_cases hxc : x = c ∧ bw_F b f c < bw_bp (σ 0) (σ 2) (σ 11) f c
      · rw [if_pos hxc, if_pos hxc, hxc.1]; exact ⟨rfl, fun _ => rfl⟩
      · rw [if_neg hxc, if_neg hxc]; exact ⟨q2, q3⟩
    · have hxc : x = c := by rcases hTx with q | q; exact absurd q hTx2; exact q
      subst hxc
      have hz : bw_F σ f x = 0 := by
        rcases Classical.em (bw_F σ f x = 0) with q | q
        · exact q
        · obtain ⟨p1, p2⟩ := hT0 q
          exact absurd (p2 ▸ t4 p1) hTx2
      have hb : bw_F b f x = 0 := (t2 x hx hTx2).trans hz
      rw [r6, r7, hb]
      by_cases hp : 0 < bw_bp (σ 0) (σ 2) (σ 11) f x
      · rw [if_pos ⟨rfl, hp⟩, if_pos ⟨rfl, hp⟩]; exact ⟨rfl, fun _ => rfl⟩
      · rw [if_neg (fun q => hp q.2), if_neg (fun q => hp q.2)]; exact ⟨by omega, fun q => absurd q hp⟩
  have old : ∀ x, bw_cl x → ¬ (T x ∨ x = c) → bw_F e f x = bw_F σ f x := by
    intro x hx hn
    rw [r6, if_neg (fun q => hn (Or.inr q.1))]
    exact t2 x hx (fun q => hn (Or.inl q))
  have m5 : ∀ x, b 5 x = 1 → e 5 x = 1 := by
    intro x hx
    rw [r7]
    split
    · rfl
    · exact hx
  refine ⟨?_, ?_⟩
  · intro k hk hps n hn
    rw [g0] at hps
    rw [gF]
    have hn2 := bw_adj_cl hk hn
    have hk0 := pos k hk
    rcases Classical.em (T n ∨ n = c) with q | q
    · obtain ⟨q1, q2⟩ := new n hn2 q
      rw [q1]
      rcases Int.lt_or_le 0 (bw_bp (σ 0) (σ 2) (σ 11) f n) with z | z
      · exact Or.inr (g5 n (q2 z))
      · left; omega
    · have en := old n hn2 q
      by_cases hkc : k = c
      · subst hkc
        rcases Int.lt_or_le 0 (bw_F e f n) with z | z
        · exact Or.inr (gm hps n hn z)
        · left; omega
      · rcases Classical.em (T k) with hTk | hTk
        · rcases t3 k hk hTk n hn with z | z | z
          · exact absurd (Or.inl z) q
          · left; omega
          · exact Or.inr (g5 n (m5 n z.2))
        · left
          rw [en, old k hk (fun z => z.elim hTk hkc)]
          exact hA k hk hkc hps n hn
  · intro k hk hkg
    rw [gF]
    have hk0 := pos k hk
    rcases Classical.em (T k ∨ k = c) with q | q
    · obtain ⟨q1, -⟩ := new k hk q
      refine ⟨fun hps => ?_, fun hp => ?_⟩
      · rw [q1, bw_bp_1 hps]; exact Int.le_refl _
      · rcases Classical.em (bw_ps (σ 0) f k) with z | z
        · exact ⟨z, Or.inl (by rw [q1, bw_bp_1 z]; exact Int.le_refl _)⟩
        · rw [q1, bw_bp_0 z] at hp; omega
    · have ek := old k hk q
      rcases hkg with z | ⟨z1, z2⟩
      · exact absurd (Or.inr z) q
      · rw [← ek] at z1
        refine ⟨z1, fun hp => ?_⟩
        rw [← ek] at z2
        obtain ⟨p1, p2⟩ := z2 hp
        refine ⟨p1, ?_⟩
        rcases p2 with p2 | ⟨n, hn, hlt⟩
        · exact Or.inl p2
        · right
          have hn2 := bw_adj_cl hk hn
          refine ⟨n, hn, ?_⟩
          have hnT : ¬ T n := by
            intro hTn
            rcases t3 n hn2 hTn k (bw_adj_sym hk hn) with y | y | y
            · exact q (Or.inl y)
            · omega
            · omega
          have hnc : n ≠ c := by
            intro hnc
            subst hnc
            obtain ⟨y1, y2⟩ := hT0 (by omega)
            exact hnT (y2 ▸ t4 y1)
          rw [old n hn2 (fun y => y.elim hnT hnc)]
          exact hlt
def L_B_renew : List (Nat × jm_K) := [(85, sp_B_drop), (108, sp_B_unspread), (88, sp_B_raise), (91, sp_B_passes), (58, sp_B_near), (111, sp_B_spread)]
set_option maxHeartbeats 4000000 in
set_option maxRecDepth 100000 in
theorem con_B_renew : jm_Con classes D_B 17 ks_B 0 y_B_renew b_B_renew 5 (jm_rt none) 5 sp_B_renew := by
  refine jm_con2 (L := L_B_renew) (code := k_B_renew) CF_B rfl (by decide) ck_B_renew ⟨⟨y_B_drop, b_B_drop, 4, jm_rt none, 2, by decide, con_B_drop, lk_B_drop _ _, rfl⟩, ⟨y_B_unspread, b_B_unspread, 7, jm_rt none, 4, by decide, con_B_unspread, lk_B_unspread _ _, rfl⟩, ⟨y_B_raise, b_B_raise, 5, jm_rt none, 3, by decide, con_B_raise, lk_B_raise _ _, rfl⟩, ⟨y_B_passes, b_B_passes, 3, jm_rt (some true), 1, by decide, con_B_passes, lk_B_passes _ _, rfl⟩, ⟨y_B_near, b_B_near, 2, jm_rt (some false), 0, by decide, con_B_near, lk_B_near _ _, rfl⟩, ⟨y_B_spread, b_B_spread, 5, jm_rt none, 3, by decide, con_B_spread, lk_B_spread _ _, rfl⟩, trivial⟩ (by decide) ?_
  intro σ as hl hr hs hp Q hQ
  obtain ⟨f, c, rfl⟩ := jm_a2 hl
  obtain ⟨hf, hc, h0, hA⟩ := hp
  refine jm_Ok.go 60 [28, 76] ?_
  refine ⟨⟨hf, hc, fun _ => by omega⟩, ?_⟩
  rintro _ a hsa hda
  obtain ⟨hUI, hF0, hT0⟩ := bw_RN_drop h0 hs hf hc hda
  refine ⟨⟨hf, hUI⟩, ?_⟩
  rintro _ b hsb hub
  have hub : bw_UO a b f := hub
  refine ⟨⟨hf, hc⟩, ?_⟩
  rintro _ e hse hre
  refine ⟨hc, ?_⟩
  rintro r e - ⟨hr, rfl⟩
  have hEa : bw_Ev σ a := hda.1
  have hOa : bw_Ot f σ a := hda.2.1
  have hEe : bw_Ev σ e := (hEa.tr hub.1).tr hre.1
  have hOe : bw_Ot f σ e := (hOa.tr hub.2.1).tr hre.2.1
  have h8e : e 8 0 = 0 := by rw [hre.2.2.2.2.1]; exact hub.2.2.1
  have eB := hEe.at0
  rw [eB] at hr
  -- the end
  have fin : ∀ (l3 l4 : Option jm_V) (g : jm_S), g 4 = e 4 → g 8 = e 8 → bw_Ev σ g → bw_Ot f σ g → (∀ x, e 5 x = 1 → g 5 x = 1) → (bw_ps (σ 0) f c → ∀ n, bw_adj c n → 0 < bw_F e f n → g 5 n = 1) → jm_Ok D_B fi_B (jm_look L_B_renew) k_B_renew none Q 76 [some (.inr none), some (.inl f), some (.inl c), l3, l4] [] g := by
    intro l3 l4 g g4 g8 hEg hOg g5 gm
    obtain ⟨m1, m2⟩ := bw_RN_mid hf hc hse hA hEa hF0 hT0 hub hre g4 hEg.at0 g5 gm
    refine jm_Ok.go 60 [] ?_
    refine ⟨⟨hf, m1⟩, ?_⟩
    rintro _ h hsh ⟨⟨s1, s2, s3, s4, s5, s6, s7⟩, -, s9⟩
    rw [hEg.at0] at s7 s9
    refine hQ _ _ ⟨hEg.tr s1, hOg.tr s2, by rw [s5, g8]; exact h8e, s9, fun k hk hkg => ?_⟩
    obtain ⟨p1, p2⟩ := m2 k hk hkg
    refine ⟨fun hps => Int.le_trans (p1 hps) (s6 k hk), fun hp => ?_⟩
    by_cases hne : bw_F h f k = bw_F g f k
    · rw [hne] at hp ⊢
      obtain ⟨q1, q2⟩ := p2 hp
      refine ⟨q1, ?_⟩
      rcases q2 with q2 | ⟨n, hn, hlt⟩
      · exact Or.inl q2
      · exact Or.inr ⟨n, hn, Int.lt_of_lt_of_le hlt (s6 n (bw_adj_cl hk hn))⟩
    · obtain ⟨q1, q2⟩ := s7 k hk hne
      exact ⟨q1, Or.inr q2⟩
  have loop : ∀ (n : Nat) (d : Int) (l4 : Option jm_V) (g : jm_S), 0 ≤ d → d + n = 6 → jm_okS D_B g → g 4 = e 4 → g 8 = e 8 → bw_Ev σ g → bw_Ot f σ g → (∀ x, e 5 x = 1 → g 5 x = 1) → (∀ j, (0 ≤ j ∧ j < d) → 0 ≤ bw_nb c j → 0 < bw_F e f (bw_nb c j) → g 5 (bw_nb c j) = 1) → jm_Ok D_B fi_B (jm_look L_B_renew) k_B_renew none Q 28 [some (.inr none), some (.inl f), some (.inl c), some (.inl d), l4] [] g := by
    intro n
    induction n with
    | zero =>
      intro d l4 g hd0 hn hsg g4 g8 hEg hOg g5 gm
      refine jm_Ok.go 60 [76] ?_
      refine ⟨fun _ => ?_, fun _ => by omega⟩
      refine fin _ _ g g4 g8 hEg hOg g5 fun _ n hn hp => ?_
      obtain ⟨j, hj, rfl, h0⟩ := hn
      exact gm j (by omega) h0 hp
    | succ n ih =>
      intro d l4 g hd0 hn hsg g4 g8 hEg hOg g5 gm
      have hk := bw_nb_rg hc (show 0 ≤ d ∧ d < 6 by omega)
      refine jm_Ok.go 60 [28] ?_
      refine ⟨fun _ => by omega, fun _ => ⟨⟨hc, by omega⟩, ?_⟩⟩
      rintro k g - ⟨rfl, rfl⟩
      have skip : (0 ≤ bw_nb c d → ¬ 0 < bw_F e f (bw_nb c d)) → ∀ j, (0 ≤ j ∧ j < d + 1) → 0 ≤ bw_nb c j → 0 < bw_F e f (bw_nb c j) → g 5 (bw_nb c j) = 1 := by
        intro hz j hj q1 q2
        by_cases hjd : j = d
        · subst hjd; exact absurd q2 (hz q1)
        · exact gm j (by omega) q1 q2
      refine ⟨fun hk0 => ?_, fun hk0 => ?_⟩
      · exact ⟨by omega, ih (d + 1) _ g (by omega) (by omega) hsg g4 g8 hEg hOg g5 (skip (fun q => by omega))⟩
      · refine ⟨by omega, by omega, by omega, fun v hv _ _ => ⟨fun hle => ?_, fun hgt => ?_⟩⟩
        · refine ⟨by omega, ih (d + 1) _ g (by omega) (by omega) hsg g4 g8 hEg hOg g5 (skip (fun _ q => ?_))⟩
          unfold bw_F at q
          rw [g4] at hv
          omega
        · refine ⟨by omega, by omega, by omega, ih (d + 1) _ _ (by omega) (by omega) (hsg.up (by decide)) ?_ ?_ ?_ hOg ?_ ?_⟩
          · exact g4
          · exact g8
          · obtain ⟨a1, b1, c1, d1, e1⟩ := hEg
            refine ⟨fun k h3 h4 h5 h6 h7 h8 h9 h10 => ?_, b1, c1, d1, e1⟩
            rw [← a1 k h3 h4 h5 h6 h7 h8 h9 h10]; simp [jm_up, h5]
          · intro x hx; simp [jm_up, g5 x hx]
          · intro j hj q1 q2
            by_cases hjd : j = d
            · simp [jm_up, hjd]
            · simp [jm_up, gm j (by omega) q1 q2]
  refine ⟨fun hr0 => fin _ _ e rfl rfl hEe hOe (fun _ q => q) (fun hps => ?_), fun hr0 => ?_⟩
  · rcases hr with ⟨q, -⟩ | ⟨-, q⟩
    · omega
    · exact absurd hps q
  · exact loop 6 0 _ e (by omega) (by omega) hse rfl rfl hEe hOe (fun _ q => q) (fun j hj => by omega)
end
section
/-! isFed, due, feedAround; the component's invariant -/
def bw_fed (B O P : Int → Int) (c : Int) : Prop := bw_drv B O c ∨ (B c ≠ 5 ∧ ∃ n, bw_adj c n ∧ B n = 5 ∧ 0 < P n)
def bw_due (B O P : Int → Int) (c : Int) : Prop := c < 64 ∨ (B (c - 64) ≠ 6 ∧ O (c - 64) = 0 ∧ (B (c - 64) ≠ 5 ∨ P (c - 64) = 0))
theorem bw_F_2 (σ : jm_S) (k : Int) : bw_F σ 2 k = σ 4 (768 + k) := rfl
theorem bw_F_1 (σ : jm_S) (k : Int) : bw_F σ 1 k = σ 4 (384 + k) := rfl
theorem bw_F_0 (σ : jm_S) (k : Int) : bw_F σ 0 k = σ 4 k := by simp [bw_F]
def sp_B_isFed : jm_K := (false, 1, false, fun as _ => (match as with
  | [c] => bw_cl c
  | _ => False), fun as σ r σ' => (match as with
  | [c] => ((r = 1 ∧ bw_fed (σ 0) (σ 2) (bw_F σ 2) c) ∨ (r = 0 ∧ ¬ bw_fed (σ 0) (σ 2) (bw_F σ 2) c)) ∧ σ' = σ
  | _ => False))
def L_B_isFed : List (Nat × jm_K) := [(58, sp_B_near), (62, sp_B_feeds)]
set_option maxHeartbeats 4000000 in
set_option maxRecDepth 100000 in
theorem con_B_isFed : jm_Con classes D_B 17 ks_B 0 y_B_isFed b_B_isFed 4 (jm_rt (some true)) 1 sp_B_isFed := by
  refine jm_con2 (L := L_B_isFed) (code := k_B_isFed) CF_B rfl (by decide) ck_B_isFed ⟨⟨y_B_near, b_B_near, 2, jm_rt (some false), 0, by decide, con_B_near, lk_B_near _ _, rfl⟩, ⟨y_B_feeds, b_B_feeds, 3, jm_rt (some true), 0, by decide, con_B_feeds, lk_B_feeds _ _, rfl⟩, trivial⟩ (by decide) ?_
  intro σ as hl hr hs hp Q hQ
  obtain ⟨c, rfl⟩ := jm_a1 hl
  have hc : bw_cl c := hp
  have loop : ∀ (n : Nat) (d : Int) (l3 : Option jm_V), 0 ≤ d → d + n = 6 → (∀ e, (0 ≤ e ∧ e < d) → ¬ bw_mk (σ 0) (σ 2) c e ∧ ¬ (σ 0 c ≠ 5 ∧ 0 ≤ bw_nb c e ∧ σ 0 (bw_nb c e) = 5 ∧ 0 < bw_F σ 2 (bw_nb c e))) → jm_Ok D_B fi_B (jm_look L_B_isFed) k_B_isFed (some true) Q 2 [some (.inr none), some (.inl c), some (.inl d), l3] [] σ := by
    intro n
    induction n with
    | zero =>
      intro d l3 h0 h1 h2
      refine jm_Ok.go 60 [] ?_
      refine ⟨fun _ => ⟨by omega, hQ _ _ ⟨Or.inr ⟨rfl, ?_⟩, rfl⟩⟩, fun _ => by omega⟩
      rintro (⟨e, he, q⟩ | ⟨q1, n, ⟨e, he, rfl, hn0⟩, q2, q3⟩)
      · exact (h2 e (by omega)).1 q
      · exact (h2 e (by omega)).2 ⟨q1, hn0, q2, q3⟩
    | succ n ih =>
      intro d l3 h0 h1 h2
      have hk := bw_nb_rg hc (show 0 ≤ d ∧ d < 6 by omega)
      refine jm_Ok.go 60 [67] ?_
      refine ⟨fun _ => by omega, fun _ => ⟨⟨hc, by omega⟩, ?_⟩⟩
      rintro k σ - ⟨rfl, rfl⟩
      have skip : (¬ bw_mk (σ 0) (σ 2) c d ∧ ¬ (σ 0 c ≠ 5 ∧ 0 ≤ bw_nb c d ∧ σ 0 (bw_nb c d) = 5 ∧ 0 < bw_F σ 2 (bw_nb c d))) → jm_Ok D_B fi_B (jm_look L_B_isFed) k_B_isFed (some true) Q 67 [some (.inr none), some (.inl c), some (.inl d), some (.inl (bw_nb c d))] [] σ := by
        intro hn
        refine jm_Ok.go 60 [2] ?_
        refine ⟨by omega, ih (d + 1) _ (by omega) (by omega) fun e he => ?_⟩
        by_cases hed : e = d
        · subst hed; exact hn
        · exact h2 e (by omega)
      refine ⟨fun hk0 => ?_, fun hk0 => skip (by constructor <;> omega)⟩
      refine ⟨by omega, ⟨hk0, by omega⟩, ?_⟩
      rintro r σ - ⟨hr, rfl⟩
      refine ⟨fun hr0 => ?_, fun hr0 => ?_⟩
      · refine ⟨by omega, hQ _ _ ⟨Or.inl ⟨rfl, Or.inl ⟨d, by omega, hk0, by omega⟩⟩, rfl⟩⟩
      · refine ⟨by omega, fun b hb _ _ => ⟨fun hb5 => skip (by constructor <;> omega), fun hb5 => ?_⟩⟩
        refine ⟨by omega, fun b2 hb2 _ _ => ⟨fun h5 => skip (by constructor <;> omega), fun h5 => ?_⟩⟩
        refine ⟨by omega, by omega, fun w hw _ _ => ⟨fun hle => skip ?_, fun hgt => ?_⟩⟩
        · rw [bw_F_2]; constructor <;> omega
        · refine ⟨by omega, hQ _ _ ⟨Or.inl ⟨rfl, Or.inr ⟨by omega, bw_nb c d, bw_adj_of (by omega) hk0, by omega, by rw [bw_F_2]; omega⟩⟩, rfl⟩⟩
  refine jm_Ok.go 60 [2] ?_
  exact loop 6 0 _ (by omega) (by omega) (fun e he => by omega)
def sp_B_due : jm_K := (false, 1, false, fun as _ => (match as with
  | [c] => bw_cl c
  | _ => False), fun as σ r σ' => (match as with
  | [c] => ((r = 1 ∧ bw_due (σ 0) (σ 2) (bw_F σ 2) c) ∨ (r = 0 ∧ ¬ bw_due (σ 0) (σ 2) (bw_F σ 2) c)) ∧ σ' = σ
  | _ => False))
def L_B_due : List (Nat × jm_K) := [(58, sp_B_near)]
set_option maxHeartbeats 4000000 in
set_option maxRecDepth 100000 in
theorem con_B_due : jm_Con classes D_B 17 ks_B 0 y_B_due b_B_due 3 (jm_rt (some true)) 1 sp_B_due := by
  refine jm_con2 (L := L_B_due) (code := k_B_due) CF_B rfl (by decide) ck_B_due ⟨⟨y_B_near, b_B_near, 2, jm_rt (some false), 0, by decide, con_B_near, lk_B_near _ _, rfl⟩, trivial⟩ (by decide) ?_
  intro σ as hl hr hs hp Q hQ
  obtain ⟨c, rfl⟩ := jm_a1 hl
  have hc : bw_cl c := hp
  have e : bw_nb c 1 = if c < 64 then -1 else c - 64 := rfl
  refine jm_Ok.go 60 [] ?_
  refine ⟨⟨hc, by omega⟩, ?_⟩
  rintro k σ - ⟨rfl, rfl⟩
  rw [e]
  split
  · refine ⟨fun q => by omega, fun _ => ⟨by omega, hQ _ _ ⟨Or.inl ⟨rfl, Or.inl (by assumption)⟩, rfl⟩⟩⟩
  · rename_i h64
    refine ⟨fun _ => ?_, fun _ => by omega⟩
    refine ⟨by omega, fun b hb _ _ => ⟨fun h6 => ?_, fun h6 => ?_⟩⟩
    · refine ⟨by omega, hQ _ _ ⟨Or.inr ⟨rfl, ?_⟩, rfl⟩⟩
      unfold bw_due; omega
    · refine ⟨by omega, fun w hw _ _ => ⟨fun h1 => ?_, fun h1 => ?_⟩⟩
      · refine ⟨by omega, hQ _ _ ⟨Or.inr ⟨rfl, ?_⟩, rfl⟩⟩
        unfold bw_due; omega
      · refine ⟨by omega, fun b2 hb2 _ _ => ⟨fun h5 => ?_, fun h5 => ?_⟩⟩
        · refine ⟨by omega, hQ _ _ ⟨Or.inl ⟨rfl, ?_⟩, rfl⟩⟩
          unfold bw_due; omega
        · refine ⟨by omega, by omega, fun p hp _ _ => ⟨fun hn => ?_, fun hz => ?_⟩⟩
          · refine ⟨by omega, hQ _ _ ⟨Or.inr ⟨rfl, ?_⟩, rfl⟩⟩
            unfold bw_due; rw [bw_F_2]; omega
          · refine ⟨by omega, hQ _ _ ⟨Or.inl ⟨rfl, ?_⟩, rfl⟩⟩
            unfold bw_due; rw [bw_F_2]; omega
/-! a field is right: by cells -/
def bw_G (σ : jm_S) (f k : Int) : Prop := bw_gd (bw_ps (σ 0) f) (bw_bg (σ 0) (σ 2) (σ 11) f) (bw_F σ f) k
def bw_AA (σ : jm_S) (f : Int) : Prop := bw_A (bw_ps (σ 0) f) (bw_F σ f)
theorem bw_RO.pre {σ : jm_S} {f : Int} (h : bw_AA σ f) (c : Int) : ∀ k, bw_cl k → k ≠ c → bw_ps (σ 0) f k → ∀ n, bw_adj k n → bw_F σ f n - 1 ≤ bw_F σ f k := fun k hk _ hps n hn => h k hk hps n hn
theorem bw_RO.AA {σ σ' : jm_S} {f c : Int} (h : bw_RO σ σ' f c) : bw_AA σ' f := by
  unfold bw_AA; rw [h.1.at0]; exact h.2.2.2.1
theorem bw_RO.G {σ σ' : jm_S} {f c : Int} (h : bw_RO σ σ' f c) {k : Int} (hk : bw_cl k) (hg : k = c ∨ bw_G σ f k) : bw_G σ' f k := by
  unfold bw_G; rw [h.1.at0, h.1.at2, h.1.at11]; exact h.2.2.2.2 k hk hg
theorem bw_gd_congr {ps ps' : Int → Prop} {bg bg' F F' : Int → Int} {k : Int} (hk : bw_cl k) (h1 : ps k ↔ ps' k) (h2 : bg' k = bg k) (h3 : ∀ x, bw_cl x → F' x = F x) (h : bw_gd ps bg F k) : bw_gd ps' bg' F' k := by
  obtain ⟨a, b⟩ := h
  unfold bw_gd
  rw [← h1, h2, h3 k hk]
  refine ⟨a, fun hp => ⟨(b hp).1, ?_⟩⟩
  rcases (b hp).2 with q | ⟨n, hn, hlt⟩
  · exact Or.inl q
  · exact Or.inr ⟨n, hn, by rw [h3 n (bw_adj_cl hk hn)]; exact hlt⟩
theorem bw_A_congr {ps ps' : Int → Prop} {F F' : Int → Int} (h1 : ∀ k, bw_cl k → ps' k → ps k) (h3 : ∀ x, bw_cl x → F' x = F x) (h : bw_A ps F) : bw_A ps' F' := by
  intro k hk hps n hn
  rw [h3 k hk, h3 n (bw_adj_cl hk hn)]
  exact h k hk (h1 k hk hps) n hn
theorem bw_drv_congr {B O O' : Int → Int} {c : Int} (hc : bw_cl c) (hO : ∀ x, bw_cl x → B x = 7 → O' x = O x) : bw_drv B O c ↔ bw_drv B O' c := by
  constructor
  · rintro ⟨d, hd, h0, q⟩
    refine ⟨d, hd, h0, ?_⟩
    rcases q with q | ⟨q1, q2, q3⟩
    · exact Or.inl q
    · exact Or.inr ⟨q1, by rw [hO _ ⟨h0, (bw_nb_rg hc hd).2⟩ q1]; exact q2, q3⟩
  · rintro ⟨d, hd, h0, q⟩
    refine ⟨d, hd, h0, ?_⟩
    rcases q with q | ⟨q1, q2, q3⟩
    · exact Or.inl q
    · exact Or.inr ⟨q1, by rw [← hO _ ⟨h0, (bw_nb_rg hc hd).2⟩ q1]; exact q2, q3⟩
theorem bw_fed_congr {B O O' P P' : Int → Int} {c : Int} (hc : bw_cl c) (hO : ∀ x, bw_cl x → B x = 7 → O' x = O x) (hP : ∀ x, bw_cl x → P' x = P x) : bw_fed B O P c ↔ bw_fed B O' P' c := by
  unfold bw_fed
  rw [bw_drv_congr hc hO]
  have : (∃ n, bw_adj c n ∧ B n = 5 ∧ 0 < P n) ↔ (∃ n, bw_adj c n ∧ B n = 5 ∧ 0 < P' n) := by
    constructor
    · rintro ⟨n, hn, q1, q2⟩
      exact ⟨n, hn, q1, by rw [hP n (bw_adj_cl hc hn)]; exact q2⟩
    · rintro ⟨n, hn, q1, q2⟩
      exact ⟨n, hn, q1, by rw [← hP n (bw_adj_cl hc hn)]; exact q2⟩
  rw [this]
theorem bw_bgP_congr {B O O' : Int → Int} {c : Int} (hc : bw_cl c) (hO : ∀ x, bw_cl x → B x = 7 → O' x = O x) : bw_bgP B O' c = bw_bgP B O c := by
  have h := bw_drv_congr hc hO
  rcases Classical.em (B c = 5 ∧ bw_drv B O c) with q | q
  · rw [bw_bgP_1 q, bw_bgP_1 ⟨q.1, h.mp q.2⟩]
  · rw [bw_bgP_0 q, bw_bgP_0 (fun z => q ⟨z.1, h.mpr z.2⟩)]
def sp_B_feedAround : jm_K := (false, 1, true, fun as σ => (match as with
  | [c] => bw_cl c ∧ σ 8 0 = 0 ∧ bw_AA σ 2
  | _ => False), fun as σ _ σ' => (match as with
  | [c] => bw_Ev σ σ' ∧ bw_Ot 2 σ σ' ∧ σ' 8 0 = 0 ∧ bw_AA σ' 2 ∧ (∀ k, bw_cl k → (bw_G σ 2 k ∨ (bw_adj c k ∧ σ 0 k = 5)) → bw_G σ' 2 k) ∧ (∀ n, bw_adj c n → bw_Sn σ' n)
  | _ => False))
theorem bw_Fl.ev {σ σ' : jm_S} (h : bw_Fl σ σ') : bw_Ev σ σ' := bw_Ev_of (f := 0) (c := 0) (fun _ _ _ _ _ _ => rfl) (fun _ _ q => absurd rfl q) h (fun q => by omega)
theorem bw_Fl.ot {σ σ' : jm_S} (h : bw_Fl σ σ') (f : Int) : bw_Ot f σ σ' := fun g c _ _ _ => by unfold bw_F; rw [h.1 4 (by decide) (by decide) (by decide)]
theorem bw_Fl.G {σ σ' : jm_S} (h : bw_Fl σ σ') {f k : Int} (g : bw_G σ f k) : bw_G σ' f k := by
  unfold bw_G bw_F at g ⊢
  rw [h.1 0 (by decide) (by decide) (by decide), h.1 2 (by decide) (by decide) (by decide), h.1 11 (by decide) (by decide) (by decide), h.1 4 (by decide) (by decide) (by decide)]
  exact g
theorem bw_Fl.AA {σ σ' : jm_S} (h : bw_Fl σ σ') {f : Int} (g : bw_AA σ f) : bw_AA σ' f := by
  unfold bw_AA bw_F at g ⊢
  rw [h.1 0 (by decide) (by decide) (by decide), h.1 4 (by decide) (by decide) (by decide)]
  exact g
def L_B_feedAround : List (Nat × jm_K) := [(58, sp_B_near), (100, sp_B_notice), (114, sp_B_renew)]
set_option maxHeartbeats 4000000 in
set_option maxRecDepth 100000 in
theorem con_B_feedAround : jm_Con classes D_B 17 ks_B 0 y_B_feedAround b_B_feedAround 4 (jm_rt none) 6 sp_B_feedAround := by
  refine jm_con2 (L := L_B_feedAround) (code := k_B_feedAround) CF_B rfl (by decide) ck_B_feedAround ⟨⟨y_B_near, b_B_near, 2, jm_rt (some false), 0, by decide, con_B_near, lk_B_near _ _, rfl⟩, ⟨y_B_notice, b_B_notice, 2, jm_rt none, 0, by decide, con_B_notice, lk_B_notice _ _, rfl⟩, ⟨y_B_renew, b_B_renew, 5, jm_rt none, 5, by decide, con_B_renew, lk_B_renew _ _, rfl⟩, trivial⟩ (by decide) ?_
  intro σ as hl hr hs hp Q hQ
  obtain ⟨c, rfl⟩ := jm_a1 hl
  obtain ⟨hc, h8, hA⟩ := hp
  have loop : ∀ (n : Nat) (d : Int) (l3 : Option jm_V) (τ : jm_S), 0 ≤ d → d + n = 6 → bw_Ev σ τ → bw_Ot 2 σ τ → τ 8 0 = 0 → bw_AA τ 2 → (∀ k, bw_cl k → (bw_G σ 2 k ∨ (σ 0 k = 5 ∧ ∃ e, (0 ≤ e ∧ e < d) ∧ bw_nb c e = k)) → bw_G τ 2 k) → (∀ e, (0 ≤ e ∧ e < d) → 0 ≤ bw_nb c e → bw_Sn τ (bw_nb c e)) → jm_Ok D_B fi_B (jm_look L_B_feedAround) k_B_feedAround none Q 2 [some (.inr none), some (.inl c), some (.inl d), l3] [] τ := by
    intro n
    induction n with
    | zero =>
      intro d l3 τ h0 h1 hE hO h8 hA hG hS
      refine jm_Ok.go 60 [] ?_
      refine ⟨fun _ => hQ _ _ ⟨hE, hO, h8, hA, ?_, ?_⟩, fun _ => by omega⟩
      · intro k hk q
        refine hG k hk ?_
        rcases q with q | ⟨⟨e, he, q1, q2⟩, q3⟩
        · exact Or.inl q
        · exact Or.inr ⟨q3, e, by omega, q1⟩
      · rintro n ⟨e, he, rfl, q2⟩
        exact hS e (by omega) q2
    | succ n ih =>
      intro d l3 τ h0 h1 hE hO h8 hA hG hS
      have hk := bw_nb_rg hc (show 0 ≤ d ∧ d < 6 by omega)
      refine jm_Ok.go 60 [42] ?_
      refine ⟨fun _ => by omega, fun _ => ⟨⟨hc, by omega⟩, ?_⟩⟩
      rintro k τ - ⟨rfl, rfl⟩
      have next : ∀ τ', bw_Ev σ τ' → bw_Ot 2 σ τ' → τ' 8 0 = 0 → bw_AA τ' 2 → (∀ k, bw_cl k → (bw_G σ 2 k ∨ (σ 0 k = 5 ∧ ∃ e, (0 ≤ e ∧ e < d + 1) ∧ bw_nb c e = k)) → bw_G τ' 2 k) → (∀ e, (0 ≤ e ∧ e < d + 1) → 0 ≤ bw_nb c e → bw_Sn τ' (bw_nb c e)) → jm_Ok D_B fi_B (jm_look L_B_feedAround) k_B_feedAround none Q 42 [some (.inr none), some (.inl c), some (.inl d), some (.inl (bw_nb c d))] [] τ' := by
        intro τ' a1 a2 a3 a4 a5 a6
        refine jm_Ok.go 60 [2] ?_
        exact ⟨by omega, ih (d + 1) _ τ' (by omega) (by omega) a1 a2 a3 a4 a5 a6⟩
      refine ⟨fun hk0 => ?_, fun hk0 => ?_⟩
      · have hkc : bw_cl (bw_nb c d) := ⟨hk0, by omega⟩
        refine ⟨hkc, ?_⟩
        rintro _ τ1 - ⟨g1, g2⟩
        have hE1 := hE.tr g1.ev
        have eB := hE1.at0
        have hO1 := hO.tr (g1.ot 2)
        have h81 : τ1 8 0 = 0 := by rw [g1.1 8 (by decide) (by decide) (by decide)]; exact h8
        have hS1 : ∀ e, (0 ≤ e ∧ e < d + 1) → 0 ≤ bw_nb c e → bw_Sn τ1 (bw_nb c e) := by
          intro e he q
          by_cases hed : e = d
          · subst hed; exact g2
          · exact g1.sn (hS e (by omega) q)
        have hG1 : ∀ k, bw_cl k → (bw_G σ 2 k ∨ (σ 0 k = 5 ∧ ∃ e, (0 ≤ e ∧ e < d) ∧ bw_nb c e = k)) → bw_G τ1 2 k := fun k hk q => g1.G (hG k hk q)
        refine ⟨by omega, fun b hb _ _ => ⟨fun h5 => ?_, fun h5 => ?_⟩⟩
        · refine next τ1 hE1 hO1 h81 (g1.AA hA) ?_ hS1
          intro k hk q
          refine hG1 k hk ?_
          rcases q with q | ⟨q1, e, he, q2⟩
          · exact Or.inl q
          · refine Or.inr ⟨q1, e, ?_, q2⟩
            by_cases hed : e = d
            · subst hed
              rw [eB] at hb
              rw [q2] at hb
              omega
            · omega
        · refine ⟨⟨by omega, hkc, h81, bw_RO.pre (g1.AA hA) _⟩, ?_⟩
          rintro _ τ2 - hr
          have hr : bw_RO τ1 τ2 2 (bw_nb c d) := hr
          refine next τ2 (hE1.tr hr.1) (hO1.tr hr.2.1) hr.2.2.1 hr.AA ?_ (fun e he q => hr.1.sn (hS1 e he q))
          intro k hk q
          refine hr.G hk ?_
          rcases q with q | ⟨q1, e, he, q2⟩
          · exact Or.inr (hG1 k hk (Or.inl q))
          · by_cases hed : e = d
            · subst hed; exact Or.inl q2.symm
            · exact Or.inr (hG1 k hk (Or.inr ⟨q1, e, by omega, q2⟩))
      · refine next τ hE hO h8 hA ?_ ?_
        · intro k hk q
          refine hG k hk ?_
          rcases q with q | ⟨q1, e, he, q2⟩
          · exact Or.inl q
          · refine Or.inr ⟨q1, e, ?_, q2⟩
            by_cases hed : e = d
            · subst hed; omega
            · omega
        · intro e he q
          by_cases hed : e = d
          · subst hed; omega
          · exact hS e (by omega) q
  refine jm_Ok.go 60 [2] ?_
  refine loop 6 0 _ σ (by omega) (by omega) (bw_Ev.rf σ) (bw_Ot.rf 2 σ) h8 hA ?_ (fun e he => by omega)
  intro k hk q
  rcases q with q | ⟨-, e, he, -⟩
  · exact q
  · omega
end
section
/-! the component's invariant; lampsLook -/
def bw_flds (σ : jm_S) : Prop := ∀ f, (0 ≤ f ∧ f ≤ 2) → bw_AA σ f ∧ ∀ k, bw_cl k → bw_G σ f k
def bw_onOK (σ : jm_S) : Prop := ∀ c, bw_cl c → σ 2 c = 1 → σ 0 c = 7 ∨ σ 0 c = 8
def bw_look (σ : jm_S) : Prop := ∀ c, bw_cl c → σ 0 c = 7 → σ 3 c = 0 → (σ 2 c = 1 ↔ bw_due (σ 0) (σ 2) (bw_F σ 2) c)
def bw_lamp (σ : jm_S) : Prop := ∀ c, bw_cl c → σ 0 c = 8 → σ 9 c = 0 → (σ 2 c = 1 ↔ bw_fed (σ 0) (σ 2) (bw_F σ 2) c)
def bw_any (σ : jm_S) (b : Int) : Prop := ∀ c, bw_cl c → σ 9 c = 1 → σ 10 0 = 1 ∨ b ≤ c
def bw_cntOK (σ : jm_S) : Prop := ∀ b, (0 ≤ b ∧ b < 10) → σ 12 b = bw_cnt (fun x => decide (σ 0 x = b)) 384
def bw_roofOK (σ : jm_S) : Prop := ∀ m, (0 ≤ m ∧ m < 64) → (∀ y, σ 11 m ≤ y → y < 6 → ¬ bw_op (σ 0 (64 * y + m))) ∧ (0 < σ 11 m → bw_op (σ 0 (64 * (σ 11 m - 1) + m)))
def bw_stgOK (σ : jm_S) : Prop := ∀ c, bw_cl c → σ 0 c ≠ 9 → σ 1 c = 0
def bw_J (σ : jm_S) : Prop := σ 8 0 = 0 ∧ bw_flds σ ∧ bw_onOK σ ∧ bw_look σ ∧ bw_lamp σ ∧ bw_cntOK σ ∧ bw_roofOK σ ∧ bw_stgOK σ
/-- the invariant between two changes of a block -/
def bw_I (σ : jm_S) : Prop := bw_J σ ∧ bw_any σ 384
/-- what lamps and fields leave -/
def bw_fr (σ τ : jm_S) : Prop := τ 0 = σ 0 ∧ τ 1 = σ 1 ∧ τ 11 = σ 11 ∧ τ 12 = σ 12 ∧ τ 13 = σ 13 ∧ τ 14 = σ 14 ∧ τ 15 = σ 15 ∧ τ 16 = σ 16 ∧ ∀ x, σ 0 x ≠ 8 → τ 2 x = σ 2 x
theorem bw_fr.rf (σ : jm_S) : bw_fr σ σ := ⟨rfl, rfl, rfl, rfl, rfl, rfl, rfl, rfl, fun _ _ => rfl⟩
theorem bw_fr.tr {a b c : jm_S} (h : bw_fr a b) (g : bw_fr b c) : bw_fr a c := by
  obtain ⟨h0, h1, h2, h3, h4, h5, h6, h7, h8⟩ := h
  obtain ⟨g0, g1, g2, g3, g4, g5, g6, g7, g8⟩ := g
  exact ⟨g0.trans h0, g1.trans h1, g2.trans h2, g3.trans h3, g4.trans h4, g5.trans h5, g6.trans h6, g7.trans h7, fun x hx => (g8 x (by rw [h0]; exact hx)).trans (h8 x hx)⟩
theorem bw_Ev.fr {a b : jm_S} (h : bw_Ev a b) : bw_fr a b := by
  have e : ∀ k, k ≠ 3 → k ≠ 4 → k ≠ 5 → k ≠ 6 → k ≠ 7 → k ≠ 8 → k ≠ 9 → k ≠ 10 → b k = a k := h.1
  refine ⟨?_, ?_, ?_, ?_, ?_, ?_, ?_, ?_, fun x _ => ?_⟩ <;> first | (apply e <;> decide) | (rw [e 2 (by decide) (by decide) (by decide) (by decide) (by decide) (by decide) (by decide) (by decide)])
/-- how many lamps are wrong -/
noncomputable def bw_wr (σ : jm_S) : Int := bw_cnt (fun c => @decide (σ 0 c = 8 ∧ ¬ (σ 2 c = 1 ↔ bw_fed (σ 0) (σ 2) (bw_F σ 2) c)) (Classical.propDecidable _)) 384
def sp_B_lampsLook : jm_K := (false, 0, true, fun as σ => (match as with
  | [] => bw_I σ
  | _ => False), fun as σ _ σ' => (match as with
  | [] => bw_I σ' ∧ σ' 10 0 = 0 ∧ bw_fr σ σ'
  | _ => False))
/-- a lamp's flag is taken off: it is right, or no lamp -/
theorem bw_J_clear {τ : jm_S} {c : Int} (h : bw_J τ) (hr : τ 0 c = 8 → (τ 2 c = 1 ↔ bw_fed (τ 0) (τ 2) (bw_F τ 2) c)) : bw_J (jm_up τ 9 c 0) := by
  obtain ⟨h1, h2, h3, h4, h5, h6, h7, h8⟩ := h
  refine ⟨h1, h2, h3, h4, ?_, h6, h7, h8⟩
  intro x hx h8 h9
  by_cases hxc : x = c
  · subst hxc; exact hr h8
  · refine h5 x hx h8 ?_
    simpa [jm_up, hxc] using h9
/-- a lamp changes: the whole step -/
theorem bw_lamp_step {τ τ3 τ4 : jm_S} {c now : Int} (h : bw_J τ) (hs : jm_okS D_B τ) (hc : bw_cl c) (h8 : τ 0 c = 8) (hn : now = 0 ∨ now = 1) (hnow : now = 1 ↔ bw_fed (τ 0) (τ 2) (bw_F τ 2) c) (hne : now ≠ τ 2 c)
    (hr : bw_RO (jm_up (jm_up τ 9 c 0) 2 c now) τ3 0 c) (hf : bw_Fl τ3 τ4) (hsn : c < 320 → bw_Sn τ4 (c + 64)) :
    bw_J τ4 ∧ bw_fr τ τ4 ∧ (∀ x, bw_cl x → τ4 9 x = 1 → τ4 10 0 = 1 ∨ (x ≠ c ∧ τ 9 x = 1)) ∧ bw_wr τ4 = bw_wr τ - 1 := by
  have hoc : τ 2 c = 0 ∨ τ 2 c = 1 := by
    have h1 := hs 2 c hc.1 (Or.inl hc.2)
    have h2 : (0 : Int) ≤ τ 2 c := h1.1
    have h3 : τ 2 c ≤ 1 := h1.2
    omega
  obtain ⟨j1, j2, j3, j4, j5, j6, j7, j8⟩ := h
  have hE : bw_Ev (jm_up (jm_up τ 9 c 0) 2 c now) τ4 := hr.1.tr hf.ev
  have hO : bw_Ot 0 (jm_up (jm_up τ 9 c 0) 2 c now) τ4 := hr.2.1.tr (hf.ot 0)
  have e0 : τ4 0 = τ 0 := hE.at0
  have e2 : τ4 2 = jm_up (jm_up τ 9 c 0) 2 c now 2 := hE.at2
  have e11 : τ4 11 = τ 11 := hE.at11
  have e2c : τ4 2 c = now := by rw [e2]; simp [jm_up]
  have e2x : ∀ x, x ≠ c → τ4 2 x = τ 2 x := fun x hx => by rw [e2]; simp [jm_up, hx]
  have e27 : ∀ x, bw_cl x → τ 0 x = 7 → τ4 2 x = τ 2 x := fun x _ h7 => e2x x (fun q => by rw [q] at h7; omega)
  have eF : ∀ g x, (0 ≤ g ∧ g ≤ 2) → g ≠ 0 → bw_cl x → bw_F τ4 g x = bw_F τ g x := fun g x hg hne hx => hO g x hg hne hx
  have eP : ∀ x, bw_cl x → bw_F τ4 2 x = bw_F τ 2 x := fun x hx => eF 2 x (by omega) (by omega) hx
  have efed : ∀ x, bw_cl x → (bw_fed (τ 0) (τ 2) (bw_F τ 2) x ↔ bw_fed (τ4 0) (τ4 2) (bw_F τ4 2) x) := fun x hx => by rw [e0]; exact bw_fed_congr hx e27 eP
  have e8 : τ4 8 0 = 0 := by rw [hf.1 8 (by decide) (by decide) (by decide)]; exact hr.2.2.1
  have e9 : ∀ x, x ≠ c → τ4 9 x = τ 9 x ∨ (τ4 9 x = 1 ∧ τ4 10 0 = 1) := fun x hx => by
    have := hE.2.2.1 x
    simpa [jm_up, hx] using this
  have hfr : bw_fr τ τ4 := by
    obtain ⟨a0, a1, a2, a3, a4, a5, a6, a7, -⟩ := hE.fr
    exact ⟨a0, a1, a2, a3, a4, a5, a6, a7, fun x hx => e2x x (fun q => hx (by rw [q]; exact h8))⟩
  refine ⟨⟨e8, ?_, ?_, ?_, ?_, ?_, ?_, ?_⟩, hfr, ?_, ?_⟩
  · intro f hf2
    by_cases h0 : f = 0
    · subst h0
      refine ⟨hf.AA hr.AA, fun k hk => hf.G (hr.G hk ?_)⟩
      by_cases hkc : k = c
      · exact Or.inl hkc
      · right
        refine bw_gd_congr (F := bw_F τ 0) hk Iff.rfl ?_ (fun _ _ => rfl) ((j2 0 (by omega)).2 k hk)
        show bw_shn _ _ k = bw_shn _ _ k
        unfold bw_shn
        simp [jm_up, hkc]
    · refine ⟨bw_A_congr (fun k _ q => by rw [e0] at q; exact q) (fun x hx => eF f x hf2 h0 hx) (j2 f hf2).1, fun k hk => ?_⟩
      refine bw_gd_congr hk (by rw [e0]) ?_ (fun x hx => eF f x hf2 h0 hx) ((j2 f hf2).2 k hk)
      unfold bw_bg
      rw [if_neg h0, if_neg h0, e11, e0]
      split
      · rfl
      · exact bw_bgP_congr hk e27
  · intro x hx h1
    rw [e0]
    by_cases hxc : x = c
    · subst hxc; exact Or.inr h8
    · rw [e2x x hxc] at h1; exact j3 x hx h1
  · intro x hx h7 h3
    rw [e0] at h7
    have hxc : x ≠ c := fun q => by rw [q] at h7; omega
    have h3' : τ 3 x = 0 := by
      have := hE.2.1 x
      have e : jm_up (jm_up τ 9 c 0) 2 c now 3 x = τ 3 x := rfl
      rw [e] at this
      omega
    have hb : x - 64 ≠ c := by
      intro q
      have h320 : c < 320 := by omega
      have := (hsn h320).2
      rw [e0, show c + 64 = x by omega] at this
      have := this h7
      omega
    rw [e2x x hxc, j4 x hx h7 h3']
    unfold bw_due
    rw [e0, e2x _ hb]
    rcases Int.lt_or_le x 64 with q | q
    · simp [q]
    · rw [eP (x - 64) (by omega)]
  · intro x hx hx8 h9
    rw [e0] at hx8
    by_cases hxc : x = c
    · subst hxc
      rw [e2c, hnow]
      exact efed x hx
    · have h9' : τ 9 x = 0 := by have := e9 x hxc; omega
      rw [e2x x hxc, j5 x hx hx8 h9']
      exact efed x hx
  · intro b hb; rw [hfr.2.2.2.1, e0]; exact j6 b hb
  · intro m hm; rw [e11, e0]; exact j7 m hm
  · intro x hx h9; rw [hfr.2.1]; rw [e0] at h9; exact j8 x hx h9
  · intro x hx h9
    by_cases hxc : x = c
    · subst hxc
      left
      have := hE.2.2.1 x
      have e : jm_up (jm_up τ 9 x 0) 2 x now 9 x = 0 := by simp [jm_up]
      rw [e] at this
      omega
    · have := e9 x hxc
      rcases this with q | q
      · exact Or.inr ⟨hxc, by omega⟩
      · exact Or.inl q.2
  · unfold bw_wr
    have h1 := bw_cnt_set (p := fun c => @decide (τ 0 c = 8 ∧ ¬ (τ 2 c = 1 ↔ bw_fed (τ 0) (τ 2) (bw_F τ 2) c)) (Classical.propDecidable _)) (q := fun c => @decide (τ4 0 c = 8 ∧ ¬ (τ4 2 c = 1 ↔ bw_fed (τ4 0) (τ4 2) (bw_F τ4 2) c)) (Classical.propDecidable _)) (c := c) 384 (fun i hi0 hi1 hne => by
      have e := efed i ⟨hi0, hi1⟩
      rw [e2x i hne, e0]
      rw [e0] at e
      congr 1
      rw [e]) hc.1 hc.2
    rw [h1, if_neg, if_pos]
    · omega
    · refine @decide_eq_true _ (Classical.propDecidable _) ⟨h8, fun q => ?_⟩
      have : now = 1 ↔ τ 2 c = 1 := hnow.trans q.symm
      omega
    · intro q
      have := @of_decide_eq_true _ (Classical.propDecidable _) q
      exact this.2 (by rw [e2c, hnow]; exact efed c hc)
def L_B_lampsLook : List (Nat × jm_K) := [(117, sp_B_isFed), (114, sp_B_renew), (58, sp_B_near), (100, sp_B_notice)]
set_option maxHeartbeats 4000000 in
set_option maxRecDepth 100000 in
theorem con_B_lampsLook : jm_Con classes D_B 17 ks_B 0 y_B_lampsLook b_B_lampsLook 4 (jm_rt none) 6 sp_B_lampsLook := by
  refine jm_con2 (L := L_B_lampsLook) (code := k_B_lampsLook) CF_B rfl (by decide) ck_B_lampsLook ⟨⟨y_B_isFed, b_B_isFed, 4, jm_rt (some true), 1, by decide, con_B_isFed, lk_B_isFed _ _, rfl⟩, ⟨y_B_renew, b_B_renew, 5, jm_rt none, 5, by decide, con_B_renew, lk_B_renew _ _, rfl⟩, ⟨y_B_near, b_B_near, 2, jm_rt (some false), 0, by decide, con_B_near, lk_B_near _ _, rfl⟩, ⟨y_B_notice, b_B_notice, 2, jm_rt none, 0, by decide, con_B_notice, lk_B_notice _ _, rfl⟩, trivial⟩ (by decide) ?_
  intro σ as hl hr hs hp Q hQ
  obtain rfl := jm_a0 hl
  have hI : bw_I σ := hp
  have exit : ∀ (l1 l2 l3 : Option jm_V) (τ : jm_S), bw_J τ → bw_any τ 384 → bw_fr σ τ → τ 10 0 = 0 → jm_Ok D_B fi_B (jm_look L_B_lampsLook) k_B_lampsLook none Q 0 [some (.inr none), l1, l2, l3] [] τ := by
    intro l1 l2 l3 τ hJ ha hfr h0
    refine jm_Ok.go 60 [] ?_
    refine fun v hv _ _ => ⟨fun _ => hQ _ _ ⟨⟨hJ, ha⟩, h0, hfr⟩, fun q => by omega⟩
  have outer : ∀ (m : Nat) (l1 l2 l3 : Option jm_V) (τ : jm_S), jm_okS D_B τ → bw_J τ → bw_any τ 384 → bw_fr σ τ → bw_wr τ < m → jm_Ok D_B fi_B (jm_look L_B_lampsLook) k_B_lampsLook none Q 0 [some (.inr none), l1, l2, l3] [] τ := by
    intro m
    induction m with
    | zero =>
      intro l1 l2 l3 τ hs hJ ha hfr hw
      have := (bw_cnt_rg (fun c => @decide (τ 0 c = 8 ∧ ¬ (τ 2 c = 1 ↔ bw_fed (τ 0) (τ 2) (bw_F τ 2) c)) (Classical.propDecidable _)) 384).1
      unfold bw_wr at hw
      omega
    | succ m ihm =>
      intro l1 l2 l3 τ hs hJ ha hfr hw
      obtain ⟨w0, hw0⟩ : ∃ w, w = bw_wr τ := ⟨_, rfl⟩
      have inner : ∀ (n : Nat) (c : Int) (l2 l3 : Option jm_V) (τ : jm_S), 0 ≤ c → c + n = 384 → jm_okS D_B τ → bw_J τ → bw_any τ c → bw_fr σ τ → (bw_wr τ ≤ w0 ∧ (τ 10 0 = 1 → bw_wr τ ≤ w0 - 1)) → jm_Ok D_B fi_B (jm_look L_B_lampsLook) k_B_lampsLook none Q 14 [some (.inr none), some (.inl c), l2, l3] [] τ := by
        intro n
        induction n with
        | zero =>
          intro c l2 l3 τ hc0 hn hs hJ ha hfr hw
          have hc : c = 384 := by omega
          subst hc
          refine jm_Ok.go 60 [0] ?_
          refine ⟨fun _ => ?_, fun _ => by omega⟩
          have h10 := hs 10 0 (by omega) (Or.inr rfl)
          have h1 : (0 : Int) ≤ τ 10 0 := h10.1
          have h2 : τ 10 0 ≤ 1 := h10.2
          by_cases hz : τ 10 0 = 0
          · exact exit _ _ _ τ hJ ha hfr hz
          · exact ihm _ _ _ τ hs hJ ha hfr (by have := hw.2 (by omega); omega)
        | succ n ih =>
          intro c l2 l3 τ hc0 hn hs hJ ha hfr hw
          have hc : bw_cl c := ⟨hc0, by omega⟩
          have next : ∀ (l2 l3 : Option jm_V) (τ' : jm_S), jm_okS D_B τ' → bw_J τ' → bw_any τ' (c + 1) → bw_fr σ τ' → (bw_wr τ' ≤ w0 ∧ (τ' 10 0 = 1 → bw_wr τ' ≤ w0 - 1)) → jm_Ok D_B fi_B (jm_look L_B_lampsLook) k_B_lampsLook none Q 117 [some (.inr none), some (.inl c), l2, l3] [] τ' := by
            intro l2 l3 τ' a1 a2 a3 a4 a5
            refine jm_Ok.go 60 [14] ?_
            exact ⟨by omega, ih (c + 1) _ _ τ' (by omega) (by omega) a1 a2 a3 a4 a5⟩
          refine jm_Ok.go 60 [117, 64] ?_
          refine ⟨fun _ => by omega, fun _ => ⟨by omega, fun lc hlc _ _ => ⟨fun hl1 => ?_, fun hl0 => ?_⟩⟩⟩
          · refine ⟨by omega, by omega, by omega, fun b hb _ _ => ?_⟩
            have hb : b = τ 0 c := hb
            have clr : (τ 0 c = 8 → (τ 2 c = 1 ↔ bw_fed (τ 0) (τ 2) (bw_F τ 2) c)) → ∀ l2 l3 : Option jm_V, jm_Ok D_B fi_B (jm_look L_B_lampsLook) k_B_lampsLook none Q 117 [some (.inr none), some (.inl c), l2, l3] [] (jm_up τ 9 c 0) := by
              intro hr l2 l3
              refine next _ _ _ (hs.up (by decide)) (bw_J_clear hJ hr) ?_ hfr hw
              intro x hx h9
              by_cases hxc : x = c
              · simp [jm_up, hxc] at h9
              · have h9' : τ 9 x = 1 := by simpa [jm_up, hxc] using h9
                rcases ha x hx h9' with q | q
                · exact Or.inl q
                · exact Or.inr (by omega)
            have key : ∀ now : Int, (now = 0 ∨ now = 1) → (now = 1 ↔ τ 0 c = 8 ∧ bw_fed (τ 0) (τ 2) (bw_F τ 2) c) → jm_Ok D_B fi_B (jm_look L_B_lampsLook) k_B_lampsLook none Q 64 [some (.inr none), some (.inl c), l2, l3] [.inl now] (jm_up τ 9 c 0) := by
              intro now hn01 hnow
              refine jm_Ok.go 60 [117] ?_
              refine ⟨by omega, fun oc hoc _ _ => ⟨fun heq => ?_, fun hneq => ?_⟩⟩
              · have hoc : oc = τ 2 c := hoc
                refine clr (fun h8 => ?_) _ _
                rw [← hoc, ← heq, hnow]
                exact ⟨fun q => q.2, fun q => ⟨h8, q⟩⟩
              · have hoc : oc = τ 2 c := hoc
                refine ⟨by omega, fun b2 hb2 _ _ => ⟨fun h8 => ?_, fun h8 => ?_⟩⟩
                · have hb2 : b2 = τ 0 c := hb2
                  have h8 : τ 0 c = 8 := by omega
                  refine ⟨by omega, by omega, ⟨by omega, hc, hJ.1, bw_RO.pre (hJ.2.1 0 (by omega)).1 c⟩, ?_⟩
                  rintro _ τ3 hs3 hr
                  have hnow2 : now = 1 ↔ bw_fed (τ 0) (τ 2) (bw_F τ 2) c := hnow.trans ⟨fun q => q.2, fun q => ⟨h8, q⟩⟩
                  have hup : bw_nb c 0 = if 320 ≤ c then -1 else c + 64 := rfl
                  have fin : ∀ (l3 : Option jm_V) (τ4 : jm_S), jm_okS D_B τ4 → bw_Fl τ3 τ4 → (c < 320 → bw_Sn τ4 (c + 64)) → jm_Ok D_B fi_B (jm_look L_B_lampsLook) k_B_lampsLook none Q 117 [some (.inr none), some (.inl c), some (.inl now), l3] [] τ4 := by
                    intro l3 τ4 hs4 hf hsn
                    obtain ⟨r1, r2, r3, r4⟩ := bw_lamp_step hJ hs hc h8 hn01 hnow2 (by omega) hr hf hsn
                    refine next _ _ τ4 hs4 r1 ?_ (hfr.tr r2) ⟨by omega, fun _ => by omega⟩
                    intro x hx h9
                    rcases r3 x hx h9 with q | ⟨q1, q2⟩
                    · exact Or.inl q
                    · rcases ha x hx q2 with z | z
                      · left
                        have := hf.2.2.2
                        have := hr.1.2.2.2.1
                        have e : jm_up (jm_up τ 9 c 0) 2 c now 10 0 = τ 10 0 := rfl
                        omega
                      · exact Or.inr (by omega)
                  refine ⟨⟨hc, by omega⟩, ?_⟩
                  rintro k τ3 - ⟨rfl, rfl⟩
                  rw [hup]
                  split
                  · refine ⟨fun _ => fin _ τ3 hs3 (bw_Fl.rf τ3) (fun q => by omega), fun q => by omega⟩
                  · refine ⟨fun q => by omega, fun _ => ⟨by omega, ?_⟩⟩
                    rintro _ τ4 hs4 ⟨g1, g2⟩
                    exact fin _ τ4 hs4 g1 (fun _ => g2)
                · have hb2 : b2 = τ 0 c := hb2
                  exact clr (fun q => by omega) _ _
            refine ⟨fun h8 => ?_, fun h8 => ⟨hc, ?_⟩⟩
            · exact key 0 (Or.inl rfl) (by constructor; intro q; omega; intro q; omega)
            · rintro r _ - ⟨hr, rfl⟩
              have hr : (r = 1 ∧ bw_fed (τ 0) (τ 2) (bw_F τ 2) c) ∨ (r = 0 ∧ ¬ bw_fed (τ 0) (τ 2) (bw_F τ 2) c) := hr
              refine ⟨fun hr0 => ?_, fun hr0 => ?_⟩
              · refine key 0 (Or.inl rfl) ⟨fun q => by omega, fun q => ?_⟩
                rcases hr with z | z
                · omega
                · exact absurd q.2 z.2
              · refine key 1 (Or.inr rfl) ⟨fun _ => ⟨by omega, ?_⟩, fun _ => rfl⟩
                rcases hr with z | z
                · exact z.2
                · omega
          · refine next _ _ τ hs hJ ?_ hfr hw
            intro x hx h9
            rcases ha x hx h9 with q | q
            · exact Or.inl q
            · refine Or.inr ?_
              by_cases hxc : x = c
              · subst hxc; omega
              · omega
      refine jm_Ok.go 60 [14] ?_
      refine fun v hv _ _ => ⟨fun h0 => hQ _ _ ⟨⟨hJ, ha⟩, by omega, hfr⟩, fun h1 => ⟨by omega, ?_⟩⟩
      exact inner 384 0 _ _ _ (by omega) (by omega) (hs.up (by decide)) hJ (fun x hx _ => Or.inr hx.1) hfr ⟨by rw [hw0]; exact Int.le_refl _, fun q => by simp [jm_up] at q⟩
  exact outer ((bw_wr σ).toNat + 1) _ _ _ σ hs hI.1 hI.2 (bw_fr.rf σ) (by omega)
end
section
/-! changeRoof -/
def bw_r11 (σ : jm_S) (R : Int → Int) : jm_S := fun k => if k = 11 then R else σ k
/-- a roof is right over the blocks B, in column m -/
def bw_rf (B R : Int → Int) (m : Int) : Prop := (∀ y, R m ≤ y → y < 6 → ¬ bw_op (B (64 * y + m))) ∧ (0 < R m → bw_op (B (64 * (R m - 1) + m)))
def sp_B_changeRoof : jm_K := (false, 1, true, fun as σ => (match as with
  | [c] => bw_cl c ∧ σ 8 0 = 0 ∧ (∀ k, bw_cl k → k ≠ c → bw_ps (σ 0) 1 k → ∀ n, bw_adj k n → bw_F σ 1 n - 1 ≤ bw_F σ 1 k) ∧ (∀ k, bw_cl k → k ≠ c → bw_G σ 1 k)
  | _ => False), fun as σ _ σ' => (match as with
  | [c] => ∃ R : Int → Int, (∀ m, m ≠ c % 64 → R m = σ 11 m) ∧ bw_rf (σ 0) R (c % 64) ∧ bw_Ev (bw_r11 σ R) σ' ∧ bw_Ot 1 σ σ' ∧ σ' 8 0 = 0 ∧ bw_AA σ' 1 ∧ ∀ k, bw_cl k → bw_G σ' 1 k
  | _ => False))
def L_B_changeRoof : List (Nat × jm_K) := [(74, sp_B_opaque), (114, sp_B_renew)]
set_option maxHeartbeats 4000000 in
set_option maxRecDepth 100000 in
theorem con_B_changeRoof : jm_Con classes D_B 17 ks_B 0 y_B_changeRoof b_B_changeRoof 8 (jm_rt none) 6 sp_B_changeRoof := by
  refine jm_con2 (L := L_B_changeRoof) (code := k_B_changeRoof) CF_B rfl (by decide) ck_B_changeRoof ⟨⟨y_B_opaque, b_B_opaque, 1, jm_rt (some true), 0, by decide, con_B_opaque, lk_B_opaque _ _, rfl⟩, ⟨y_B_renew, b_B_renew, 5, jm_rt none, 5, by decide, con_B_renew, lk_B_renew _ _, rfl⟩, trivial⟩ (by decide) ?_
  intro σ as hl hr hs hp Q hQ
  obtain ⟨c, rfl⟩ := jm_a1 hl
  obtain ⟨hc, h8, hA, hG⟩ := hp
  obtain ⟨m, hm⟩ : ∃ m, m = c % 64 := ⟨_, rfl⟩
  obtain ⟨was, hwas⟩ : ∃ w, w = σ 11 m := ⟨_, rfl⟩
  have hw1 := hs 11 m (by omega) (Or.inl (by show _ < (64 : Int); omega))
  have hw2 : 0 ≤ was := by rw [hwas]; exact hw1.1
  have hw3 : was ≤ 6 := by rw [hwas]; exact hw1.2
  -- behind the scan
  have k47 : ∀ (y : Int) (l5 l6 l7 : Option jm_V), (0 ≤ y ∧ y ≤ 6) → (∀ j, y ≤ j → j < 6 → ¬ bw_op (σ 0 (64 * j + m))) → (0 < y → bw_op (σ 0 (64 * (y - 1) + m))) → jm_Ok D_B fi_B (jm_look L_B_changeRoof) k_B_changeRoof none Q 47 [some (.inr none), some (.inl c), some (.inl m), some (.inl was), some (.inl y), l5, l6, l7] [] σ := by
    intro y l5 l6 l7 hy h1 h2
    have eR : jm_up σ 11 m y = bw_r11 σ (fun x => if x = m then y else σ 11 x) := by
      funext k
      by_cases hk : k = 11
      · subst hk; simp [jm_up, bw_r11]
      · simp [jm_up, bw_r11, hk]
    have hbg : ∀ k, bw_cl k → (k % 64 ≠ m ∨ (k / 64 < was ∧ k / 64 < y) ∨ (was ≤ k / 64 ∧ y ≤ k / 64)) → bw_G σ 1 k → bw_G (jm_up σ 11 m y) 1 k := by
      intro k hk hcond hg
      refine bw_gd_congr hk Iff.rfl ?_ (fun _ _ => rfl) hg
      show bw_bgS _ k = bw_bgS _ k
      unfold bw_bgS
      by_cases hkm : k % 64 = m
      · rw [hkm, ← hwas]
        have : jm_up σ 11 m y 11 m = y := by simp [jm_up]
        rw [this]
        by_cases q : was ≤ k / 64
        · rw [if_pos q, if_pos (by omega)]
        · rw [if_neg q, if_neg (by omega)]
      · have : jm_up σ 11 m y 11 (k % 64) = σ 11 (k % 64) := by simp [jm_up, hkm]
        rw [this]
    refine jm_Ok.go 60 [94] ?_
    refine ⟨by omega, by omega, by omega, ⟨by omega, hc, h8, hA⟩, ?_⟩
    rintro _ τ hsτ hr
    have hr : bw_RO (jm_up σ 11 m y) τ 1 c := hr
    -- the loop over the cells between the roofs
    have loop : ∀ (n : Nat) (k lo hi : Int) (l5 : Option jm_V) (τ : jm_S), k + n = hi → (lo ≤ k ∧ 0 ≤ lo ∧ hi ≤ 6) → ((lo = was ∧ hi = y) ∨ (lo = y ∧ hi = was)) → bw_Ev (jm_up σ 11 m y) τ → bw_Ot 1 σ τ → τ 8 0 = 0 → bw_AA τ 1 → (∀ x, bw_cl x → (x = c ∨ x % 64 ≠ m ∨ x / 64 < k ∨ hi ≤ x / 64) → bw_G τ 1 x) → jm_Ok D_B fi_B (jm_look L_B_changeRoof) k_B_changeRoof none Q 94 [some (.inr none), some (.inl c), some (.inl m), some (.inl was), some (.inl y), l5, some (.inl hi), some (.inl k)] [] τ := by
      intro n
      induction n with
      | zero =>
        intro k lo hi l5 τ hn hk hlh hE hO h8 hAA hGG
        refine jm_Ok.go 60 [] ?_
        refine ⟨fun _ => ?_, fun _ => by omega⟩
        rw [eR] at hE
        refine hQ _ _ ⟨_, ?_, ?_, hE, hO, h8, hAA, fun x hx => hGG x hx (by omega)⟩
        · intro x hx; rw [← hm] at hx; simp [hx]
        · rw [← hm]
          unfold bw_rf
          simp
          exact ⟨fun j a b => by have := h1 j a b; omega, h2⟩
      | succ n ih =>
        intro k lo hi l5 τ hn hk hlh hE hO h8 hAA hGG
        refine jm_Ok.go 60 [124] ?_
        have next : ∀ τ', bw_Ev (jm_up σ 11 m y) τ' → bw_Ot 1 σ τ' → τ' 8 0 = 0 → bw_AA τ' 1 → (∀ x, bw_cl x → (x = c ∨ x % 64 ≠ m ∨ x / 64 < k + 1 ∨ hi ≤ x / 64) → bw_G τ' 1 x) → jm_Ok D_B fi_B (jm_look L_B_changeRoof) k_B_changeRoof none Q 124 [some (.inr none), some (.inl c), some (.inl m), some (.inl was), some (.inl y), l5, some (.inl hi), some (.inl k)] [] τ' := by
          intro τ' a1 a2 a3 a4 a5
          refine jm_Ok.go 60 [94] ?_
          exact ⟨by omega, ih (k + 1) lo hi _ τ' (by omega) (by omega) hlh a1 a2 a3 a4 a5⟩
        refine ⟨fun _ => by omega, fun _ => ⟨by omega, by omega, ⟨fun heq => ?_, fun hne => ?_⟩⟩⟩
        · refine next τ hE hO h8 hAA fun x hx q => hGG x hx ?_
          omega
        · refine ⟨by omega, by omega, ⟨by omega, by omega, h8, bw_RO.pre hAA _⟩, ?_⟩
          rintro _ τ' - hr
          have hr : bw_RO τ τ' 1 (64 * k + m) := hr
          refine next τ' (hE.tr hr.1) (hO.tr hr.2.1) hr.2.2.1 hr.AA fun x hx q => hr.G hx ?_
          by_cases hx2 : x = 64 * k + m
          · exact Or.inl hx2
          · exact Or.inr (hGG x hx (by omega))
    have ini : ∀ lo hi : Int, ((lo = was ∧ hi = y) ∨ (lo = y ∧ hi = was)) → (lo ≤ hi) → ∀ x, bw_cl x → (x = c ∨ x % 64 ≠ m ∨ x / 64 < lo ∨ hi ≤ x / 64) → bw_G τ 1 x := by
      intro lo hi hlh hle x hx q
      refine hr.G hx ?_
      by_cases hxc : x = c
      · exact Or.inl hxc
      · exact Or.inr (hbg x hx (by omega) (hG x hx hxc))
    refine ⟨fun hge => ?_, fun hlt => ?_⟩
    · refine ⟨fun _ => ?_, fun q => by omega⟩
      exact loop (was - y).toNat y y was _ τ (by omega) (by omega) (Or.inr ⟨rfl, rfl⟩) hr.1 hr.2.1 hr.2.2.1 hr.AA (ini y was (Or.inr ⟨rfl, rfl⟩) (by omega))
    · refine ⟨fun q => by omega, fun _ => ?_⟩
      exact loop (y - was).toNat was was y _ τ (by omega) (by omega) (Or.inl ⟨rfl, rfl⟩) hr.1 hr.2.1 hr.2.2.1 hr.AA (ini was y (Or.inl ⟨rfl, rfl⟩) (by omega))
  have scan : ∀ (n : Nat) (y : Int) (l5 l6 l7 : Option jm_V), y = n → y ≤ 6 → (∀ j, y ≤ j → j < 6 → ¬ bw_op (σ 0 (64 * j + m))) → jm_Ok D_B fi_B (jm_look L_B_changeRoof) k_B_changeRoof none Q 16 [some (.inr none), some (.inl c), some (.inl m), some (.inl was), some (.inl y), l5, l6, l7] [] σ := by
    intro n
    induction n with
    | zero =>
      intro y l5 l6 l7 hy hy6 h1
      refine jm_Ok.go 60 [47] ?_
      exact ⟨fun _ => k47 y _ _ _ (by omega) h1 (fun q => by omega), fun _ => by omega⟩
    | succ n ih =>
      intro y l5 l6 l7 hy hy6 h1
      refine jm_Ok.go 60 [47, 16] ?_
      refine ⟨fun _ => by omega, fun _ => ⟨by omega, by omega, by omega, by omega, fun b hb _ _ => ⟨trivial, ?_⟩⟩⟩
      rintro r σ - ⟨hr, rfl⟩
      refine ⟨fun h => k47 y _ _ _ (by omega) h1 (fun _ => by rw [← hb]; omega), fun h => ⟨by omega, ih (y + -1) _ _ _ (by omega) (by omega) fun j hj1 hj2 => ?_⟩⟩
      by_cases hjy : j = y - 1
      · subst hjy; rw [← hb]; omega
      · exact h1 j (by omega) hj2
  subst hm
  refine jm_Ok.go 60 [16] ?_
  refine ⟨by omega, fun w hw _ _ => ?_⟩
  obtain rfl : w = was := by omega
  exact scan 6 6 _ _ _ (by omega) (by omega) (fun j a b => by omega)
end
section
/-! set -/
def bw_S1 (σ σ1 : jm_S) (c b : Int) : Prop :=
  (∀ k, k ≠ 0 → k ≠ 1 → k ≠ 2 → k ≠ 3 → k ≠ 9 → k ≠ 10 → k ≠ 12 → σ1 k = σ k) ∧ (∀ x, σ1 0 x = if x = c then b else σ 0 x) ∧ (∀ x, σ1 1 x = if x = c then 0 else σ 1 x) ∧ (∀ x, σ1 2 x = if x = c then (if b = 7 then 1 else 0) else σ 2 x) ∧
  (∀ x, σ1 3 x = if x = c then (if b = 7 then 1 else 0) else σ 3 x) ∧ (∀ x, σ1 9 x = if x = c then (if b = 8 then 1 else 0) else σ 9 x) ∧ (σ1 10 0 = if σ 10 0 = 0 then (if b = 8 then 1 else 0) else 1) ∧ (∀ i, (0 ≤ i ∧ i < 10) → σ1 12 i = σ 12 i - (if i = σ 0 c then 1 else 0) + (if i = b then 1 else 0))
def bw_mkc (σ : jm_S) (c b : Int) : Prop := (σ 0 c = 6 ∨ (σ 0 c = 7 ∧ σ 2 c = 1)) ∨ b = 6 ∨ b = 7
theorem bw_S1.at4 {σ σ1 : jm_S} {c b : Int} (h : bw_S1 σ σ1 c b) : σ1 4 = σ 4 := h.1 4 (by decide) (by decide) (by decide) (by decide) (by decide) (by decide) (by decide)
theorem bw_S1.at11 {σ σ1 : jm_S} {c b : Int} (h : bw_S1 σ σ1 c b) : σ1 11 = σ 11 := h.1 11 (by decide) (by decide) (by decide) (by decide) (by decide) (by decide) (by decide)
theorem bw_S1.F {σ σ1 : jm_S} {c b : Int} (h : bw_S1 σ σ1 c b) (f : Int) : bw_F σ1 f = bw_F σ f := by unfold bw_F; rw [h.at4]
theorem bw_S1.ps {σ σ1 : jm_S} {c b : Int} (h : bw_S1 σ σ1 c b) {f k : Int} (hk : k ≠ c) : bw_ps (σ 0) f k ↔ bw_ps (σ1 0) f k := by
  unfold bw_ps; rw [h.2.1 k, if_neg hk]
theorem bw_S1.G {σ σ1 : jm_S} {c b : Int} (h : bw_S1 σ σ1 c b) {f k : Int} (hk : bw_cl k) (hps : bw_ps (σ 0) f k ↔ bw_ps (σ1 0) f k) (hbg : bw_bg (σ1 0) (σ1 2) (σ1 11) f k = bw_bg (σ 0) (σ 2) (σ 11) f k) (hg : bw_G σ f k) : bw_G σ1 f k :=
  bw_gd_congr hk hps hbg (fun x _ => by rw [h.F]) hg
theorem bw_S1.A {σ σ1 : jm_S} {c b : Int} (h : bw_S1 σ σ1 c b) {f : Int} (hA : bw_AA σ f) {k : Int} (hk : bw_cl k) (hps : bw_ps (σ1 0) f k → bw_ps (σ 0) f k) : bw_ps (σ1 0) f k → ∀ n, bw_adj k n → bw_F σ1 f n - 1 ≤ bw_F σ1 f k := by
  intro q n hn
  rw [h.F]
  exact hA k hk (hps q) n hn
theorem bw_S1_ps1 {σ σ1 : jm_S} {c b f : Int} (h : bw_S1 σ σ1 c b) (hf : f ≠ 2) (ho : bw_op (σ 0 c) ↔ bw_op b) : bw_ps (σ 0) f c ↔ bw_ps (σ1 0) f c := by
  unfold bw_ps; rw [h.2.1 c, if_pos rfl]
  constructor
  · rintro (q | q)
    · exact absurd q.1 hf
    · exact Or.inr ⟨hf, fun z => q.2 (ho.mpr z)⟩
  · rintro (q | q)
    · exact absurd q.1 hf
    · exact Or.inr ⟨hf, fun z => q.2 (ho.mp z)⟩
theorem bw_S1_G1 {σ σ1 : jm_S} {c b : Int} (hI : bw_I σ) (h : bw_S1 σ σ1 c b) {k : Int} (hk : bw_cl k) (hc : k ≠ c ∨ (bw_op (σ 0 c) ↔ bw_op b)) : bw_G σ1 1 k ∧ (bw_ps (σ1 0) 1 k → ∀ n, bw_adj k n → bw_F σ1 1 n - 1 ≤ bw_F σ1 1 k) := by
  have hps : bw_ps (σ 0) 1 k ↔ bw_ps (σ1 0) 1 k := by
    by_cases hkc : k = c
    · subst hkc
      rcases hc with q | q
      · exact absurd rfl q
      · exact bw_S1_ps1 h (by decide) q
    · exact h.ps hkc
  refine ⟨h.G hk hps ?_ ((hI.1.2.1 1 (by omega)).2 k hk), h.A (hI.1.2.1 1 (by omega)).1 hk hps.mpr⟩
  show bw_bgS _ k = bw_bgS _ k
  rw [h.at11]
theorem bw_S1_G0 {σ σ1 : jm_S} {c b : Int} (hI : bw_I σ) (h : bw_S1 σ σ1 c b) {k : Int} (hk : bw_cl k) (hc : k ≠ c ∨ ((bw_op (σ 0 c) ↔ bw_op b) ∧ σ 0 c ≠ 3 ∧ σ 0 c ≠ 8 ∧ b ≠ 3)) : bw_G σ1 0 k ∧ (bw_ps (σ1 0) 0 k → ∀ n, bw_adj k n → bw_F σ1 0 n - 1 ≤ bw_F σ1 0 k) := by
  have hps : bw_ps (σ 0) 0 k ↔ bw_ps (σ1 0) 0 k := by
    by_cases hkc : k = c
    · subst hkc
      rcases hc with q | q
      · exact absurd rfl q
      · exact bw_S1_ps1 h (by decide) q.1
    · exact h.ps hkc
  refine ⟨h.G hk hps ?_ ((hI.1.2.1 0 (by omega)).2 k hk), h.A (hI.1.2.1 0 (by omega)).1 hk hps.mpr⟩
  show bw_shn _ _ k = bw_shn _ _ k
  unfold bw_shn
  rw [h.2.1 k, h.2.2.2.1 k]
  by_cases hkc : k = c
  · subst hkc
    rw [if_pos rfl, if_pos rfl]
    rcases hc with q | ⟨-, q1, q2, q3⟩
    · exact absurd rfl q
    · rw [if_neg q3, if_neg q1, if_neg, if_neg]
      · omega
      · split <;> omega
  · rw [if_neg hkc, if_neg hkc]
theorem bw_S1_drv {σ σ1 : jm_S} {c b k : Int} (h : bw_S1 σ σ1 c b) (hk : bw_cl k) (hn : ¬ (bw_mkc σ c b ∧ bw_adj c k)) (hc : bw_cl c) : bw_drv (σ 0) (σ 2) k ↔ bw_drv (σ1 0) (σ1 2) k := by
  have key : ∀ d, (0 ≤ d ∧ d < 6) → (bw_mk (σ 0) (σ 2) k d ↔ bw_mk (σ1 0) (σ1 2) k d) := by
    intro d hd
    unfold bw_mk
    rw [h.2.1, h.2.2.2.1]
    by_cases hkc : bw_nb k d = c
    · rw [if_pos hkc, if_pos hkc]
      by_cases h0 : 0 ≤ bw_nb k d
      · have had : bw_adj c k := by rw [← hkc]; exact bw_adj_sym hk (bw_adj_of hd h0)
        have hm : ¬ bw_mkc σ c b := fun q => hn ⟨q, had⟩
        unfold bw_mkc at hm
        rw [hkc]
        have : (if b = 7 then (1 : Int) else 0) = 1 ↔ b = 7 := by split <;> simp [*]
        rw [this]
        omega
      · omega
    · rw [if_neg hkc, if_neg hkc]
  constructor
  · rintro ⟨d, hd, q⟩; exact ⟨d, hd, (key d hd).mp q⟩
  · rintro ⟨d, hd, q⟩; exact ⟨d, hd, (key d hd).mpr q⟩
theorem bw_S1_G2 {σ σ1 : jm_S} {c b : Int} (hI : bw_I σ) (h : bw_S1 σ σ1 c b) (hc : bw_cl c) {k : Int} (hk : bw_cl k) (hkc : k ≠ c) (hn : ¬ (bw_mkc σ c b ∧ bw_adj c k ∧ σ1 0 k = 5)) : bw_G σ1 2 k := by
  have hps : bw_ps (σ 0) 2 k ↔ bw_ps (σ1 0) 2 k := h.ps hkc
  refine h.G hk hps ?_ ((hI.1.2.1 2 (by omega)).2 k hk)
  show bw_bgP _ _ k = bw_bgP _ _ k
  have e0 : σ1 0 k = σ 0 k := by rw [h.2.1, if_neg hkc]
  by_cases h5 : σ 0 k = 5
  · have hd := bw_S1_drv (k := k) h hk (fun q => hn ⟨q.1, q.2, by omega⟩) hc
    rcases Classical.em (σ 0 k = 5 ∧ bw_drv (σ 0) (σ 2) k) with q | q
    · rw [bw_bgP_1 q, bw_bgP_1 ⟨by omega, hd.mp q.2⟩]
    · rw [bw_bgP_0 q, bw_bgP_0 (fun z => q ⟨by omega, hd.mpr z.2⟩)]
  · rw [bw_bgP_0 (fun z => h5 (by omega)), bw_bgP_0 (fun z => h5 z.1)]
theorem bw_S1_A2 {σ σ1 : jm_S} {c b : Int} (hI : bw_I σ) (h : bw_S1 σ σ1 c b) {k : Int} (hk : bw_cl k) (hkc : k ≠ c ∨ b ≠ 5) : bw_ps (σ1 0) 2 k → ∀ n, bw_adj k n → bw_F σ1 2 n - 1 ≤ bw_F σ1 2 k := by
  by_cases hkc2 : k = c
  · intro q
    subst hkc2
    unfold bw_ps at q
    rw [h.2.1, if_pos rfl] at q
    omega
  · exact h.A (hI.1.2.1 2 (by omega)).1 hk (h.ps hkc2).mpr
/-- a power of a cell that is no wire is none -/
theorem bw_P0 {σ : jm_S} {k : Int} (hg : bw_G σ 2 k) (h5 : σ 0 k ≠ 5) : bw_F σ 2 k ≤ 0 := by
  rcases Int.lt_or_le 0 (bw_F σ 2 k) with q | q
  · have := (hg.2 q).1
    unfold bw_ps at this
    omega
  · exact q
theorem bw_S1_Gc {σ σ1 : jm_S} {c b : Int} (hI : bw_I σ) (h : bw_S1 σ σ1 c b) (hc : bw_cl c) (h1 : σ 0 c ≠ 5) (h2 : b ≠ 5) : bw_G σ1 2 c := by
  have e0 : σ1 0 c = b := by rw [h.2.1, if_pos rfl]
  refine ⟨fun q => ?_, fun q => ?_⟩
  · unfold bw_ps at q; omega
  · rw [h.F] at q
    have := bw_P0 ((hI.1.2.1 2 (by omega)).2 c hc) h1
    omega
/-- what set gives -/
def bw_SO (σ σ' : jm_S) (c b : Int) : Prop := bw_I σ' ∧ (∀ x, σ' 0 x = if x = c then b else σ 0 x) ∧ (∀ x, σ' 1 x = if x = c then 0 else σ 1 x) ∧ (∀ x, x ≠ c → σ' 2 x = σ 2 x) ∧ (b = 7 → σ' 2 c = 1) ∧ σ' 13 = σ 13 ∧ σ' 14 = σ 14 ∧ σ' 15 = σ 15 ∧ σ' 16 = σ 16
theorem bw_set_end {σ σ1 τ : jm_S} {c b : Int} {R : Int → Int} (hI : bw_I σ) (hs : jm_okS D_B σ) (hsτ : jm_okS D_B τ) (hc : bw_cl c) (hb : 0 ≤ b ∧ b < 10) (h : bw_S1 σ σ1 c b) (hne : ¬ (σ 0 c = 5 ∧ b = 5))
    (hR : ∀ m, (0 ≤ m ∧ m < 64) → bw_rf (σ1 0) R m) (hE : bw_Ev (bw_r11 σ1 R) τ) (h8 : τ 8 0 = 0) (hfl : bw_flds τ) (hmk : bw_mkc σ c b → ∀ n, bw_adj c n → bw_Sn τ n) (hup : c < 320 → bw_Sn τ (c + 64)) : bw_SO σ τ c b := by
  obtain ⟨hJ, hany⟩ := hI
  obtain ⟨j1, j2, j3, j4, j5, j6, j7, j8⟩ := hJ
  have hF := h.F
  obtain ⟨k0, k1, k2, k3, k4, k5, k6, k7⟩ := h
  have e0 : τ 0 = σ1 0 := hE.at0
  have e2 : τ 2 = σ1 2 := hE.at2
  have e11 : τ 11 = R := hE.at11
  have ek : ∀ k, k ≠ 3 → k ≠ 4 → k ≠ 5 → k ≠ 6 → k ≠ 7 → k ≠ 8 → k ≠ 9 → k ≠ 10 → k ≠ 11 → τ k = σ1 k := fun k a b c d e f g h i => by
    rw [hE.1 k a b c d e f g h]; simp [bw_r11, i]
  have e1 : τ 1 = σ1 1 := by apply ek <;> decide
  have e12 : τ 12 = σ1 12 := by apply ek <;> decide
  have m3 : ∀ x, τ 3 x = σ1 3 x ∨ τ 3 x = 1 := hE.2.1
  have m9 : ∀ x, τ 9 x = σ1 9 x ∨ (τ 9 x = 1 ∧ τ 10 0 = 1) := hE.2.2.1
  have m10 : τ 10 0 = σ1 10 0 ∨ τ 10 0 = 1 := hE.2.2.2.1
  have mP : ∀ x, bw_cl x → bw_F τ 2 x ≠ bw_F σ 2 x → ∀ n, bw_adj x n → bw_Sn τ n := fun x hx q => hE.2.2.2.2 x hx (by
    intro z; apply q; rw [z, ← hF 2]; rfl)
  have b0 : ∀ x, x ≠ c → τ 0 x = σ 0 x := fun x hx => by rw [e0, k1, if_neg hx]
  have b0c : τ 0 c = b := by rw [e0, k1, if_pos rfl]
  have o2 : ∀ x, x ≠ c → τ 2 x = σ 2 x := fun x hx => by rw [e2, k3, if_neg hx]
  have o2c : τ 2 c = if b = 7 then 1 else 0 := by rw [e2, k3, if_pos rfl]
  refine ⟨⟨⟨h8, hfl, ?_, ?_, ?_, ?_, ?_, ?_⟩, ?_⟩, fun x => by rw [e0, k1], fun x => by rw [e1, k2], o2, fun q => by rw [o2c, if_pos q], ?_, ?_, ?_, ?_⟩
  · -- on
    intro x hx h1
    by_cases hxc : x = c
    · subst hxc
      rw [o2c] at h1
      rw [b0c]
      split at h1 <;> omega
    · rw [b0 x hxc]; rw [o2 x hxc] at h1; exact j3 x hx h1
  · -- looks
    intro x hx h7 h3
    have hxc : x ≠ c := by
      intro q; subst q
      rw [b0c] at h7
      have := m3 x
      rw [k4, if_pos rfl, if_pos h7] at this
      omega
    rw [b0 x hxc] at h7
    have h3' : σ 3 x = 0 := by
      have := m3 x
      rw [k4, if_neg hxc] at this
      omega
    rw [o2 x hxc, j4 x hx h7 h3']
    have nsn : ¬ bw_Sn τ x := by
      intro q
      have := q.2 (by rw [b0 x hxc]; exact h7)
      omega
    unfold bw_due
    rcases Int.lt_or_le x 64 with q | q
    · simp [q]
    · have hne2 : x - 64 ≠ c := by
        intro z
        apply nsn
        have := hup (by omega)
        rw [show c + 64 = x by omega] at this
        exact this
      have hP : bw_F τ 2 (x - 64) = bw_F σ 2 (x - 64) := by
        rcases Classical.em (bw_F τ 2 (x - 64) = bw_F σ 2 (x - 64)) with z | z
        · exact z
        · refine absurd (mP (x - 64) (by omega) z x ?_) nsn
          have := bw_adj_up (c := x - 64) (by omega) (by omega)
          rw [show x - 64 + 64 = x by omega] at this
          exact this
      rw [b0 _ hne2, o2 _ hne2, hP]
  · -- lamps
    intro x hx hx8 h9
    have hxc : x ≠ c := by
      intro q; subst q
      rw [b0c] at hx8
      have := m9 x
      rw [k5, if_pos rfl, if_pos hx8] at this
      omega
    rw [b0 x hxc] at hx8
    have h9' : σ 9 x = 0 := by
      have := m9 x
      rw [k5, if_neg hxc] at this
      omega
    have nsn : ¬ bw_Sn τ x := by
      intro q
      have := q.1 (by rw [b0 x hxc]; exact hx8)
      omega
    rw [o2 x hxc, j5 x hx hx8 h9']
    have hP : ∀ n, bw_adj x n → bw_F τ 2 n = bw_F σ 2 n := by
      intro n hn
      rcases Classical.em (bw_F τ 2 n = bw_F σ 2 n) with z | z
      · exact z
      · exact absurd (mP n (bw_adj_cl hx hn) z x (bw_adj_sym hx hn)) nsn
    have hmn : bw_adj c x → ¬ bw_mkc σ c b := fun q z => nsn (hmk z x q)
    have hd := bw_S1_drv (σ := σ) (σ1 := σ1) (c := c) (b := b) (k := x) ⟨k0, k1, k2, k3, k4, k5, k6, k7⟩ hx (fun q => hmn q.2 q.1) hc
    have hP0 : ∀ n, bw_cl n → 0 ≤ bw_F σ 2 n := fun n hn => (hs 4 (384 * 2 + n) (by omega) (Or.inl (by show _ < (1152 : Int); omega))).1
    have hw : (∃ n, bw_adj x n ∧ σ 0 n = 5 ∧ 0 < bw_F σ 2 n) ↔ (∃ n, bw_adj x n ∧ τ 0 n = 5 ∧ 0 < bw_F τ 2 n) := by
      constructor
      · rintro ⟨n, hn, q1, q2⟩
        refine ⟨n, hn, ?_, by rw [hP n hn]; exact q2⟩
        by_cases hnc : n = c
        · subst hnc
          rw [b0c]
          rcases Classical.em (b = 5) with z | z
          · exact z
          · have := bw_P0 ((hfl 2 (by omega)).2 n hc) (by rw [b0c]; exact z)
            rw [hP n hn] at this
            omega
        · rw [b0 n hnc]; exact q1
      · rintro ⟨n, hn, q1, q2⟩
        rw [hP n hn] at q2
        refine ⟨n, hn, ?_, q2⟩
        by_cases hnc : n = c
        · subst hnc
          rcases Classical.em (σ 0 n = 5) with z | z
          · exact z
          · have := bw_P0 ((j2 2 (by omega)).2 n hc) z
            omega
        · rw [b0 n hnc] at q1; exact q1
    unfold bw_fed
    rw [hd, e0, e2, ← e0, ← e2, hw, b0 x hxc]
  · -- counts
    intro i hi
    have hold : 0 ≤ σ 0 c ∧ σ 0 c ≤ 9 := by
      have := hs 0 c hc.1 (Or.inl hc.2)
      exact this
    have h1 := bw_cnt_set (p := fun x => decide (σ 0 x = i)) (q := fun x => decide (τ 0 x = i)) (c := c) 384 (fun x _ _ hx => by rw [b0 x hx]) hc.1 hc.2
    rw [e12, k7 i hi, j6 i hi, h1, b0c]
    simp only [decide_eq_true_eq]
    have ea : (if b = i then (1 : Int) else 0) = if i = b then 1 else 0 := by split <;> split <;> omega
    have eb : (if σ 0 c = i then (1 : Int) else 0) = if i = σ 0 c then 1 else 0 := by split <;> split <;> omega
    rw [ea, eb]
    omega
  · intro m hm
    rw [e11, e0]; exact hR m hm
  · intro x hx h9
    rw [e1, k2]
    by_cases hxc : x = c
    · rw [if_pos hxc]
    · rw [if_neg hxc]; rw [b0 x hxc] at h9; exact j8 x hx h9
  · intro x hx h9
    left
    rcases m9 x with q | q
    · rw [q, k5] at h9
      have : σ1 10 0 = 1 := by
        rw [k6]
        by_cases hxc : x = c
        · rw [if_pos hxc] at h9
          split at h9
          · split <;> simp [*]
          · omega
        · rw [if_neg hxc] at h9
          rcases hany x hx h9 with z | z
          · rw [if_neg (by omega)]
          · omega
      omega
    · exact q.2
  all_goals (rw [ek _ (by decide) (by decide) (by decide) (by decide) (by decide) (by decide) (by decide) (by decide) (by decide), k0 _ (by decide) (by decide) (by decide) (by decide) (by decide) (by decide) (by decide)])
end
section
/-! set, the walk -/
theorem bw_tr_G {σ τ : jm_S} {f k : Int} (hk : bw_cl k) (h0 : τ 0 = σ 0) (h2 : τ 2 = σ 2) (hf : f ≠ 1) (hF : ∀ x, bw_cl x → bw_F τ f x = bw_F σ f x) (hg : bw_G σ f k) : bw_G τ f k := by
  refine bw_gd_congr hk (by rw [h0]) ?_ hF hg
  unfold bw_bg
  rw [h0, h2, if_neg hf, if_neg hf]
theorem bw_tr_A {σ τ : jm_S} {f k : Int} (hk : bw_cl k) (h0 : τ 0 = σ 0) (hF : ∀ x, bw_cl x → bw_F τ f x = bw_F σ f x) (hA : bw_ps (σ 0) f k → ∀ n, bw_adj k n → bw_F σ f n - 1 ≤ bw_F σ f k) : bw_ps (τ 0) f k → ∀ n, bw_adj k n → bw_F τ f n - 1 ≤ bw_F τ f k := by
  intro q n hn
  rw [h0] at q
  rw [hF k hk, hF n (bw_adj_cl hk hn)]
  exact hA q n hn
theorem bw_r11_id (σ : jm_S) : bw_r11 σ (σ 11) = σ := by
  funext k
  by_cases hk : k = 11
  · subst hk; simp [bw_r11]
  · simp [bw_r11, hk]
theorem bw_S1_mk {σ : jm_S} {c b old n1 n2 v7 v7' v8 v10 : Int} (hold : old = σ 0 c) (hn1 : n1 = σ 12 old) (hn2 : n2 = jm_up σ 12 old (n1 - 1) 12 b) (h7 : v7 = if b = 7 then 1 else 0) (h7' : v7' = if b = 7 then 1 else 0) (h8 : v8 = if b = 8 then 1 else 0) (h10 : v10 = if σ 10 0 = 0 then v8 else 1) :
    bw_S1 σ (jm_up (jm_up (jm_up (jm_up (jm_up (jm_up (jm_up (jm_up σ 12 old (n1 - 1)) 12 b (n2 + 1)) 0 c b) 1 c 0) 2 c v7) 3 c v7') 9 c v8) 10 0 v10) c b := by
  refine ⟨?_, ?_, ?_, ?_, ?_, ?_, ?_, ?_⟩
  · intro k a0 a1 a2 a3 a9 a10 a12; simp [jm_up, a0, a1, a2, a3, a9, a10, a12]
  · intro x; simp [jm_up]
  · intro x; simp [jm_up]
  · intro x; simp [jm_up, h7]
  · intro x; simp [jm_up, h7']
  · intro x; simp [jm_up, h8]
  · rw [← h8, ← h10]; simp [jm_up]
  · intro i hi
    rw [← hold]
    simp only [jm_up] at hn2
    simp only [jm_up]
    simp at hn2 ⊢
    by_cases hib : i = b
    · subst hib
      simp
      by_cases hio : i = old
      · subst hio; simp at hn2; simp; omega
      · simp [hio] at hn2 ⊢; omega
    · simp [hib]
      by_cases hio : i = old
      · subst hio; simp; omega
      · simp [hio]
theorem bw_S1_ok {σ : jm_S} (hs : jm_okS D_B σ) {c b old n1 n2 v7 v7' v8 v10 : Int} (g1 : 0 ≤ n1 - 1 ∧ n1 - 1 ≤ 384) (g2 : 0 ≤ n2 + 1 ∧ n2 + 1 ≤ 384) (gb : 0 ≤ b ∧ b ≤ 9) (g7 : 0 ≤ v7 ∧ v7 ≤ 1) (g7' : 0 ≤ v7' ∧ v7' ≤ 1) (g8 : 0 ≤ v8 ∧ v8 ≤ 1) (g10 : 0 ≤ v10 ∧ v10 ≤ 1) :
    jm_okS D_B (jm_up (jm_up (jm_up (jm_up (jm_up (jm_up (jm_up (jm_up σ 12 old (n1 - 1)) 12 b (n2 + 1)) 0 c b) 1 c 0) 2 c v7) 3 c v7') 9 c v8) 10 0 v10) :=
  (((((((hs.up g1).up g2).up gb).up (by decide)).up g7).up g7').up g8).up g10
def sp_B_set : jm_K := (false, 2, true, fun as σ => (match as with
  | [c, b] => bw_cl c ∧ (0 ≤ b ∧ b < 10) ∧ bw_I σ
  | _ => False), fun as σ _ σ' => (match as with
  | [c, b] => bw_SO σ σ' c b
  | _ => False))
def L_B_set : List (Nat × jm_K) := [(74, sp_B_opaque), (120, sp_B_changeRoof), (114, sp_B_renew), (123, sp_B_feedAround), (58, sp_B_near), (100, sp_B_notice)]
set_option maxHeartbeats 4000000 in
set_option maxRecDepth 100000 in
theorem con_B_set : jm_Con classes D_B 17 ks_B 0 y_B_set b_B_set 7 (jm_rt none) 7 sp_B_set := by
  refine jm_con2 (L := L_B_set) (code := k_B_set) CF_B rfl (by decide) ck_B_set ⟨⟨y_B_opaque, b_B_opaque, 1, jm_rt (some true), 0, by decide, con_B_opaque, lk_B_opaque _ _, rfl⟩, ⟨y_B_changeRoof, b_B_changeRoof, 8, jm_rt none, 6, by decide, con_B_changeRoof, lk_B_changeRoof _ _, rfl⟩, ⟨y_B_renew, b_B_renew, 5, jm_rt none, 5, by decide, con_B_renew, lk_B_renew _ _, rfl⟩, ⟨y_B_feedAround, b_B_feedAround, 4, jm_rt none, 6, by decide, con_B_feedAround, lk_B_feedAround _ _, rfl⟩, ⟨y_B_near, b_B_near, 2, jm_rt (some false), 0, by decide, con_B_near, lk_B_near _ _, rfl⟩, ⟨y_B_notice, b_B_notice, 2, jm_rt none, 0, by decide, con_B_notice, lk_B_notice _ _, rfl⟩, trivial⟩ (by decide) ?_
  intro σ as hl hr hs hp Q hQ
  obtain ⟨c, b, rfl⟩ := jm_a2 hl
  obtain ⟨hc, hb, hI⟩ := hp
  obtain ⟨old, hold⟩ : ∃ o, o = σ 0 c := ⟨_, rfl⟩
  have hold9 : 0 ≤ old ∧ old ≤ 9 := by
    have := hs 0 c hc.1 (Or.inl hc.2)
    rw [hold]; exact this
  have hup : bw_nb c 0 = if 320 ≤ c then -1 else c + 64 := rfl
  -- behind the stores: one state σ1, from there on
  have k167 : ¬ (old = 5 ∧ b = 5) → ∀ (mv dv : Int) (l6 : Option jm_V) (σ1 : jm_S), jm_okS D_B σ1 → bw_S1 σ σ1 c b → ((mv = 1 ∧ (σ 0 c = 6 ∨ (σ 0 c = 7 ∧ σ 2 c = 1))) ∨ (mv = 0 ∧ ¬ (σ 0 c = 6 ∨ (σ 0 c = 7 ∧ σ 2 c = 1)))) → ((dv = 1 ∧ bw_op old) ∨ (dv = 0 ∧ ¬ bw_op old)) → jm_Ok D_B fi_B (jm_look L_B_set) k_B_set none Q 167 [some (.inr none), some (.inl c), some (.inl b), some (.inl old), some (.inl mv), some (.inl dv), l6] [] σ1 := by
    intro hne mv dv l6 σ1 hs1 h1 hmv hdv
    have e8 : σ1 8 0 = 0 := by rw [h1.1 8 (by decide) (by decide) (by decide) (by decide) (by decide) (by decide) (by decide)]; exact hI.1.1
    have k250 : ∀ (R : Int → Int) (l6 : Option jm_V) (τ : jm_S), (∀ m, (0 ≤ m ∧ m < 64) → bw_rf (σ1 0) R m) → jm_okS D_B τ → bw_Ev (bw_r11 σ1 R) τ → τ 8 0 = 0 → bw_flds τ → (bw_mkc σ c b → ∀ n, bw_adj c n → bw_Sn τ n) → jm_Ok D_B fi_B (jm_look L_B_set) k_B_set none Q 250 [some (.inr none), some (.inl c), some (.inl b), some (.inl old), some (.inl mv), some (.inl dv), l6] [] τ := by
      intro R l6 τ hR hsτ hE h8 hfl hmk
      refine jm_Ok.go 60 [] ?_
      refine ⟨⟨hc, by omega⟩, ?_⟩
      rintro k τ - ⟨rfl, rfl⟩
      rw [hup]
      split
      · refine ⟨fun _ => hQ _ _ (bw_set_end hI hs hsτ hc hb h1 (by rw [← hold]; exact hne) hR hE h8 hfl hmk (fun q => by omega)), fun q => by omega⟩
      · refine ⟨fun q => by omega, fun _ => ⟨by omega, ?_⟩⟩
        rintro _ τ' hs' ⟨g1, g2⟩
        refine hQ _ _ (bw_set_end hI hs hs' hc hb h1 (by rw [← hold]; exact hne) hR (hE.tr g1.ev) ?_ (fun f hf => ⟨g1.AA (hfl f hf).1, fun k hk => g1.G ((hfl f hf).2 k hk)⟩) (fun q n hn => g1.sn (hmk q n hn)) (fun _ => g2))
        rw [g1.1 8 (by decide) (by decide) (by decide)]; exact h8
    have k228 : ∀ (R : Int → Int) (l6 : Option jm_V) (τ : jm_S), (∀ m, (0 ≤ m ∧ m < 64) → bw_rf (σ1 0) R m) → jm_okS D_B τ → bw_Ev (bw_r11 σ1 R) τ → τ 8 0 = 0 → (∀ f, f = 0 ∨ f = 1 → bw_AA τ f ∧ ∀ k, bw_cl k → bw_G τ f k) → bw_AA τ 2 → (∀ k, bw_cl k → bw_G τ 2 k ∨ (bw_mkc σ c b ∧ bw_adj c k ∧ σ1 0 k = 5)) → jm_Ok D_B fi_B (jm_look L_B_set) k_B_set none Q 228 [some (.inr none), some (.inl c), some (.inl b), some (.inl old), some (.inl mv), some (.inl dv), l6] [] τ := by
      intro R l6 τ hR hsτ hE h8 h01 hA2 hG2
      have e0 : τ 0 = σ1 0 := hE.at0
      have feed : bw_mkc σ c b → jm_Ok D_B fi_B (jm_look L_B_set) k_B_set none Q 245 [some (.inr none), some (.inl c), some (.inl b), some (.inl old), some (.inl mv), some (.inl dv), l6] [] τ := by
        intro hmk
        refine jm_Ok.go 60 [250] ?_
        refine ⟨⟨hc, h8, hA2⟩, ?_⟩
        rintro _ τ' hs' ⟨f1, f2, f3, f4, f5, f6⟩
        refine k250 R _ τ' hR hs' (hE.tr f1) f3 ?_ (fun _ => f6)
        intro f hf
        by_cases h2 : f = 2
        · subst h2
          refine ⟨f4, fun k hk => f5 k hk ?_⟩
          rcases hG2 k hk with q | q
          · exact Or.inl q
          · exact Or.inr ⟨q.2.1, by rw [e0]; exact q.2.2⟩
        · obtain ⟨a1, a2⟩ := h01 f (by omega)
          have eF : ∀ x, bw_cl x → bw_F τ' f x = bw_F τ f x := fun x hx => f2 f x hf h2 hx
          refine ⟨bw_A_congr (fun k _ q => by rw [f1.at0] at q; exact q) eF a1, fun k hk => ?_⟩
          exact bw_gd_congr hk (by rw [f1.at0]) (by rw [f1.at0, f1.at2, f1.at11]) eF (a2 k hk)
      have nofeed : ¬ bw_mkc σ c b → jm_Ok D_B fi_B (jm_look L_B_set) k_B_set none Q 250 [some (.inr none), some (.inl c), some (.inl b), some (.inl old), some (.inl mv), some (.inl dv), l6] [] τ := by
        intro hmk
        refine k250 R _ τ hR hsτ hE h8 ?_ (fun q => absurd q hmk)
        intro f hf
        by_cases h2 : f = 2
        · subst h2
          refine ⟨hA2, fun k hk => ?_⟩
          rcases hG2 k hk with q | q
          · exact q
          · exact absurd q.1 hmk
        · exact h01 f (by omega)
      refine jm_Ok.go 60 [245, 250] ?_
      refine ⟨fun hm1 => feed (by unfold bw_mkc; omega), fun hm0 => ⟨fun h6 => feed (by unfold bw_mkc; omega), fun h6 => ⟨fun h7 => nofeed (by unfold bw_mkc; omega), fun h7 => feed (by unfold bw_mkc; omega)⟩⟩⟩
    have k212 : ∀ (R : Int → Int) (l6 : Option jm_V) (τ : jm_S), (∀ m, (0 ≤ m ∧ m < 64) → bw_rf (σ1 0) R m) → jm_okS D_B τ → bw_Ev (bw_r11 σ1 R) τ → τ 8 0 = 0 → (∀ f, f = 0 ∨ f = 1 → bw_AA τ f ∧ ∀ k, bw_cl k → bw_G τ f k) → (∀ x, bw_cl x → bw_F τ 2 x = bw_F σ1 2 x) → jm_Ok D_B fi_B (jm_look L_B_set) k_B_set none Q 212 [some (.inr none), some (.inl c), some (.inl b), some (.inl old), some (.inl mv), some (.inl dv), l6] [] τ := by
      intro R l6 τ hR hsτ hE h8 h01 hF2
      have e0 : τ 0 = σ1 0 := hE.at0
      have e2 : τ 2 = σ1 2 := hE.at2
      have hGk : ∀ k, bw_cl k → k ≠ c → bw_G τ 2 k ∨ (bw_mkc σ c b ∧ bw_adj c k ∧ σ1 0 k = 5) := by
        intro k hk hkc
        rcases Classical.em (bw_mkc σ c b ∧ bw_adj c k ∧ σ1 0 k = 5) with q | q
        · exact Or.inr q
        · exact Or.inl (bw_tr_G hk e0 e2 (by decide) hF2 (bw_S1_G2 hI h1 hc hk hkc q))
      have ren : jm_Ok D_B fi_B (jm_look L_B_set) k_B_set none Q 222 [some (.inr none), some (.inl c), some (.inl b), some (.inl old), some (.inl mv), some (.inl dv), l6] [] τ := by
        refine jm_Ok.go 60 [228] ?_
        refine ⟨⟨by omega, hc, h8, fun k hk hkc => bw_tr_A hk e0 hF2 (bw_S1_A2 hI h1 hk (Or.inl hkc))⟩, ?_⟩
        rintro _ τ' hs' hr
        have hr : bw_RO τ τ' 2 c := hr
        refine k228 R _ τ' hR hs' (hE.tr hr.1) hr.2.2.1 ?_ hr.AA ?_
        · intro f hf
          obtain ⟨a1, a2⟩ := h01 f hf
          have eF : ∀ x, bw_cl x → bw_F τ' f x = bw_F τ f x := fun x hx => hr.2.1 f x (by omega) (by omega) hx
          refine ⟨bw_A_congr (fun k _ q => by rw [hr.1.at0] at q; exact q) eF a1, fun k hk => ?_⟩
          exact bw_gd_congr hk (by rw [hr.1.at0]) (by rw [hr.1.at0, hr.1.at2, hr.1.at11]) eF (a2 k hk)
        · intro k hk
          by_cases hkc : k = c
          · exact Or.inl (hr.G hk (Or.inl hkc))
          · rcases hGk k hk hkc with q | q
            · exact Or.inl (hr.G hk (Or.inr q))
            · exact Or.inr q
      refine jm_Ok.go 60 [222, 228] ?_
      refine ⟨fun _ => ren, fun ho5 => ⟨fun hb5 => ?_, fun _ => ren⟩⟩
      refine k228 R _ τ hR hsτ hE h8 h01 ?_ ?_
      · exact fun k hk => bw_tr_A hk e0 hF2 (bw_S1_A2 hI h1 hk (Or.inr hb5))
      · intro k hk
        by_cases hkc : k = c
        · subst hkc
          exact Or.inl (bw_tr_G hk e0 e2 (by decide) hF2 (bw_S1_Gc hI h1 hk (by rw [← hold]; exact ho5) hb5))
        · exact hGk k hk hkc
    have k181 : ∀ (R : Int → Int) (l6 : Option jm_V) (τ : jm_S), (∀ m, (0 ≤ m ∧ m < 64) → bw_rf (σ1 0) R m) → jm_okS D_B τ → bw_Ev (bw_r11 σ1 R) τ → τ 8 0 = 0 → bw_AA τ 1 → (∀ k, bw_cl k → bw_G τ 1 k) → (∀ f x, f = 0 ∨ f = 2 → bw_cl x → bw_F τ f x = bw_F σ1 f x) → jm_Ok D_B fi_B (jm_look L_B_set) k_B_set none Q 181 [some (.inr none), some (.inl c), some (.inl b), some (.inl old), some (.inl mv), some (.inl dv), l6] [] τ := by
      intro R l6 τ hR hsτ hE h8 hA1 hG1 hF
      have e0 : τ 0 = σ1 0 := hE.at0
      have e2 : τ 2 = σ1 2 := hE.at2
      have ren : jm_Ok D_B fi_B (jm_look L_B_set) k_B_set none Q 206 [some (.inr none), some (.inl c), some (.inl b), some (.inl old), some (.inl mv), some (.inl dv), l6] [] τ := by
        refine jm_Ok.go 60 [212] ?_
        refine ⟨⟨by omega, hc, h8, fun k hk hkc => bw_tr_A hk e0 (fun x hx => hF 0 x (Or.inl rfl) hx) (bw_S1_G0 hI h1 hk (Or.inl hkc)).2⟩, ?_⟩
        rintro _ τ' hs' hr
        have hr : bw_RO τ τ' 0 c := hr
        refine k212 R _ τ' hR hs' (hE.tr hr.1) hr.2.2.1 ?_ (fun x hx => (hr.2.1 2 x (by omega) (by omega) hx).trans (hF 2 x (Or.inr rfl) hx))
        intro f hf
        by_cases h0 : f = 0
        · subst h0
          refine ⟨hr.AA, fun k hk => hr.G hk ?_⟩
          by_cases hkc : k = c
          · exact Or.inl hkc
          · exact Or.inr (bw_tr_G hk e0 e2 (by decide) (fun x hx => hF 0 x (Or.inl rfl) hx) (bw_S1_G0 hI h1 hk (Or.inl hkc)).1)
        · have h1' : f = 1 := by omega
          subst h1'
          have eF : ∀ x, bw_cl x → bw_F τ' 1 x = bw_F τ 1 x := fun x hx => hr.2.1 1 x (by omega) (by omega) hx
          refine ⟨bw_A_congr (fun k _ q => by rw [hr.1.at0] at q; exact q) eF hA1, fun k hk => ?_⟩
          exact bw_gd_congr hk (by rw [hr.1.at0]) (by rw [hr.1.at0, hr.1.at2, hr.1.at11]) eF (hG1 k hk)
      refine jm_Ok.go 60 [206, 212] ?_
      refine ⟨trivial, ?_⟩
      rintro r τ - ⟨hr, rfl⟩
      refine ⟨fun _ => ren, fun heq => ⟨fun _ => ren, fun h3 => ⟨fun _ => ren, fun h8' => ⟨fun hb3 => ?_, fun _ => ren⟩⟩⟩⟩
      refine k212 R _ τ hR hsτ hE h8 ?_ (fun x hx => hF 2 x (Or.inr rfl) hx)
      have hcond : (bw_op (σ 0 c) ↔ bw_op b) ∧ σ 0 c ≠ 3 ∧ σ 0 c ≠ 8 ∧ b ≠ 3 := by rw [← hold]; omega
      intro f hf
      by_cases h0 : f = 0
      · subst h0
        exact ⟨fun k hk => bw_tr_A hk e0 (fun x hx => hF 0 x (Or.inl rfl) hx) (bw_S1_G0 hI h1 hk (Or.inr hcond)).2, fun k hk => bw_tr_G hk e0 e2 (by decide) (fun x hx => hF 0 x (Or.inl rfl) hx) (bw_S1_G0 hI h1 hk (Or.inr hcond)).1⟩
      · have h1' : f = 1 := by omega
        subst h1'
        exact ⟨hA1, hG1⟩
    refine jm_Ok.go 60 [181] ?_
    refine ⟨trivial, ?_⟩
    rintro r σ1 - ⟨hr, rfl⟩
    refine ⟨fun heq => ?_, fun hneq => ?_⟩
    · have ho : bw_op (σ 0 c) ↔ bw_op b := by rw [← hold]; omega
      refine k181 (σ1 11) _ σ1 ?_ hs1 (by rw [bw_r11_id]; exact bw_Ev.rf σ1) e8 (fun k hk => (bw_S1_G1 hI h1 hk (Or.inr ho)).2) (fun k hk => (bw_S1_G1 hI h1 hk (Or.inr ho)).1) (fun _ _ _ _ => rfl)
      intro m hm
      obtain ⟨r1, r2⟩ := hI.1.2.2.2.2.2.2.1 m hm
      have eq : ∀ x, bw_op (σ1 0 x) ↔ bw_op (σ 0 x) := by
        intro x
        rw [h1.2.1]
        by_cases hxc : x = c
        · rw [if_pos hxc, hxc]; exact ho.symm
        · rw [if_neg hxc]
      rw [h1.at11]
      exact ⟨fun y a b => by rw [eq]; exact r1 y a b, fun q => by rw [eq]; exact r2 q⟩
    · refine ⟨⟨hc, e8, fun k hk hkc => (bw_S1_G1 hI h1 hk (Or.inl hkc)).2, fun k hk hkc => (bw_S1_G1 hI h1 hk (Or.inl hkc)).1⟩, ?_⟩
      rintro _ τ hsτ ⟨R, q1, q2, q3, q4, q5, q6, q7⟩
      refine k181 R _ τ ?_ hsτ q3 q5 q6 q7 (fun f x hf hx => q4 f x (by omega) (by omega) hx)
      intro m hm
      by_cases hmc : m = c % 64
      · rw [hmc]; exact q2
      · obtain ⟨r1, r2⟩ := hI.1.2.2.2.2.2.2.1 m hm
        have eR : R m = σ 11 m := by rw [q1 m hmc, h1.at11]
        have eq : ∀ y, σ1 0 (64 * y + m) = σ 0 (64 * y + m) := by
          intro y
          rw [h1.2.1, if_neg]
          omega
        unfold bw_rf
        rw [eR]
        exact ⟨fun y a b => by rw [eq]; exact r1 y a b, fun q => by rw [eq]; exact r2 q⟩
  -- the stores
  have k51 : ¬ (old = 5 ∧ b = 5) → ∀ (mv : Int) (l4 l5 l6 : Option jm_V), ((mv = 1 ∧ (σ 0 c = 6 ∨ (σ 0 c = 7 ∧ σ 2 c = 1))) ∨ (mv = 0 ∧ ¬ (σ 0 c = 6 ∨ (σ 0 c = 7 ∧ σ 2 c = 1)))) → jm_Ok D_B fi_B (jm_look L_B_set) k_B_set none Q 51 [some (.inr none), some (.inl c), some (.inl b), some (.inl old), l4, l5, l6] [.inl mv] σ := by
    intro hne mv l4 l5 l6 hmv
    have hco : σ 12 old = bw_cnt (fun x => decide (σ 0 x = old)) 384 := hI.1.2.2.2.2.2.1 old (by omega)
    have hco1 : 1 ≤ σ 12 old := by
      rw [hco]; exact bw_cnt_pos (c := c) hc.1 hc.2 (by simp [hold])
    have hco2 : σ 12 old ≤ 384 := by
      rw [hco]; exact (bw_cnt_rg _ 384).2
    have hcb : b ≠ old → 0 ≤ σ 12 b ∧ σ 12 b ≤ 383 := by
      intro hbo
      rw [hI.1.2.2.2.2.2.1 b hb]
      refine ⟨(bw_cnt_rg _ 384).1, ?_⟩
      have := bw_cnt_lt (p := fun x => decide (σ 0 x = b)) (c := c) (n := 384) hc.1 hc.2 (by simp; omega)
      omega
    have hn2r : ∀ n2, n2 = jm_up σ 12 old (σ 12 old - 1) 12 b → 0 ≤ n2 ∧ n2 ≤ 383 := by
      intro n2 hn2
      by_cases hbo : b = old
      · rw [hn2]; simp [jm_up, hbo]; omega
      · rw [hn2]; simp [jm_up, hbo]; have := hcb hbo; omega
    have h10 := hs 10 0 (by omega) (Or.inr rfl)
    have h10a : 0 ≤ σ 10 0 := h10.1
    have h10b : σ 10 0 ≤ 1 := h10.2
    refine jm_Ok.go 120 [167] ?_
    refine ⟨trivial, ?_⟩
    rintro dv σ - ⟨hdv, rfl⟩
    refine ⟨by omega, fun n1 hn1 _ _ => ⟨by omega, by omega, by omega, by omega, by omega, fun n2 hn2 _ _ => ?_⟩⟩
    subst hn1
    have hr2 := hn2r n2 hn2
    refine ⟨by omega, by omega, by omega, by omega, by omega, by omega, by omega, by omega, by omega, ?_⟩
    have goal : ∀ v7 v7' v8 v10 : Int, (v7 = if b = 7 then 1 else 0) → (v7' = if b = 7 then 1 else 0) → (v8 = if b = 8 then 1 else 0) → (v10 = if σ 10 0 = 0 then v8 else 1) → jm_Ok D_B fi_B (jm_look L_B_set) k_B_set none Q 167 [some (.inr none), some (.inl c), some (.inl b), some (.inl old), some (.inl mv), some (.inl dv), l6] [] (jm_up (jm_up (jm_up (jm_up (jm_up (jm_up (jm_up (jm_up σ 12 old (σ 12 old - 1)) 12 b (n2 + 1)) 0 c b) 1 c 0) 2 c v7) 3 c v7') 9 c v8) 10 0 v10) := by
      intro v7 v7' v8 v10 q7 q7' q8 q10
      refine k167 hne mv dv _ _ (bw_S1_ok hs (by omega) (by omega) (by omega) ?_ ?_ ?_ ?_) (bw_S1_mk hold rfl hn2 q7 q7' q8 q10) hmv hdv
      · split at q7 <;> omega
      · split at q7' <;> omega
      · split at q8 <;> omega
      · split at q8 <;> split at q10 <;> omega
    have hany : ∀ v8 : Int, ∀ a : Int, a = σ 10 0 → (if a = 0 then v8 else 1) = if σ 10 0 = 0 then v8 else 1 := fun v8 a h => by rw [h]
    by_cases h7 : b = 7
    · refine ⟨fun q => absurd h7 q, fun _ => ⟨by omega, by omega, ⟨fun q => absurd h7 q, fun _ => ⟨by omega, by omega, ⟨fun _ => ⟨by omega, by omega, fun a ha _ _ => ⟨fun _ => ⟨by omega, ?_, ?_⟩, fun q => by omega⟩⟩, fun q => by omega⟩⟩⟩⟩⟩
      · show (0 : Int) ≤ (if a = 0 then 0 else 1) ∧ (if a = 0 then (0 : Int) else 1) ≤ 1
        split <;> omega
      · exact goal 1 1 0 _ (by rw [if_pos h7]) (by rw [if_pos h7]) (by rw [if_neg (by omega)]) (hany 0 a ha)
    · by_cases h8 : b = 8
      · refine ⟨fun _ => ⟨by omega, by omega, ⟨fun _ => ⟨by omega, by omega, ⟨fun q => absurd h8 q, fun _ => ⟨by omega, by omega, fun a ha _ _ => ⟨fun q => absurd h8 q, fun _ => ⟨by omega, ?_, ?_⟩⟩⟩⟩⟩, fun q => absurd q h7⟩⟩, fun q => absurd q h7⟩
        · show (0 : Int) ≤ (if a = 0 then 1 else 1) ∧ (if a = 0 then (1 : Int) else 1) ≤ 1
          split <;> omega
        · exact goal 0 0 1 _ (by rw [if_neg h7]) (by rw [if_neg h7]) (by rw [if_pos h8]) (hany 1 a ha)
      · refine ⟨fun _ => ⟨by omega, by omega, ⟨fun _ => ⟨by omega, by omega, ⟨fun _ => ⟨by omega, by omega, fun a ha _ _ => ⟨fun _ => ⟨by omega, ?_, ?_⟩, fun q => absurd q h8⟩⟩, fun q => absurd q h8⟩⟩, fun q => absurd q h7⟩⟩, fun q => absurd q h7⟩
        · show (0 : Int) ≤ (if a = 0 then 0 else 1) ∧ (if a = 0 then (0 : Int) else 1) ≤ 1
          split <;> omega
        · exact goal 0 0 0 _ (by rw [if_neg h7]) (by rw [if_neg h7]) (by rw [if_neg h8]) (hany 0 a ha)
  have k25 : ¬ (old = 5 ∧ b = 5) → ∀ (l4 l5 l6 : Option jm_V), jm_Ok D_B fi_B (jm_look L_B_set) k_B_set none Q 25 [some (.inr none), some (.inl c), some (.inl b), some (.inl old), l4, l5, l6] [] σ := by
    intro hne l4 l5 l6
    refine jm_Ok.go 60 [51] ?_
    refine ⟨fun h6 => k51 hne 1 _ _ _ (Or.inl ⟨rfl, by omega⟩), fun h6 => ⟨fun h7 => k51 hne 0 _ _ _ (Or.inr ⟨rfl, by omega⟩), fun h7 => ⟨by omega, fun o ho _ _ => ⟨fun h0 => k51 hne 0 _ _ _ (Or.inr ⟨rfl, by omega⟩), fun h0 => k51 hne 1 _ _ _ (Or.inl ⟨rfl, by omega⟩)⟩⟩⟩⟩
  refine jm_Ok.go 60 [25] ?_
  refine ⟨by omega, fun o ho _ _ => ?_⟩
  obtain rfl : o = old := by omega
  refine ⟨fun h => k25 (by omega) _ _ _, fun h => ⟨fun h7 => k25 (by omega) _ _ _, fun h7 => ⟨fun h9 => k25 (by omega) _ _ _, fun h9 => ?_⟩⟩⟩
  refine hQ _ _ ⟨hI, ?_, ?_, fun _ _ => rfl, fun q => absurd q h7, rfl, rfl, rfl, rfl⟩
  · intro x
    by_cases hx : x = c
    · rw [if_pos hx, hx]; omega
    · rw [if_neg hx]
  · intro x
    by_cases hx : x = c
    · rw [if_pos hx, hx]; exact hI.1.2.2.2.2.2.2.2 c hc (by omega)
    · rw [if_neg hx]
end
section
/-! THE ABSTRACT STATE: blocks, stages, which inverters are on; all else follows from it. Pure. -/
abbrev bw_X : Type := (Int → Int) × (Int → Int) × (Int → Int)
def bw_rs (f : Int → Int) : Int → Int := fun x => if bw_cl x then f x else 0
def bw_abs (σ : jm_S) : bw_X := (bw_rs (σ 0), bw_rs (σ 1), bw_rs (fun x => if σ 0 x = 7 then σ 2 x else 0))
theorem bw_rs_at {f : Int → Int} {x : Int} (h : bw_cl x) : bw_rs f x = f x := if_pos h
theorem bw_rs_ext {f g : Int → Int} (h : ∀ x, bw_cl x → f x = g x) : bw_rs f = bw_rs g := by
  funext x
  unfold bw_rs
  split
  · rename_i q; exact h x q
  · rfl
theorem bw_abs_ext {σ τ : jm_S} (h0 : ∀ x, bw_cl x → τ 0 x = σ 0 x) (h1 : ∀ x, bw_cl x → τ 1 x = σ 1 x) (h2 : ∀ x, bw_cl x → σ 0 x = 7 → τ 2 x = σ 2 x) : bw_abs τ = bw_abs σ := by
  have e2 : bw_rs (fun x => if τ 0 x = 7 then τ 2 x else 0) = bw_rs (fun x => if σ 0 x = 7 then σ 2 x else 0) := by
    apply bw_rs_ext
    intro x hx
    rw [h0 x hx]
    split
    · rename_i q; exact h2 x hx q
    · rfl
  unfold bw_abs
  rw [e2, bw_rs_ext h0, bw_rs_ext h1]
theorem bw_abs_0 {σ : jm_S} {x : Int} (h : bw_cl x) : (bw_abs σ).1 x = σ 0 x := bw_rs_at h
theorem bw_abs_1 {σ : jm_S} {x : Int} (h : bw_cl x) : (bw_abs σ).2.1 x = σ 1 x := bw_rs_at h
theorem bw_abs_2 {σ : jm_S} {x : Int} (h : bw_cl x) (h7 : σ 0 x = 7) : (bw_abs σ).2.2 x = σ 2 x := by
  have e : (bw_abs σ).2.2 x = if σ 0 x = 7 then σ 2 x else 0 := bw_rs_at (f := fun x => if σ 0 x = 7 then σ 2 x else 0) h
  rw [e, if_pos h7]
theorem bw_abs_eq {σ τ : jm_S} (h : bw_abs τ = bw_abs σ) {x : Int} (hx : bw_cl x) : τ 0 x = σ 0 x ∧ τ 1 x = σ 1 x ∧ (σ 0 x = 7 → τ 2 x = σ 2 x) := by
  have h0 : τ 0 x = σ 0 x := by rw [← bw_abs_0 (σ := τ) hx, h, bw_abs_0 hx]
  refine ⟨h0, by rw [← bw_abs_1 (σ := τ) hx, h, bw_abs_1 hx], fun h7 => ?_⟩
  rw [← bw_abs_2 hx h7, ← bw_abs_2 hx (h0.trans h7), h]
/-! powers, lamps, light, sky of an abstract state -/
def bw_sol (ps : Int → Prop) (bg F : Int → Int) : Prop := (∀ k, bw_cl k → 0 ≤ F k ∧ F k ≤ 15) ∧ bw_A ps F ∧ ∀ k, bw_cl k → bw_gd ps bg F k
noncomputable def bw_the (ps : Int → Prop) (bg : Int → Int) : Int → Int := @dite (Int → Int) (∃ F, bw_sol ps bg F) (Classical.propDecidable _) (fun h => Classical.choose h) (fun _ _ => 0)
theorem bw_the_eq {ps ps' : Int → Prop} {bg bg' F : Int → Int} (h : bw_sol ps bg F) (hps : ∀ k, bw_cl k → (ps k ↔ ps' k)) (hbg : ∀ k, bw_cl k → ps k → bg k = bg' k) : ∀ k, bw_cl k → F k = bw_the ps' bg' k := by
  have hex : ∃ F, bw_sol ps' bg' F := by
    refine ⟨F, h.1, ?_, ?_⟩
    · exact bw_A_congr (fun k hk q => (hps k hk).mpr q) (fun _ _ => rfl) h.2.1
    · intro k hk
      obtain ⟨a, b⟩ := h.2.2 k hk
      refine ⟨fun q => by rw [← hbg k hk ((hps k hk).mpr q)]; exact a ((hps k hk).mpr q), fun q => ⟨(hps k hk).mp (b q).1, ?_⟩⟩
      rw [← hbg k hk (b q).1]
      exact (b q).2
  have h2 := Classical.choose_spec hex
  have e : bw_the ps' bg' = Classical.choose hex := dif_pos hex
  rw [e]
  exact bw_uniq h.1 h2.1 hps hbg h.2.1 h2.2.1 h.2.2 h2.2.2
theorem bw_the_congr {ps ps' : Int → Prop} {bg bg' : Int → Int} (hps : ∀ k, bw_cl k → (ps k ↔ ps' k)) (hbg : ∀ k, bw_cl k → ps k → bg k = bg' k) : ∀ k, bw_cl k → bw_the ps bg k = bw_the ps' bg' k := by
  intro k hk
  rcases Classical.em (∃ F, bw_sol ps bg F) with h | h
  · obtain ⟨F, hF⟩ := h
    rw [← bw_the_eq hF (fun _ _ => Iff.rfl) (fun _ _ _ => rfl) k hk, ← bw_the_eq hF hps hbg k hk]
  · have h' : ¬ ∃ F, bw_sol ps' bg' F := by
      rintro ⟨F, hF⟩
      apply h
      refine ⟨F, hF.1, bw_A_congr (fun k hk q => (hps k hk).mp q) (fun _ _ => rfl) hF.2.1, fun k hk => ?_⟩
      obtain ⟨a, b⟩ := hF.2.2 k hk
      refine ⟨fun q => by rw [hbg k hk q]; exact a ((hps k hk).mp q), fun q => ⟨(hps k hk).mpr (b q).1, ?_⟩⟩
      rw [hbg k hk ((hps k hk).mpr (b q).1)]
      exact (b q).2
    unfold bw_the
    rw [dif_neg h, dif_neg h']
/-- the powers -/
noncomputable def bw_pow (a : bw_X) : Int → Int := bw_the (bw_ps a.1 2) (bw_bgP a.1 a.2.2)
/-- what is on: inverters by the state, lamps by what feeds them -/
noncomputable def bw_on (a : bw_X) (x : Int) : Int := if a.1 x = 7 then a.2.2 x else @ite Int (a.1 x = 8 ∧ bw_fed a.1 a.2.2 (bw_pow a) x) (Classical.propDecidable _) 1 0
noncomputable def bw_lgt (a : bw_X) : Int → Int := bw_the (bw_ps a.1 0) (bw_shn a.1 (bw_on a))
def bw_open (B : Int → Int) (c : Int) : Prop := ∀ y, c / 64 ≤ y → y < 6 → ¬ bw_op (B (64 * y + c % 64))
noncomputable def bw_bgO (B : Int → Int) (c : Int) : Int := @ite Int (bw_open B c) (Classical.propDecidable _) 15 0
noncomputable def bw_sky (a : bw_X) : Int → Int := bw_the (bw_ps a.1 1) (bw_bgO a.1)
theorem bw_bgO_1 {B : Int → Int} {c : Int} (h : bw_open B c) : bw_bgO B c = 15 := if_pos h
theorem bw_bgO_0 {B : Int → Int} {c : Int} (h : ¬ bw_open B c) : bw_bgO B c = 0 := if_neg h
theorem bw_on_7 {a : bw_X} {x : Int} (h : a.1 x = 7) : bw_on a x = a.2.2 x := if_pos h
theorem bw_on_8 {a : bw_X} {x : Int} (h : a.1 x = 8) (hf : bw_fed a.1 a.2.2 (bw_pow a) x) : bw_on a x = 1 := by
  unfold bw_on; rw [if_neg (by omega), if_pos ⟨h, hf⟩]
theorem bw_on_0 {a : bw_X} {x : Int} (h7 : a.1 x ≠ 7) (hf : ¬ (a.1 x = 8 ∧ bw_fed a.1 a.2.2 (bw_pow a) x)) : bw_on a x = 0 := by
  unfold bw_on; rw [if_neg h7, if_neg hf]
/-! congruences by cells -/
theorem bw_ps_cg {B B' : Int → Int} {f k : Int} (h : B' k = B k) : bw_ps B f k ↔ bw_ps B' f k := by unfold bw_ps; rw [h]
theorem bw_drv_cg {B B' O O' : Int → Int} {c : Int} (hc : bw_cl c) (hB : ∀ x, bw_cl x → B' x = B x) (hO : ∀ x, bw_cl x → B x = 7 → O' x = O x) : bw_drv B O c ↔ bw_drv B' O' c := by
  have key : ∀ d, (0 ≤ d ∧ d < 6) → (bw_mk B O c d ↔ bw_mk B' O' c d) := by
    intro d hd
    unfold bw_mk
    by_cases h0 : 0 ≤ bw_nb c d
    · have hx : bw_cl (bw_nb c d) := ⟨h0, (bw_nb_rg hc hd).2⟩
      rw [hB _ hx]
      by_cases h7 : B (bw_nb c d) = 7
      · rw [hO _ hx h7]
      · simp [h7]
    · simp [h0]
  constructor
  · rintro ⟨d, hd, q⟩; exact ⟨d, hd, (key d hd).mp q⟩
  · rintro ⟨d, hd, q⟩; exact ⟨d, hd, (key d hd).mpr q⟩
theorem bw_fed_cg {B B' O O' P P' : Int → Int} {c : Int} (hc : bw_cl c) (hB : ∀ x, bw_cl x → B' x = B x) (hO : ∀ x, bw_cl x → B x = 7 → O' x = O x) (hP : ∀ x, bw_cl x → P' x = P x) : bw_fed B O P c ↔ bw_fed B' O' P' c := by
  unfold bw_fed
  rw [bw_drv_cg hc hB hO, hB c hc]
  have : (∃ n, bw_adj c n ∧ B n = 5 ∧ 0 < P n) ↔ (∃ n, bw_adj c n ∧ B' n = 5 ∧ 0 < P' n) := by
    constructor
    · rintro ⟨n, hn, q1, q2⟩
      have h1 := bw_adj_cl hc hn
      exact ⟨n, hn, by rw [hB n h1]; exact q1, by rw [hP n h1]; exact q2⟩
    · rintro ⟨n, hn, q1, q2⟩
      have h1 := bw_adj_cl hc hn
      exact ⟨n, hn, by rw [← hB n h1]; exact q1, by rw [← hP n h1]; exact q2⟩
  rw [this]
theorem bw_bgP_cg {B B' O O' : Int → Int} {c : Int} (hc : bw_cl c) (hB : ∀ x, bw_cl x → B' x = B x) (hO : ∀ x, bw_cl x → B x = 7 → O' x = O x) : bw_bgP B O c = bw_bgP B' O' c := by
  have h := bw_drv_cg hc hB hO
  rcases Classical.em (B c = 5 ∧ bw_drv B O c) with q | q
  · rw [bw_bgP_1 q, bw_bgP_1 ⟨by rw [hB c hc]; exact q.1, h.mp q.2⟩]
  · rw [bw_bgP_0 q, bw_bgP_0 (fun z => q ⟨by rw [← hB c hc]; exact z.1, h.mpr z.2⟩)]
theorem bw_open_cg {B B' : Int → Int} {c : Int} (hc : bw_cl c) (hB : ∀ x, bw_cl x → B' x = B x) : bw_open B c ↔ bw_open B' c := by
  unfold bw_open
  constructor
  · intro h y h1 h2; rw [hB _ (by omega)]; exact h y h1 h2
  · intro h y h1 h2; rw [← hB _ (by omega)]; exact h y h1 h2
/-- powers and lamps of a world are those of its abstract state -/
theorem bw_pow_of {σ : jm_S} {P : Int → Int} (h : bw_sol (bw_ps (σ 0) 2) (bw_bgP (σ 0) (σ 2)) P) : ∀ k, bw_cl k → P k = bw_pow (bw_abs σ) k :=
  bw_the_eq h (fun k hk => bw_ps_cg (bw_abs_0 hk)) (fun k hk _ => bw_bgP_cg hk (fun x hx => bw_abs_0 hx) (fun x hx h7 => bw_abs_2 hx h7))
theorem bw_fed_of {σ : jm_S} {P : Int → Int} (h : ∀ k, bw_cl k → P k = bw_pow (bw_abs σ) k) {c : Int} (hc : bw_cl c) : bw_fed (σ 0) (σ 2) P c ↔ bw_fed (bw_abs σ).1 (bw_abs σ).2.2 (bw_pow (bw_abs σ)) c :=
  bw_fed_cg hc (fun x hx => bw_abs_0 hx) (fun x hx h7 => bw_abs_2 hx h7) (fun x hx => (h x hx).symm)
theorem bw_on_of {σ : jm_S} {P : Int → Int} (h : ∀ k, bw_cl k → P k = bw_pow (bw_abs σ) k) {x : Int} (hx : bw_cl x) (h01 : σ 2 x = 0 ∨ σ 2 x = 1) (hl : σ 0 x = 8 → (σ 2 x = 1 ↔ bw_fed (σ 0) (σ 2) P x)) (ho : σ 2 x = 1 → σ 0 x = 7 ∨ σ 0 x = 8) : bw_on (bw_abs σ) x = σ 2 x := by
  by_cases h7 : σ 0 x = 7
  · rw [bw_on_7 (by rw [bw_abs_0 hx]; exact h7), bw_abs_2 hx h7]
  · by_cases h8 : σ 0 x = 8
    · have hf := (hl h8).trans (bw_fed_of h hx)
      rcases Classical.em (σ 2 x = 1) with q | q
      · rw [bw_on_8 (by rw [bw_abs_0 hx]; exact h8) (hf.mp q), q]
      · rw [bw_on_0 (by rw [bw_abs_0 hx]; exact h7) (fun z => q (hf.mpr z.2))]
        omega
    · rw [bw_on_0 (by rw [bw_abs_0 hx]; exact h7) (fun z => h8 (by rw [← bw_abs_0 (σ := σ) hx]; exact z.1))]
      omega
theorem bw_lgt_of {σ : jm_S} {O F : Int → Int} (h : bw_sol (bw_ps (σ 0) 0) (bw_shn (σ 0) O) F) (hO : ∀ x, bw_cl x → σ 0 x = 8 → O x = bw_on (bw_abs σ) x) : ∀ k, bw_cl k → F k = bw_lgt (bw_abs σ) k :=
  bw_the_eq h (fun k hk => bw_ps_cg (bw_abs_0 hk)) (fun k hk _ => by
    unfold bw_shn
    rw [bw_abs_0 hk]
    by_cases h8 : σ 0 k = 8
    · rw [hO k hk h8]
    · simp [h8])
theorem bw_sky_of {σ : jm_S} {bg F : Int → Int} (h : bw_sol (bw_ps (σ 0) 1) bg F) (hb : ∀ k, bw_cl k → bg k = bw_bgO (σ 0) k) : ∀ k, bw_cl k → F k = bw_sky (bw_abs σ) k :=
  bw_the_eq h (fun k hk => bw_ps_cg (bw_abs_0 hk)) (fun k hk _ => by
    rw [hb k hk]
    have e := bw_open_cg (B := σ 0) (B' := (bw_abs σ).1) hk (fun x hx => bw_abs_0 hx)
    rcases Classical.em (bw_open (σ 0) k) with q | q
    · rw [bw_bgO_1 q, bw_bgO_1 (e.mp q)]
    · rw [bw_bgO_0 q, bw_bgO_0 (fun z => q (e.mpr z))])
/-! the component -/
def bw_K (σ : jm_S) : Prop := bw_I σ ∧ σ 10 0 = 0
theorem bw_K_sol {σ : jm_S} (h : bw_K σ) (hs : jm_okS D_B σ) {f : Int} (hf : 0 ≤ f ∧ f ≤ 2) : bw_sol (bw_ps (σ 0) f) (bw_bg (σ 0) (σ 2) (σ 11) f) (bw_F σ f) := by
  obtain ⟨a, b⟩ := h.1.1.2.1 f hf
  refine ⟨fun k hk => ?_, a, b⟩
  exact hs 4 (384 * f + k) (by omega) (Or.inl (by show _ < (1152 : Int); omega))
theorem bw_K_pow {σ : jm_S} (h : bw_K σ) (hs : jm_okS D_B σ) : ∀ k, bw_cl k → bw_F σ 2 k = bw_pow (bw_abs σ) k := bw_pow_of (bw_K_sol h hs (f := 2) (by omega))
theorem bw_K_lamp {σ : jm_S} (h : bw_K σ) (hs : jm_okS D_B σ) {c : Int} (hc : bw_cl c) (h8 : σ 0 c = 8) : σ 2 c = 1 ↔ bw_fed (σ 0) (σ 2) (bw_F σ 2) c := by
  have h9 := hs 9 c hc.1 (Or.inl hc.2)
  have h9a : 0 ≤ σ 9 c := h9.1
  have h9b : σ 9 c ≤ 1 := h9.2
  refine h.1.1.2.2.2.2.1 c hc h8 ?_
  rcases Classical.em (σ 9 c = 1) with q | q
  · have h10 := h.2
    rcases h.1.2 c hc q with z | z <;> omega
  · omega
theorem bw_K_on {σ : jm_S} (h : bw_K σ) (hs : jm_okS D_B σ) {x : Int} (hx : bw_cl x) : bw_on (bw_abs σ) x = σ 2 x := by
  have h2 := hs 2 x hx.1 (Or.inl hx.2)
  have h2a : 0 ≤ σ 2 x := h2.1
  have h2b : σ 2 x ≤ 1 := h2.2
  exact bw_on_of (bw_K_pow h hs) hx (by omega) (fun q => bw_K_lamp h hs hx q) (h.1.1.2.2.1 x hx)
theorem bw_K_lgt {σ : jm_S} (h : bw_K σ) (hs : jm_okS D_B σ) : ∀ k, bw_cl k → bw_F σ 0 k = bw_lgt (bw_abs σ) k :=
  bw_lgt_of (O := σ 2) (bw_K_sol h hs (f := 0) (by omega)) (fun x hx _ => (bw_K_on h hs hx).symm)
theorem bw_rf_open {B R : Int → Int} {c : Int} (hc : bw_cl c) (h : bw_rf B R (c % 64)) (h6 : R (c % 64) ≤ 6) : R (c % 64) ≤ c / 64 ↔ bw_open B c := by
  constructor
  · intro q y h1 h2; exact h.1 y (by omega) h2
  · intro q
    rcases Int.lt_or_le (c / 64) (R (c % 64)) with z | z
    · have h1 := h.2 (by omega)
      exact absurd h1 (q (R (c % 64) - 1) (by omega) (by omega))
    · exact z
theorem bw_K_open {σ : jm_S} (h : bw_K σ) (hs : jm_okS D_B σ) {c : Int} (hc : bw_cl c) : σ 11 (c % 64) ≤ c / 64 ↔ bw_open (σ 0) c :=
  bw_rf_open hc (h.1.1.2.2.2.2.2.2.1 (c % 64) (by omega)) (hs 11 (c % 64) (by omega) (Or.inl (by show _ < (64 : Int); omega))).2
theorem bw_K_sky {σ : jm_S} (h : bw_K σ) (hs : jm_okS D_B σ) : ∀ k, bw_cl k → bw_F σ 1 k = bw_sky (bw_abs σ) k := by
  refine bw_sky_of (bg := bw_bgS (σ 11)) (bw_K_sol h hs (f := 1) (by omega)) fun k hk => ?_
  unfold bw_bgS
  have e := bw_K_open h hs hk
  rcases Classical.em (bw_open (σ 0) k) with q | q
  · rw [bw_bgO_1 q, if_pos (e.mpr q)]
  · rw [bw_bgO_0 q, if_neg (fun z => q (e.mp z))]
end
section
/-! what the calls do to an abstract state. Pure. -/
def bw_st (a : bw_X) (c b : Int) : bw_X := (fun x => if x = c then b else a.1 x, fun x => if x = c then 0 else a.2.1 x, fun x => if x = c then (if b = 7 then 1 else 0) else a.2.2 x)
theorem bw_abs_st {σ σ' : jm_S} {c b : Int} (hc : bw_cl c) (h0 : ∀ x, bw_cl x → σ' 0 x = if x = c then b else σ 0 x) (h1 : ∀ x, bw_cl x → σ' 1 x = if x = c then 0 else σ 1 x) (h2 : ∀ x, bw_cl x → x ≠ c → σ 0 x = 7 → σ' 2 x = σ 2 x) (h7 : b = 7 → σ' 2 c = 1) : bw_abs σ' = bw_st (bw_abs σ) c b := by
  have e0 : (bw_abs σ').1 = (bw_st (bw_abs σ) c b).1 := by
    funext x
    show bw_rs _ x = if x = c then b else bw_rs _ x
    by_cases hx : bw_cl x
    · rw [bw_rs_at hx, bw_rs_at hx, h0 x hx]
    · have hxc : x ≠ c := fun q => hx (by rw [q]; exact hc)
      rw [if_neg hxc]; unfold bw_rs; rw [if_neg hx, if_neg hx]
  have e1 : (bw_abs σ').2.1 = (bw_st (bw_abs σ) c b).2.1 := by
    funext x
    show bw_rs _ x = if x = c then 0 else bw_rs _ x
    by_cases hx : bw_cl x
    · rw [bw_rs_at hx, bw_rs_at hx, h1 x hx]
    · have hxc : x ≠ c := fun q => hx (by rw [q]; exact hc)
      rw [if_neg hxc]; unfold bw_rs; rw [if_neg hx, if_neg hx]
  have e2 : (bw_abs σ').2.2 = (bw_st (bw_abs σ) c b).2.2 := by
    funext x
    show bw_rs (fun x => if σ' 0 x = 7 then σ' 2 x else 0) x = if x = c then (if b = 7 then 1 else 0) else bw_rs (fun x => if σ 0 x = 7 then σ 2 x else 0) x
    by_cases hx : bw_cl x
    · rw [bw_rs_at hx, bw_rs_at hx, h0 x hx]
      by_cases hxc : x = c
      · subst hxc
        rw [if_pos rfl, if_pos rfl]
        by_cases hb : b = 7
        · rw [if_pos hb, if_pos hb, h7 hb]
        · rw [if_neg hb, if_neg hb]
      · rw [if_neg hxc, if_neg hxc]
        by_cases hb : σ 0 x = 7
        · rw [if_pos hb, if_pos hb, h2 x hx hxc hb]
        · rw [if_neg hb, if_neg hb]
    · have hxc : x ≠ c := fun q => hx (by rw [q]; exact hc)
      rw [if_neg hxc]; unfold bw_rs; rw [if_neg hx, if_neg hx]
  exact Prod.ext e0 (Prod.ext e1 e2)
theorem bw_SO_abs {σ σ' : jm_S} {c b : Int} (hc : bw_cl c) (h : bw_SO σ σ' c b) : bw_abs σ' = bw_st (bw_abs σ) c b :=
  bw_abs_st hc (fun x _ => h.2.1 x) (fun x _ => h.2.2.1 x) (fun x _ hx _ => h.2.2.2.1 x hx) h.2.2.2.2.1
theorem bw_fr_abs {σ σ' : jm_S} (h : bw_fr σ σ') : bw_abs σ' = bw_abs σ :=
  bw_abs_ext (fun x _ => by rw [h.1]) (fun x _ => by rw [h.2.1]) (fun x _ h7 => h.2.2.2.2.2.2.2.2 x (by omega))
/-! fill -/
def bw_fl (q : Int → Bool) (b : Int) : Nat → bw_X → bw_X
  | 0, a => a
  | n + 1, a => if q (n : Int) = true then bw_st (bw_fl q b n a) (n : Int) b else bw_fl q b n a
theorem bw_fl_hi (q : Int → Bool) (b : Int) (a : bw_X) : ∀ (n : Nat) (x : Int), (n : Int) ≤ x → (bw_fl q b n a).1 x = a.1 x
  | 0, _, _ => rfl
  | n + 1, x, h => by
    have ih := bw_fl_hi q b a n x (by omega)
    unfold bw_fl
    split
    · show (if x = (n : Int) then b else (bw_fl q b n a).1 x) = a.1 x
      rw [if_neg (by omega)]; exact ih
    · exact ih
def bw_box (x y z u v w : Int) : Int → Bool := fun c => decide ((x ≤ c % 8 ∧ c % 8 ≤ u) ∧ (y ≤ c / 64 ∧ c / 64 ≤ v) ∧ (z ≤ c / 8 % 8 ∧ c / 8 % 8 ≤ w))
abbrev bw_fit (x y z b : Int) : Prop := (0 ≤ x ∧ x < 8) ∧ (0 ≤ y ∧ y < 6) ∧ (0 ≤ z ∧ z < 8) ∧ (0 ≤ b ∧ b < 10)
/-! ticks -/
noncomputable def bw_d1 (a : bw_X) (x : Int) : Int := @ite Int (bw_due a.1 (bw_on a) (bw_pow a) x) (Classical.propDecidable _) 1 0
noncomputable def bw_iv (a : bw_X) : bw_X := (a.1, a.2.1, fun x => if bw_cl x ∧ a.1 x = 7 then bw_d1 a x else 0)
noncomputable def bw_in (a : bw_X) : Int := bw_cnt (fun x => decide (a.1 x = 7 ∧ a.2.2 x ≠ bw_d1 a x)) 384
def bw_fa : Nat → bw_X → bw_X × Int
  | 0, a => (a, 0)
  | n + 1, a => if (bw_fa n a).1.1 (64 + (n : Int)) = 4 ∧ (bw_fa n a).1.1 (n : Int) = 0 then (bw_st (bw_st (bw_fa n a).1 (64 + (n : Int)) 0) (n : Int) 4, (bw_fa n a).2 + 1) else bw_fa n a
theorem bw_fa_rg (a : bw_X) : ∀ n : Nat, 0 ≤ (bw_fa n a).2 ∧ (bw_fa n a).2 ≤ n
  | 0 => by simp [bw_fa]
  | n + 1 => by
    have ih := bw_fa_rg a n
    unfold bw_fa
    split
    · show 0 ≤ (bw_fa n a).2 + 1 ∧ (bw_fa n a).2 + 1 ≤ _
      omega
    · omega
def bw_ff (a : bw_X) : bw_X × Int := bw_fa 320 a
theorem bw_ff_rg (a : bw_X) : 0 ≤ (bw_ff a).2 ∧ (bw_ff a).2 ≤ 384 := by
  have h := bw_fa_rg a 320
  unfold bw_ff
  omega
abbrev bw_held (a : bw_X) (x : Int) : Prop := 64 ≤ x ∧ (a.1 (x - 64) = 1 ∨ a.1 (x - 64) = 4)
def bw_g0 (a : bw_X) (x : Int) : Prop := a.1 x = 9 ∧ ¬ bw_held a x
def bw_g1 (a : bw_X) (x : Int) : Prop := a.1 x = 9 ∧ bw_held a x ∧ a.2.1 x ≠ 7 ∧ (9 ≤ bw_lgt a x ∨ 9 ≤ bw_sky a x)
noncomputable def bw_b0 (a : bw_X) (x : Int) : Bool := @decide (bw_g0 a x) (Classical.propDecidable _)
noncomputable def bw_b1 (a : bw_X) (x : Int) : Bool := @decide (bw_g1 a x) (Classical.propDecidable _)
theorem bw_b0_iff {a : bw_X} {x : Int} : bw_b0 a x = true ↔ bw_g0 a x := ⟨@of_decide_eq_true _ (Classical.propDecidable _), @decide_eq_true _ (Classical.propDecidable _)⟩
theorem bw_b1_iff {a : bw_X} {x : Int} : bw_b1 a x = true ↔ bw_g1 a x := ⟨@of_decide_eq_true _ (Classical.propDecidable _), @decide_eq_true _ (Classical.propDecidable _)⟩
noncomputable def bw_gw (a : bw_X) : bw_X := (fun x => if bw_cl x ∧ bw_b0 a x = true then 0 else a.1 x, fun x => if bw_cl x ∧ bw_b0 a x = true then 0 else if bw_cl x ∧ bw_b1 a x = true then a.2.1 x + 1 else a.2.1 x, a.2.2)
noncomputable def bw_n3 (a : bw_X) : Int := bw_cnt (bw_b1 a) 384
noncomputable def bw_n4 (a : bw_X) : Int := bw_cnt (bw_b0 a) 384
/-- one tick: the state behind it; inverters, falls, growths, ends -/
noncomputable def bw_tp (a : bw_X) : bw_X × Int × Int × Int × Int :=
  (bw_gw (bw_ff (bw_iv a)).1, bw_in a, (bw_ff (bw_iv a)).2, bw_n3 (bw_ff (bw_iv a)).1, bw_n4 (bw_ff (bw_iv a)).1)
/-- at most k ticks: how many; the state; the sums -/
noncomputable def bw_tk : Nat → bw_X → Int × bw_X × Int × Int × Int × Int
  | 0, a => (0, a, 0, 0, 0, 0)
  | k + 1, a => if (bw_tp a).2.1 + (bw_tp a).2.2.1 + (bw_tp a).2.2.2.1 + (bw_tp a).2.2.2.2 = 0 then (1, bw_tp a)
    else ((bw_tk k (bw_tp a).1).1 + 1, (bw_tk k (bw_tp a).1).2.1, (bw_tk k (bw_tp a).1).2.2.1 + (bw_tp a).2.1, (bw_tk k (bw_tp a).1).2.2.2.1 + (bw_tp a).2.2.1, (bw_tk k (bw_tp a).1).2.2.2.2.1 + (bw_tp a).2.2.2.1, (bw_tk k (bw_tp a).1).2.2.2.2.2 + (bw_tp a).2.2.2.2)
theorem bw_tp_rg (a : bw_X) : (0 ≤ (bw_tp a).2.1 ∧ (bw_tp a).2.1 ≤ 384) ∧ (0 ≤ (bw_tp a).2.2.1 ∧ (bw_tp a).2.2.1 ≤ 384) ∧ (0 ≤ (bw_tp a).2.2.2.1 ∧ (bw_tp a).2.2.2.1 ≤ 384) ∧ (0 ≤ (bw_tp a).2.2.2.2 ∧ (bw_tp a).2.2.2.2 ≤ 384) := by
  have h1 := bw_cnt_rg (fun x => decide (a.1 x = 7 ∧ a.2.2 x ≠ bw_d1 a x)) 384
  have h2 := bw_ff_rg (bw_iv a)
  have h3 := bw_cnt_rg (bw_b1 (bw_ff (bw_iv a)).1) 384
  have h4 := bw_cnt_rg (bw_b0 (bw_ff (bw_iv a)).1) 384
  unfold bw_tp bw_in bw_n3 bw_n4
  dsimp only
  exact ⟨h1, h2, h3, h4⟩
/-! put, fill -/
def sp_B_put : jm_K := (false, 4, false, fun as σ => (match as with
  | [_, _, _, _] => bw_K σ
  | _ => False), fun as σ r σ' => (match as with
  | [x, y, z, b] => (bw_fit x y z b ∧ r = (bw_abs σ).1 (x + 8 * z + 64 * y) ∧ bw_K σ' ∧ bw_abs σ' = bw_st (bw_abs σ) (x + 8 * z + 64 * y) b ∧ σ' 14 = σ 14) ∨ (¬ bw_fit x y z b ∧ r = -1 ∧ σ' = σ)
  | _ => False))
def L_B_put : List (Nat × jm_K) := [(126, sp_B_fits), (130, sp_B_set), (133, sp_B_lampsLook)]
set_option maxHeartbeats 4000000 in
set_option maxRecDepth 100000 in
theorem con_B_put : jm_Con classes D_B 17 ks_B 0 y_B_put b_B_put 6 (jm_rt (some false)) 8 sp_B_put := by
  refine jm_con2 (L := L_B_put) (code := k_B_put) CF_B rfl (by decide) ck_B_put ⟨⟨y_B_fits, b_B_fits, 4, jm_rt (some true), 0, by decide, con_B_fits, lk_B_fits _ _, rfl⟩, ⟨y_B_set, b_B_set, 7, jm_rt none, 7, by decide, con_B_set, lk_B_set _ _, rfl⟩, ⟨y_B_lampsLook, b_B_lampsLook, 4, jm_rt none, 6, by decide, con_B_lampsLook, lk_B_lampsLook _ _, rfl⟩, trivial⟩ (by decide) ?_
  intro σ as hl hr hs hp Q hQ
  obtain ⟨x, y, z, b, rfl⟩ := jm_a4 hl
  have hK : bw_K σ := hp
  refine jm_Ok.go 60 [] ?_
  refine ⟨trivial, ?_⟩
  rintro r σ - ⟨hr, rfl⟩
  refine ⟨fun h0 => ?_, fun h1 => ?_⟩
  · refine ⟨fun q => by omega, fun _ => hQ _ _ (Or.inr ⟨by unfold bw_fit; omega, rfl, rfl⟩)⟩
  · have hf : bw_fit x y z b := by unfold bw_fit; omega
    refine ⟨by omega, by omega, by omega, by omega, by omega, fun old hold _ _ => ⟨fun _ => ?_, fun q => by omega⟩⟩
    have hc : bw_cl (x + 8 * z + 64 * y) := by unfold bw_fit at hf; omega
    refine ⟨by omega, by omega, by omega, by omega, ⟨hc, by omega, hK.1⟩, ?_⟩
    rintro _ σ1 hs1 h1
    have h1 : bw_SO σ σ1 (x + 8 * z + 64 * y) b := h1
    refine ⟨h1.1, ?_⟩
    rintro _ σ2 hs2 ⟨g1, g2, g3⟩
    refine hQ _ _ (Or.inl ⟨hf, ?_, ⟨g1, g2⟩, ?_, ?_⟩)
    · rw [bw_abs_0 hc]; exact hold
    · rw [bw_fr_abs g3, bw_SO_abs hc h1]
    · rw [g3.2.2.2.2.2.1, h1.2.2.2.2.2.2.1]
def sp_B_fill : jm_K := (false, 7, false, fun as σ => (match as with
  | [_, _, _, _, _, _, _] => bw_K σ
  | _ => False), fun as σ r σ' => (match as with
  | [x, y, z, u, v, w, b] => ((bw_fit x y z b ∧ bw_fit u v w b ∧ x ≤ u ∧ y ≤ v ∧ z ≤ w) ∧ r = bw_cnt (fun c => bw_box x y z u v w c && decide ((bw_abs σ).1 c ≠ b)) 384 ∧ bw_K σ' ∧ bw_abs σ' = bw_fl (bw_box x y z u v w) b 384 (bw_abs σ) ∧ σ' 14 = σ 14) ∨ (¬ (bw_fit x y z b ∧ bw_fit u v w b ∧ x ≤ u ∧ y ≤ v ∧ z ≤ w) ∧ r = -1 ∧ σ' = σ)
  | _ => False))
def L_B_fill : List (Nat × jm_K) := [(126, sp_B_fits), (130, sp_B_set), (133, sp_B_lampsLook)]
set_option maxHeartbeats 4000000 in
set_option maxRecDepth 100000 in
theorem con_B_fill : jm_Con classes D_B 17 ks_B 0 y_B_fill b_B_fill 13 (jm_rt (some false)) 8 sp_B_fill := by
  refine jm_con2 (L := L_B_fill) (code := k_B_fill) CF_B rfl (by decide) ck_B_fill ⟨⟨y_B_fits, b_B_fits, 4, jm_rt (some true), 0, by decide, con_B_fits, lk_B_fits _ _, rfl⟩, ⟨y_B_set, b_B_set, 7, jm_rt none, 7, by decide, con_B_set, lk_B_set _ _, rfl⟩, ⟨y_B_lampsLook, b_B_lampsLook, 4, jm_rt none, 6, by decide, con_B_lampsLook, lk_B_lampsLook _ _, rfl⟩, trivial⟩ (by decide) ?_
  intro σ as hl hr hs hp Q hQ
  obtain ⟨x, y, z, u, v, w, b, rfl⟩ := jm_a7 hl
  have hK : bw_K σ := hp
  have nofit : ¬ (bw_fit x y z b ∧ bw_fit u v w b ∧ x ≤ u ∧ y ≤ v ∧ z ≤ w) → ∀ l8 l9 l10 l11 l12 : Option jm_V, jm_Ok D_B fi_B (jm_look L_B_fill) k_B_fill (some false) Q 43 [some (.inr none), some (.inl x), some (.inl y), some (.inl z), some (.inl u), some (.inl v), some (.inl w), some (.inl b), l8, l9, l10, l11, l12] [] σ := by
    intro hn l8 l9 l10 l11 l12
    refine jm_Ok.go 60 [] ?_
    exact hQ _ _ (Or.inr ⟨hn, rfl, rfl⟩)
  have loop : (bw_fit x y z b ∧ bw_fit u v w b ∧ x ≤ u ∧ y ≤ v ∧ z ≤ w) → ∀ (n m : Nat) (many c : Int) (l10 l11 l12 : Option jm_V) (τ : jm_S), c = m → m + n = 384 → bw_I τ → bw_abs τ = bw_fl (bw_box x y z u v w) b m (bw_abs σ) → many = bw_cnt (fun c => bw_box x y z u v w c && decide ((bw_abs σ).1 c ≠ b)) m → τ 14 = σ 14 → jm_Ok D_B fi_B (jm_look L_B_fill) k_B_fill (some false) Q 51 [some (.inr none), some (.inl x), some (.inl y), some (.inl z), some (.inl u), some (.inl v), some (.inl w), some (.inl b), some (.inl many), some (.inl c), l10, l11, l12] [] τ := by
    intro hf n
    induction n with
    | zero =>
      intro m many c l10 l11 l12 τ hc hm hI ha hmany h14
      have hm : m = 384 := by omega
      subst hm
      refine jm_Ok.go 60 [] ?_
      refine ⟨fun _ => ⟨hI, ?_⟩, fun _ => by omega⟩
      rintro _ τ' hs' ⟨g1, g2, g3⟩
      exact hQ _ _ (Or.inl ⟨hf, hmany, ⟨g1, g2⟩, by rw [bw_fr_abs g3, ha], by rw [g3.2.2.2.2.2.1, h14]⟩)
    | succ n ih =>
      intro m many c l10 l11 l12 τ hc hm hI ha hmany h14
      have hcl : bw_cl c := by omega
      have hmr := bw_cnt_rg (fun c => bw_box x y z u v w c && decide ((bw_abs σ).1 c ≠ b)) m
      have eb : τ 0 c = (bw_abs σ).1 c := by
        rw [← bw_abs_0 (σ := τ) hcl, ha, bw_fl_hi _ _ _ _ _ (by omega)]
      have skip : bw_box x y z u v w c = false → ∀ l10 l11 l12 : Option jm_V, jm_Ok D_B fi_B (jm_look L_B_fill) k_B_fill (some false) Q 147 [some (.inr none), some (.inl x), some (.inl y), some (.inl z), some (.inl u), some (.inl v), some (.inl w), some (.inl b), some (.inl many), some (.inl c), l10, l11, l12] [] τ := by
        intro hb l10 l11 l12
        refine jm_Ok.go 60 [51] ?_
        rw [hc] at hb
        refine ⟨by omega, ih (m + 1) many (c + 1) _ _ _ τ (by omega) (by omega) hI ?_ ?_ h14⟩
        · rw [ha]; simp [bw_fl, hb]
        · rw [hmany]; simp [bw_cnt, hb]
      refine jm_Ok.go 60 [147, 139] ?_
      refine ⟨fun _ => by omega, fun _ => ?_⟩
      refine ⟨fun h => skip (by unfold bw_box; exact decide_eq_false (by omega)) _ _ _, fun h1 => ⟨fun h => skip (by unfold bw_box; exact decide_eq_false (by omega)) _ _ _, fun h2 => ⟨fun h => skip (by unfold bw_box; exact decide_eq_false (by omega)) _ _ _, fun h3 => ⟨fun h => skip (by unfold bw_box; exact decide_eq_false (by omega)) _ _ _, fun h4 => ⟨fun h => skip (by unfold bw_box; exact decide_eq_false (by omega)) _ _ _, fun h5 => ⟨fun h6 => ?_, fun h => skip (by unfold bw_box; exact decide_eq_false (by omega)) _ _ _⟩⟩⟩⟩⟩⟩
      have hb : bw_box x y z u v w c = true := by unfold bw_box; exact decide_eq_true (by omega)
      have go : ∀ (many' : Int) (l10 l11 l12 : Option jm_V), many' = bw_cnt (fun c => bw_box x y z u v w c && decide ((bw_abs σ).1 c ≠ b)) (m + 1) → jm_Ok D_B fi_B (jm_look L_B_fill) k_B_fill (some false) Q 139 [some (.inr none), some (.inl x), some (.inl y), some (.inl z), some (.inl u), some (.inl v), some (.inl w), some (.inl b), some (.inl many'), some (.inl c), l10, l11, l12] [] τ := by
        intro many' l10 l11 l12 hm'
        refine jm_Ok.go 60 [51] ?_
        refine ⟨⟨hcl, by unfold bw_fit at hf; omega, hI⟩, ?_⟩
        rintro _ τ1 hs1 h1
        have h1 : bw_SO τ τ1 c b := h1
        refine ⟨by omega, ih (m + 1) many' (c + 1) _ _ _ τ1 (by omega) (by omega) h1.1 ?_ hm' (by rw [h1.2.2.2.2.2.2.1, h14])⟩
        rw [bw_SO_abs hcl h1, ha]
        rw [hc] at hb ⊢
        simp [bw_fl, hb]
      refine ⟨by omega, fun o ho _ _ => ⟨fun heq => go many _ _ _ ?_, fun hne => ⟨by omega, go (many + 1) _ _ _ ?_⟩⟩⟩
      · have : (bw_abs σ).1 (m : Int) = b := by rw [← hc, ← eb, ← ho]; exact heq
        rw [hmany]; simp [bw_cnt, this]
      · have : ¬ (bw_abs σ).1 (m : Int) = b := by rw [← hc, ← eb, ← ho]; exact hne
        rw [hc] at hb
        rw [hmany]; simp [bw_cnt, this, hb]
  refine jm_Ok.go 60 [43, 51] ?_
  refine ⟨trivial, ?_⟩
  rintro r1 σ - ⟨hr1, rfl⟩
  refine ⟨fun h => nofit (by unfold bw_fit; omega) _ _ _ _ _, fun h1 => ⟨trivial, ?_⟩⟩
  rintro r2 σ - ⟨hr2, rfl⟩
  refine ⟨fun h => nofit (by unfold bw_fit; omega) _ _ _ _ _, fun h2 => ⟨fun h => nofit (by unfold bw_fit; omega) _ _ _ _ _, fun h3 => ⟨fun h => nofit (by unfold bw_fit; omega) _ _ _ _ _, fun h4 => ⟨fun h5 => ?_, fun h => nofit (by unfold bw_fit; omega) _ _ _ _ _⟩⟩⟩⟩
  exact loop (by unfold bw_fit; omega) 384 0 0 0 _ _ _ σ (by omega) (by omega) hK.1 rfl rfl rfl
end
section
/-! invert -/
theorem bw_drv_nb {B O O' : Int → Int} {c : Int} (hc : bw_cl c) (hO : ∀ n, bw_adj c n → B n = 7 → O' n = O n) : bw_drv B O c ↔ bw_drv B O' c := by
  have key : ∀ d, (0 ≤ d ∧ d < 6) → (bw_mk B O c d ↔ bw_mk B O' c d) := by
    intro d hd
    unfold bw_mk
    by_cases h0 : 0 ≤ bw_nb c d
    · by_cases h7 : B (bw_nb c d) = 7
      · rw [hO _ (bw_adj_of hd h0) h7]
      · simp [h7]
    · simp [h0]
  constructor
  · rintro ⟨d, hd, q⟩; exact ⟨d, hd, (key d hd).mp q⟩
  · rintro ⟨d, hd, q⟩; exact ⟨d, hd, (key d hd).mpr q⟩
theorem bw_due_cg {B B' O O' P P' : Int → Int} {c : Int} (hc : bw_cl c) (hB : ∀ x, bw_cl x → B' x = B x) (hO : ∀ x, bw_cl x → O' x = O x) (hP : ∀ x, bw_cl x → P' x = P x) : bw_due B O P c ↔ bw_due B' O' P' c := by
  unfold bw_due
  rcases Int.lt_or_le c 64 with q | q
  · simp [q]
  · rw [hB _ (by omega), hO _ (by omega), hP _ (by omega)]
theorem bw_K_due {σ : jm_S} (h : bw_K σ) (hs : jm_okS D_B σ) {x : Int} (hx : bw_cl x) : bw_due (σ 0) (σ 2) (bw_F σ 2) x ↔ bw_due (bw_abs σ).1 (bw_on (bw_abs σ)) (bw_pow (bw_abs σ)) x :=
  bw_due_cg hx (fun y hy => bw_abs_0 hy) (fun y hy => bw_K_on h hs hy) (fun y hy => (bw_K_pow h hs y hy).symm)
/-- the inverters that change -/
def bw_M (σ : jm_S) (x : Int) : Prop := σ 0 x = 7 ∧ ¬ (σ 2 x = 1 ↔ bw_due (σ 0) (σ 2) (bw_F σ 2) x)
noncomputable def bw_Mb (σ : jm_S) (x : Int) : Bool := @decide (bw_M σ x) (Classical.propDecidable _)
theorem bw_Mb_iff {σ : jm_S} {x : Int} : bw_Mb σ x = true ↔ bw_M σ x := ⟨@of_decide_eq_true _ (Classical.propDecidable _), @decide_eq_true _ (Classical.propDecidable _)⟩
/-- behind the second loop -/
def bw_V2 (σ ρ : jm_S) : Prop := (∀ k, k ≠ 2 → k ≠ 3 → k ≠ 15 → ρ k = σ k) ∧ (∀ x, bw_cl x → (bw_M σ x → ρ 2 x = 1 - σ 2 x) ∧ (¬ bw_M σ x → ρ 2 x = σ 2 x)) ∧ (∀ x, bw_cl x → (ρ 15 x = 1 ↔ bw_M σ x))
/-- the third loop's invariant -/
def bw_V3 (σ ρ τ : jm_S) (c : Int) : Prop := bw_Ev ρ τ ∧ bw_Ot 2 ρ τ ∧ τ 8 0 = 0 ∧ bw_AA τ 2 ∧ (∀ k, bw_cl k → bw_G τ 2 k ∨ ∃ m, c ≤ m ∧ bw_cl m ∧ bw_M σ m ∧ bw_adj m k ∧ σ 0 k = 5) ∧ (∀ m, 0 ≤ m → m < c → bw_M σ m → ∀ n, bw_adj m n → bw_Sn τ n)
theorem bw_V2_at {σ ρ : jm_S} (h : bw_V2 σ ρ) : ρ 0 = σ 0 ∧ ρ 4 = σ 4 ∧ ρ 11 = σ 11 ∧ ρ 8 = σ 8 ∧ ρ 9 = σ 9 ∧ ρ 10 = σ 10 ∧ ρ 1 = σ 1 ∧ ρ 12 = σ 12 ∧ ρ 14 = σ 14 := by
  refine ⟨?_, ?_, ?_, ?_, ?_, ?_, ?_, ?_, ?_⟩ <;> (apply h.1 <;> decide)
theorem bw_V3_ini {σ ρ : jm_S} (hK : bw_K σ) (h : bw_V2 σ ρ) : bw_V3 σ ρ ρ 0 := by
  obtain ⟨e0, e4, e11, e8, e9, e10, e1, e12, e14⟩ := bw_V2_at h
  refine ⟨bw_Ev.rf ρ, bw_Ot.rf 2 ρ, by rw [e8]; exact hK.1.1.1, ?_, ?_, fun m a b => by omega⟩
  · have := (hK.1.1.2.1 2 (by omega)).1
    unfold bw_AA bw_F at this ⊢
    rw [e0, e4]; exact this
  · intro k hk
    rcases Classical.em (∃ m, (0 : Int) ≤ m ∧ bw_cl m ∧ bw_M σ m ∧ bw_adj m k ∧ σ 0 k = 5) with q | q
    · exact Or.inr q
    · left
      have hg := (hK.1.1.2.1 2 (by omega)).2 k hk
      refine bw_gd_congr hk (by rw [e0]) ?_ (fun x _ => by unfold bw_F; rw [e4]) hg
      show bw_bgP _ _ k = bw_bgP _ _ k
      rw [e0]
      by_cases h5 : σ 0 k = 5
      · have hd : bw_drv (σ 0) (σ 2) k ↔ bw_drv (σ 0) (ρ 2) k := by
          refine bw_drv_nb hk fun n hn h7 => ?_
          have hn2 := bw_adj_cl hk hn
          refine (h.2.1 n hn2).2 fun hM => q ⟨n, hn2.1, hn2, hM, bw_adj_sym hk hn, h5⟩
        rcases Classical.em (σ 0 k = 5 ∧ bw_drv (σ 0) (σ 2) k) with z | z
        · rw [bw_bgP_1 z, bw_bgP_1 ⟨h5, hd.mp z.2⟩]
        · rw [bw_bgP_0 z, bw_bgP_0 (fun y => z ⟨h5, hd.mpr y.2⟩)]
      · rw [bw_bgP_0 (fun y => h5 y.1), bw_bgP_0 (fun y => h5 y.1)]
theorem bw_V3_end {σ ρ τ : jm_S} (hK : bw_K σ) (hs : jm_okS D_B σ) (h : bw_V2 σ ρ) (h3 : bw_V3 σ ρ τ 384) : bw_I τ ∧ bw_abs τ = bw_iv (bw_abs σ) ∧ τ 14 = σ 14 := by
  obtain ⟨e0, e4, e11, e8, e9, e10, e1, e12, e14⟩ := bw_V2_at h
  obtain ⟨hE, hO, h8, hA, hG, hS⟩ := h3
  obtain ⟨j1, j2, j3, j4, j5, j6, j7, j8⟩ := hK.1.1
  have t0 : τ 0 = σ 0 := hE.at0.trans e0
  have t2 : τ 2 = ρ 2 := hE.at2
  have t11 : τ 11 = σ 11 := hE.at11.trans e11
  have hfr := hE.fr
  have t1 : τ 1 = σ 1 := hfr.2.1.trans e1
  have t12 : τ 12 = σ 12 := hfr.2.2.2.1.trans e12
  have t14 : τ 14 = σ 14 := hfr.2.2.2.2.2.1.trans e14
  have o01 : ∀ x, bw_cl x → σ 2 x = 0 ∨ σ 2 x = 1 := fun x hx => by
    have h2 := hs 2 x hx.1 (Or.inl hx.2)
    have h2a : 0 ≤ σ 2 x := h2.1
    have h2b : σ 2 x ≤ 1 := h2.2
    omega
  have oM : ∀ x, bw_cl x → bw_M σ x → τ 2 x = 1 - σ 2 x := fun x hx hM => by rw [t2]; exact (h.2.1 x hx).1 hM
  have oN : ∀ x, bw_cl x → ¬ bw_M σ x → τ 2 x = σ 2 x := fun x hx hM => by rw [t2]; exact (h.2.1 x hx).2 hM
  have o8 : ∀ x, bw_cl x → σ 0 x ≠ 7 → τ 2 x = σ 2 x := fun x hx h7 => oN x hx (fun q => h7 q.1)
  have rF : ∀ f, bw_F ρ f = bw_F σ f := fun f => by unfold bw_F; rw [e4]
  have tF : ∀ f x, (0 ≤ f ∧ f ≤ 2) → f ≠ 2 → bw_cl x → bw_F τ f x = bw_F σ f x := fun f x hf hne hx => by rw [hO f x hf hne hx, rF]
  have tdue : ∀ x, bw_cl x → σ 0 x = 7 → (τ 2 x = 1 ↔ bw_due (σ 0) (σ 2) (bw_F σ 2) x) := by
    intro x hx h7
    rcases Classical.em (bw_M σ x) with q | q
    · rw [oM x hx q]
      have := q.2
      have h01 := o01 x hx
      constructor
      · intro z
        rcases Classical.em (bw_due (σ 0) (σ 2) (bw_F σ 2) x) with y | y
        · exact y
        · exact absurd ⟨fun w => by omega, fun w => absurd w y⟩ this
      · intro z
        rcases h01 with w | w
        · omega
        · exact absurd ⟨fun _ => z, fun _ => w⟩ this
    · rw [oN x hx q]
      rcases Classical.em (σ 2 x = 1 ↔ bw_due (σ 0) (σ 2) (bw_F σ 2) x) with z | z
      · exact z
      · exact absurd ⟨h7, z⟩ q
  have mP : ∀ x, bw_cl x → bw_F τ 2 x ≠ bw_F σ 2 x → ∀ n, bw_adj x n → bw_Sn τ n := fun x hx q => hE.2.2.2.2 x hx (by rw [rF]; exact q)
  refine ⟨⟨⟨h8, ?_, ?_, ?_, ?_, ?_, ?_, ?_⟩, ?_⟩, ?_, t14⟩
  · intro f hf
    by_cases h2 : f = 2
    · subst h2
      refine ⟨hA, fun k hk => ?_⟩
      rcases hG k hk with q | ⟨m, q1, q2, -⟩
      · exact q
      · omega
    · obtain ⟨a1, a2⟩ := j2 f hf
      refine ⟨bw_A_congr (fun k _ q => by rw [t0] at q; exact q) (fun x hx => tF f x hf h2 hx) a1, fun k hk => ?_⟩
      refine bw_gd_congr hk (by rw [t0]) ?_ (fun x hx => tF f x hf h2 hx) (a2 k hk)
      unfold bw_bg
      rw [t0, t11]
      by_cases hf0 : f = 0
      · rw [if_pos hf0, if_pos hf0]
        unfold bw_shn
        by_cases h8' : σ 0 k = 8
        · rw [o8 k hk (by omega)]
        · simp [h8']
      · rw [if_neg hf0, if_neg hf0, if_pos (by omega), if_pos (by omega)]
  · intro x hx h1
    rw [t0]
    rcases Classical.em (bw_M σ x) with q | q
    · exact Or.inl q.1
    · rw [oN x hx q] at h1; exact j3 x hx h1
  · intro x hx h7 h3
    rw [t0] at h7
    rw [tdue x hx h7]
    have nsn : ¬ bw_Sn τ x := by
      intro q
      have := q.2 (by rw [t0]; exact h7)
      omega
    unfold bw_due
    rw [t0]
    rcases Int.lt_or_le x 64 with q | q
    · simp [q]
    · have had : bw_adj (x - 64) x := by
        have := bw_adj_up (c := x - 64) (by omega) (by omega)
        rw [show x - 64 + 64 = x by omega] at this
        exact this
      have hn : ¬ bw_M σ (x - 64) := fun z => nsn (hS (x - 64) (by omega) (by omega) z x had)
      have hP : bw_F τ 2 (x - 64) = bw_F σ 2 (x - 64) := by
        rcases Classical.em (bw_F τ 2 (x - 64) = bw_F σ 2 (x - 64)) with z | z
        · exact z
        · exact absurd (mP (x - 64) (by omega) z x had) nsn
      rw [oN _ (by omega) hn, hP]
  · intro x hx h8' h9
    rw [t0] at h8'
    have nsn : ¬ bw_Sn τ x := by
      intro q
      have := q.1 (by rw [t0]; exact h8')
      omega
    rw [o8 x hx (by omega), bw_K_lamp hK hs hx h8']
    have hP : ∀ n, bw_adj x n → bw_F τ 2 n = bw_F σ 2 n := by
      intro n hn
      rcases Classical.em (bw_F τ 2 n = bw_F σ 2 n) with z | z
      · exact z
      · exact absurd (mP n (bw_adj_cl hx hn) z x (bw_adj_sym hx hn)) nsn
    have hd : bw_drv (σ 0) (σ 2) x ↔ bw_drv (σ 0) (τ 2) x := by
      refine bw_drv_nb hx fun n hn _ => ?_
      have hn2 := bw_adj_cl hx hn
      refine oN n hn2 fun z => nsn (hS n hn2.1 (by omega) z x (bw_adj_sym hx hn))
    have hw : (∃ n, bw_adj x n ∧ σ 0 n = 5 ∧ 0 < bw_F σ 2 n) ↔ (∃ n, bw_adj x n ∧ σ 0 n = 5 ∧ 0 < bw_F τ 2 n) := by
      constructor
      · rintro ⟨n, hn, q1, q2⟩; exact ⟨n, hn, q1, by rw [hP n hn]; exact q2⟩
      · rintro ⟨n, hn, q1, q2⟩; exact ⟨n, hn, q1, by rw [← hP n hn]; exact q2⟩
    unfold bw_fed
    rw [t0, hd, hw]
  · intro b hb; rw [t12, t0]; exact j6 b hb
  · intro m hm; rw [t11, t0]; exact j7 m hm
  · intro x hx h9; rw [t1]; rw [t0] at h9; exact j8 x hx h9
  · intro x hx h9
    left
    rcases hE.2.2.1 x with q | q
    · rw [q, e9] at h9
      rcases hK.1.2 x hx h9 with z | z
      · have := hK.2; omega
      · omega
    · exact q.2
  · have ea : (bw_abs τ).1 = (bw_iv (bw_abs σ)).1 := bw_rs_ext fun x _ => by rw [t0]
    have eb : (bw_abs τ).2.1 = (bw_iv (bw_abs σ)).2.1 := bw_rs_ext fun x _ => by rw [t1]
    have ec : (bw_abs τ).2.2 = (bw_iv (bw_abs σ)).2.2 := by
      funext x
      show bw_rs (fun x => if τ 0 x = 7 then τ 2 x else 0) x = if bw_cl x ∧ (bw_abs σ).1 x = 7 then bw_d1 (bw_abs σ) x else 0
      by_cases hx : bw_cl x
      · rw [bw_rs_at hx, bw_abs_0 hx, t0]
        by_cases h7 : σ 0 x = 7
        · rw [if_pos h7, if_pos ⟨hx, h7⟩]
          have h1 := tdue x hx h7
          have h2 := h1.trans (bw_K_due hK hs hx)
          unfold bw_d1
          rcases Classical.em (bw_due (bw_abs σ).1 (bw_on (bw_abs σ)) (bw_pow (bw_abs σ)) x) with z | z
          · rw [if_pos z]; exact h2.mpr z
          · rw [if_neg z]
            have h3 : ¬ τ 2 x = 1 := fun y => z (h2.mp y)
            have h4 := o01 x hx
            rcases Classical.em (bw_M σ x) with y | y
            · have := oM x hx y; omega
            · have := oN x hx y; omega
        · rw [if_neg h7, if_neg (fun z => h7 z.2)]
      · unfold bw_rs
        rw [if_neg hx, if_neg (fun z => hx z.1)]
    exact Prod.ext ea (Prod.ext eb ec)
theorem bw_M_cnt {σ : jm_S} (hK : bw_K σ) (hs : jm_okS D_B σ) : bw_cnt (bw_Mb σ) 384 = bw_in (bw_abs σ) := by
  unfold bw_in
  refine bw_cnt_congr 384 fun x h0 h1 => ?_
  have hx : bw_cl x := ⟨h0, h1⟩
  rw [Bool.eq_iff_iff, bw_Mb_iff, decide_eq_true_eq]
  unfold bw_M
  rw [bw_abs_0 hx]
  have h2 := hs 2 x hx.1 (Or.inl hx.2)
  have h2a : 0 ≤ σ 2 x := h2.1
  have h2b : σ 2 x ≤ 1 := h2.2
  constructor
  · rintro ⟨h7, q⟩
    refine ⟨h7, ?_⟩
    rw [bw_abs_2 hx h7]
    unfold bw_d1
    rw [bw_K_due hK hs hx] at q
    intro z
    apply q
    split at z
    · rename_i y; exact ⟨fun _ => y, fun _ => z⟩
    · rename_i y; exact ⟨fun w => by omega, fun w => absurd w y⟩
  · rintro ⟨h7, q⟩
    refine ⟨h7, ?_⟩
    rw [bw_abs_2 hx h7] at q
    unfold bw_d1 at q
    rw [bw_K_due hK hs hx]
    intro z
    apply q
    split
    · rename_i y; exact z.mpr y
    · rename_i y
      have : ¬ σ 2 x = 1 := fun w => y (z.mp w)
      omega
def sp_B_invert : jm_K := (false, 0, false, fun as σ => (match as with
  | [] => bw_K σ
  | _ => False), fun as σ r σ' => (match as with
  | [] => r = bw_in (bw_abs σ) ∧ bw_K σ' ∧ bw_abs σ' = bw_iv (bw_abs σ) ∧ σ' 14 = σ 14
  | _ => False))
def L_B_invert : List (Nat × jm_K) := [(136, sp_B_due), (123, sp_B_feedAround), (133, sp_B_lampsLook)]
set_option maxHeartbeats 4000000 in
set_option maxRecDepth 100000 in
theorem con_B_invert : jm_Con classes D_B 17 ks_B 0 y_B_invert b_B_invert 3 (jm_rt (some false)) 7 sp_B_invert := by
  refine jm_con2 (L := L_B_invert) (code := k_B_invert) CF_B rfl (by decide) ck_B_invert ⟨⟨y_B_due, b_B_due, 3, jm_rt (some true), 1, by decide, con_B_due, lk_B_due _ _, rfl⟩, ⟨y_B_feedAround, b_B_feedAround, 4, jm_rt none, 6, by decide, con_B_feedAround, lk_B_feedAround _ _, rfl⟩, ⟨y_B_lampsLook, b_B_lampsLook, 4, jm_rt none, 6, by decide, con_B_lampsLook, lk_B_lampsLook _ _, rfl⟩, trivial⟩ (by decide) ?_
  intro σ as hl hr hs hp Q hQ
  obtain rfl := jm_a0 hl
  have hK : bw_K σ := hp
  have loop3 : ∀ ρ : jm_S, bw_V2 σ ρ → ∀ (n : Nat) (c : Int) (τ : jm_S), 0 ≤ c → c + n = 384 → bw_V3 σ ρ τ c → jm_Ok D_B fi_B (jm_look L_B_invert) k_B_invert (some false) Q 121 [some (.inr none), some (.inl (bw_in (bw_abs σ))), some (.inl c)] [] τ := by
    intro ρ hV n
    induction n with
    | zero =>
      intro c τ h0 hn h
      have hc : c = 384 := by omega
      subst hc
      obtain ⟨r1, r2, r3⟩ := bw_V3_end hK hs hV h
      refine jm_Ok.go 60 [] ?_
      refine ⟨fun _ => ⟨r1, ?_⟩, fun _ => by omega⟩
      rintro _ τ' hs' ⟨g1, g2, g3⟩
      exact hQ _ _ ⟨rfl, ⟨g1, g2⟩, by rw [bw_fr_abs g3, r2], by rw [g3.2.2.2.2.2.1, r3]⟩
    | succ n ih =>
      intro c τ h0 hn h
      have hc : bw_cl c := ⟨h0, by omega⟩
      obtain ⟨hE, hO, h8, hA, hG, hS⟩ := h
      have e15 : τ 15 = ρ 15 := hE.fr.2.2.2.2.2.2.1
      have e0 : τ 0 = σ 0 := hE.at0.trans (bw_V2_at hV).1
      refine jm_Ok.go 60 [121] ?_
      refine ⟨fun _ => by omega, fun _ => ⟨by omega, fun m hm _ _ => ⟨fun hm1 => ?_, fun hm0 => ?_⟩⟩⟩
      · have hM : bw_M σ c := by
          rw [← hV.2.2 c hc, ← e15]; omega
        refine ⟨⟨hc, h8, hA⟩, ?_⟩
        rintro _ τ' hs' ⟨f1, f2, f3, f4, f5, f6⟩
        refine ⟨by omega, ih (c + 1) τ' (by omega) (by omega) ⟨hE.tr f1, hO.tr f2, f3, f4, ?_, ?_⟩⟩
        · intro k hk
          rcases hG k hk with q | ⟨m, q1, q2, q3, q4, q5⟩
          · exact Or.inl (f5 k hk (Or.inl q))
          · by_cases hmc : m = c
            · subst hmc
              exact Or.inl (f5 k hk (Or.inr ⟨q4, by rw [e0]; exact q5⟩))
            · exact Or.inr ⟨m, by omega, q2, q3, q4, q5⟩
        · intro m a b q n hna
          by_cases hmc : m = c
          · subst hmc; exact f6 n hna
          · exact f1.sn (hS m a (by omega) q n hna)
      · have hM : ¬ bw_M σ c := by
          rw [← hV.2.2 c hc, ← e15]; omega
        refine ⟨by omega, ih (c + 1) τ (by omega) (by omega) ⟨hE, hO, h8, hA, ?_, ?_⟩⟩
        · intro k hk
          rcases hG k hk with q | ⟨m, q1, q2, q3, q4, q5⟩
          · exact Or.inl q
          · by_cases hmc : m = c
            · subst hmc; exact absurd q3 hM
            · exact Or.inr ⟨m, by omega, q2, q3, q4, q5⟩
        · intro m a b q n hna
          by_cases hmc : m = c
          · subst hmc; exact absurd q hM
          · exact hS m a (by omega) q n hna
  have loop2 : ∀ (n m : Nat) (many c : Int) (τ : jm_S), c = m → m + n = 384 → many = bw_cnt (bw_Mb σ) m → (∀ k, k ≠ 2 → k ≠ 3 → k ≠ 15 → τ k = σ k) → (∀ x, bw_cl x → (τ 15 x = 1 ↔ bw_M σ x)) → (∀ x, bw_cl x → x < c → (bw_M σ x → τ 2 x = 1 - σ 2 x) ∧ (¬ bw_M σ x → τ 2 x = σ 2 x)) → (∀ x, bw_cl x → c ≤ x → τ 2 x = σ 2 x) → jm_Ok D_B fi_B (jm_look L_B_invert) k_B_invert (some false) Q 71 [some (.inr none), some (.inl many), some (.inl c)] [] τ := by
    intro n
    induction n with
    | zero =>
      intro m many c τ hc hm hmany hk h15 hlo hhi
      have hm : m = 384 := by omega
      subst hm
      refine jm_Ok.go 60 [121] ?_
      refine ⟨fun _ => ?_, fun _ => by omega⟩
      rw [hmany, bw_M_cnt hK hs]
      have hV : bw_V2 σ τ := ⟨hk, fun x hx => hlo x hx (by omega), h15⟩
      exact loop3 τ hV 384 0 τ (by omega) (by omega) (bw_V3_ini hK hV)
    | succ n ih =>
      intro m many c τ hc hm hmany hk h15 hlo hhi
      have hcl : bw_cl c := by omega
      have hmr := bw_cnt_rg (bw_Mb σ) m
      refine jm_Ok.go 60 [71] ?_
      refine ⟨fun _ => by omega, fun _ => ⟨by omega, fun mt hmt _ _ => ⟨fun h1 => ?_, fun h0 => ?_⟩⟩⟩
      · have hM : bw_M σ c := by rw [← h15 c hcl]; omega
        have hMb : bw_Mb σ (m : Int) = true := by rw [← hc]; exact bw_Mb_iff.mpr hM
        have fin : ∀ v : Int, v = 1 - σ 2 c → jm_Ok D_B fi_B (jm_look L_B_invert) k_B_invert (some false) Q 71 [some (.inr none), some (.inl (many + 1)), some (.inl (c + 1))] [] (jm_up τ 2 c v) := by
          intro v hv
          refine ih (m + 1) (many + 1) (c + 1) _ (by omega) (by omega) ?_ ?_ ?_ ?_ ?_
          · rw [hmany]; simp [bw_cnt, hMb]
          · intro k a b c; rw [← hk k a b c]; simp [jm_up, a]
          · exact h15
          · intro x hx hlt
            by_cases hxc : x = c
            · subst hxc
              refine ⟨fun _ => by simp [jm_up, hv], fun q => absurd hM q⟩
            · have := hlo x hx (by omega)
              simpa [jm_up, hxc] using this
          · intro x hx hge
            have hxc : x ≠ c := by omega
            simp [jm_up, hxc]
            exact hhi x hx (by omega)
        refine ⟨by omega, fun o ho _ _ => ?_⟩
        have ho : o = σ 2 c := by rw [ho, hhi c hcl (by omega)]
        refine ⟨fun hne => ⟨by omega, by omega, by omega, by omega, fin 0 (by omega)⟩, fun he => ⟨by omega, by omega, by omega, by omega, fin 1 (by omega)⟩⟩
      · have hM : ¬ bw_M σ c := by rw [← h15 c hcl]; omega
        have hMb : bw_Mb σ (m : Int) = false := by
          rw [← hc]
          cases hb : bw_Mb σ c
          · rfl
          · exact absurd (bw_Mb_iff.mp hb) hM
        refine ⟨by omega, ih (m + 1) many (c + 1) τ (by omega) (by omega) ?_ hk h15 ?_ ?_⟩
        · rw [hmany]; simp [bw_cnt, hMb]
        · intro x hx hlt
          by_cases hxc : x = c
          · subst hxc
            exact ⟨fun q => absurd q hM, fun _ => hhi x hx (by omega)⟩
          · exact hlo x hx (by omega)
        · intro x hx hge; exact hhi x hx (by omega)
  have loop1 : ∀ (n : Nat) (c : Int) (τ : jm_S), 0 ≤ c → c + n = 384 → (∀ k, k ≠ 3 → k ≠ 15 → τ k = σ k) → (∀ x, bw_cl x → x < c → (τ 15 x = 1 ↔ bw_M σ x)) → (∀ x, bw_cl x → c ≤ x → τ 3 x = σ 3 x) → jm_Ok D_B fi_B (jm_look L_B_invert) k_B_invert (some false) Q 4 [some (.inr none), some (.inl 0), some (.inl c)] [] τ := by
    intro n
    induction n with
    | zero =>
      intro c τ h0 hn hk h15 h3
      refine jm_Ok.go 60 [71] ?_
      refine ⟨fun _ => ?_, fun _ => by omega⟩
      refine loop2 384 0 0 0 τ rfl rfl rfl (fun k _ b c => hk k b c) (fun x hx => h15 x hx (by omega)) (fun x hx q => by omega) (fun x hx _ => by rw [hk 2 (by decide) (by decide)])
    | succ n ih =>
      intro c τ h0 hn hk h15 h3
      have hcl : bw_cl c := ⟨h0, by omega⟩
      have e0 := hk 0 (by decide) (by decide)
      have e2 := hk 2 (by decide) (by decide)
      have e4 := hk 4 (by decide) (by decide)
      have key : ∀ v : Int, (v = 0 ∨ v = 1) → (v = 1 ↔ bw_M σ c) → jm_Ok D_B fi_B (jm_look L_B_invert) k_B_invert (some false) Q 55 [some (.inr none), some (.inl 0), some (.inl c)] [.inl v, .inl c, .inr (some 15)] τ := by
        intro v hv01 hv
        refine jm_Ok.go 60 [4] ?_
        refine ⟨by omega, by omega, by omega, by omega, by omega, ih (c + 1) _ (by omega) (by omega) ?_ ?_ ?_⟩
        · intro k a b; rw [← hk k a b]; simp [jm_up, a, b]
        · intro x hx hlt
          by_cases hxc : x = c
          · subst hxc; simp [jm_up]; exact hv
          · have := h15 x hx (by omega)
            simpa [jm_up, hxc] using this
        · intro x hx hge
          have hxc : x ≠ c := by omega
          simp [jm_up, hxc]
          exact h3 x hx (by omega)
      refine jm_Ok.go 60 [55] ?_
      refine ⟨fun _ => by omega, fun _ => ⟨by omega, fun l hl _ _ => ⟨fun hl0 => ?_, fun hl1 => ?_⟩⟩⟩
      · refine key 0 (Or.inl rfl) ⟨fun q => by omega, fun q => ?_⟩
        have := hK.1.1.2.2.2.1 c hcl q.1 (by rw [← h3 c hcl (by omega)]; omega)
        exact absurd this q.2
      · refine ⟨by omega, fun b hb _ _ => ⟨fun h7 => ?_, fun h7 => ⟨hcl, ?_⟩⟩⟩
        · rw [e0] at hb
          refine key 0 (Or.inl rfl) ⟨fun q => by omega, fun q => ?_⟩
          have := q.1
          omega
        · rintro r τ - ⟨hr, rfl⟩
          rw [e0] at hb
          have eF : bw_F τ 2 = bw_F σ 2 := by unfold bw_F; rw [e4]
          rw [e0, e2, eF] at hr
          refine ⟨by omega, fun o ho _ _ => ⟨fun heq => ?_, fun hne => ?_⟩⟩
          · rw [e2] at ho
            refine key 0 (Or.inl rfl) ⟨fun q => by omega, fun q => ?_⟩
            refine absurd ?_ q.2
            rcases hr with ⟨z1, z2⟩ | ⟨z1, z2⟩
            · exact ⟨fun _ => z2, fun _ => by omega⟩
            · exact ⟨fun _ => by omega, fun y => absurd y z2⟩
          · rw [e2] at ho
            refine key 1 (Or.inr rfl) ⟨fun _ => ⟨by omega, fun q => ?_⟩, fun _ => rfl⟩
            rcases hr with ⟨z1, z2⟩ | ⟨z1, z2⟩
            · have := q.mpr z2; omega
            · have : ¬ σ 2 c = 1 := fun y => z2 (q.mp y)
              omega
  refine jm_Ok.go 60 [4] ?_
  exact loop1 384 0 σ (by omega) (by omega) (fun _ _ _ => rfl) (fun x hx q => by omega) (fun _ _ _ => rfl)
end
section
/-! fall, stands, grow -/
def sp_B_fall : jm_K := (false, 0, false, fun as σ => (match as with
  | [] => bw_K σ
  | _ => False), fun as σ r σ' => (match as with
  | [] => r = (bw_ff (bw_abs σ)).2 ∧ bw_K σ' ∧ bw_abs σ' = (bw_ff (bw_abs σ)).1 ∧ σ' 14 = σ 14
  | _ => False))
def L_B_fall : List (Nat × jm_K) := [(130, sp_B_set), (133, sp_B_lampsLook)]
set_option maxHeartbeats 4000000 in
set_option maxRecDepth 100000 in
theorem con_B_fall : jm_Con classes D_B 17 ks_B 0 y_B_fall b_B_fall 3 (jm_rt (some false)) 8 sp_B_fall := by
  refine jm_con2 (L := L_B_fall) (code := k_B_fall) CF_B rfl (by decide) ck_B_fall ⟨⟨y_B_set, b_B_set, 7, jm_rt none, 7, by decide, con_B_set, lk_B_set _ _, rfl⟩, ⟨y_B_lampsLook, b_B_lampsLook, 4, jm_rt none, 6, by decide, con_B_lampsLook, lk_B_lampsLook _ _, rfl⟩, trivial⟩ (by decide) ?_
  intro σ as hl hr hs hp Q hQ
  obtain rfl := jm_a0 hl
  have hK : bw_K σ := hp
  have loop : ∀ (n m : Nat) (many c : Int) (τ : jm_S), c = 64 + m → m + n = 320 → bw_I τ → bw_abs τ = (bw_fa m (bw_abs σ)).1 → many = (bw_fa m (bw_abs σ)).2 → τ 14 = σ 14 → jm_Ok D_B fi_B (jm_look L_B_fall) k_B_fall (some false) Q 5 [some (.inr none), some (.inl many), some (.inl c)] [] τ := by
    intro n
    induction n with
    | zero =>
      intro m many c τ hc hm hI ha hmany h14
      have hm : m = 320 := by omega
      subst hm
      refine jm_Ok.go 60 [] ?_
      refine ⟨fun _ => ⟨hI, ?_⟩, fun _ => by omega⟩
      rintro _ τ' hs' ⟨g1, g2, g3⟩
      exact hQ _ _ ⟨hmany, ⟨g1, g2⟩, by rw [bw_fr_abs g3, ha]; rfl, by rw [g3.2.2.2.2.2.1, h14]⟩
    | succ n ih =>
      intro m many c τ hc hm hI ha hmany h14
      have hcl : bw_cl c := by omega
      have hcl2 : bw_cl (c - 64) := by omega
      have hmr := bw_fa_rg (bw_abs σ) m
      have e1 : τ 0 c = (bw_fa m (bw_abs σ)).1.1 (64 + (m : Int)) := by rw [← bw_abs_0 (σ := τ) hcl, ha, hc]
      have e2 : τ 0 (c - 64) = (bw_fa m (bw_abs σ)).1.1 (m : Int) := by rw [← bw_abs_0 (σ := τ) hcl2, ha, hc, show (64 + (m : Int) - 64) = m by omega]
      have skip : ¬ (τ 0 c = 4 ∧ τ 0 (c - 64) = 0) → jm_Ok D_B fi_B (jm_look L_B_fall) k_B_fall (some false) Q 55 [some (.inr none), some (.inl many), some (.inl c)] [] τ := by
        intro hn
        rw [e1, e2] at hn
        refine jm_Ok.go 60 [5] ?_
        refine ⟨by omega, ih (m + 1) many (c + 1) τ (by omega) (by omega) hI ?_ ?_ h14⟩
        · rw [ha]; conv => rhs; unfold bw_fa
          rw [if_neg hn]
        · rw [hmany]; conv => rhs; unfold bw_fa
          rw [if_neg hn]
      refine jm_Ok.go 60 [55, 5] ?_
      refine ⟨fun _ => by omega, fun _ => ⟨by omega, fun b hb _ _ => ⟨fun h4 => skip (by omega), fun h4 => ?_⟩⟩⟩
      refine ⟨by omega, by omega, fun b2 hb2 _ _ => ⟨fun h0 => ?_, fun h0 => skip (by omega)⟩⟩
      have hy : (bw_fa m (bw_abs σ)).1.1 (64 + (m : Int)) = 4 ∧ (bw_fa m (bw_abs σ)).1.1 (m : Int) = 0 := by omega
      refine ⟨⟨hcl, by omega, hI⟩, ?_⟩
      rintro _ τ1 hs1 h1
      have h1 : bw_SO τ τ1 c 0 := h1
      refine ⟨by omega, ⟨hcl2, by omega, h1.1⟩, ?_⟩
      rintro _ τ2 hs2 h2
      have h2 : bw_SO τ1 τ2 (c - 64) 4 := h2
      refine ⟨by omega, ?_⟩
      refine jm_Ok.go 60 [5] ?_
      refine ⟨by omega, ih (m + 1) (many + 1) (c + 1) τ2 (by omega) (by omega) h2.1 ?_ ?_ ?_⟩
      · rw [bw_SO_abs hcl2 h2, bw_SO_abs hcl h1, ha]
        conv => rhs; unfold bw_fa
        rw [if_pos hy, hc, show (64 + (m : Int) - 64) = m by omega]
      · rw [hmany]; conv => rhs; unfold bw_fa
        rw [if_pos hy]
      · rw [h2.2.2.2.2.2.2.1, h1.2.2.2.2.2.2.1, h14]
  refine jm_Ok.go 60 [5] ?_
  exact loop 320 0 0 64 σ (by omega) (by omega) hK.1 rfl rfl rfl
def sp_B_stands : jm_K := (false, 1, false, fun as _ => (match as with
  | [c] => bw_cl c
  | _ => False), fun as σ r σ' => (match as with
  | [c] => ((r = 1 ∧ (64 ≤ c ∧ (σ 0 (c - 64) = 1 ∨ σ 0 (c - 64) = 4))) ∨ (r = 0 ∧ ¬ (64 ≤ c ∧ (σ 0 (c - 64) = 1 ∨ σ 0 (c - 64) = 4)))) ∧ σ' = σ
  | _ => False))
def L_B_stands : List (Nat × jm_K) := []
set_option maxHeartbeats 4000000 in
set_option maxRecDepth 100000 in
theorem con_B_stands : jm_Con classes D_B 17 ks_B 0 y_B_stands b_B_stands 2 (jm_rt (some true)) 0 sp_B_stands := by
  refine jm_con2 (L := L_B_stands) (code := k_B_stands) CF_B rfl (by decide) ck_B_stands trivial (by decide) ?_
  intro σ as hl hr hs hp Q hQ
  obtain ⟨c, rfl⟩ := jm_a1 hl
  have hc : bw_cl c := hp
  refine jm_Ok.go 60 [] ?_
  repeat' (first | apply And.intro | intro _)
  all_goals first | omega | (refine hQ _ _ ⟨?_, rfl⟩; omega)
def sp_B_grow : jm_K := (false, 0, true, fun as σ => (match as with
  | [] => bw_K σ ∧ σ 14 3 ≤ 2000000000 ∧ σ 14 4 ≤ 2000000000
  | _ => False), fun as σ _ σ' => (match as with
  | [] => bw_K σ' ∧ bw_abs σ' = bw_gw (bw_abs σ) ∧ ∀ j, σ' 14 j = if j = 3 then σ 14 3 + bw_n3 (bw_abs σ) else if j = 4 then σ 14 4 + bw_n4 (bw_abs σ) else σ 14 j
  | _ => False))
def L_B_grow : List (Nat × jm_K) := [(139, sp_B_stands), (130, sp_B_set), (133, sp_B_lampsLook)]
set_option maxHeartbeats 4000000 in
set_option maxRecDepth 100000 in
theorem con_B_grow : jm_Con classes D_B 17 ks_B 0 y_B_grow b_B_grow 2 (jm_rt none) 8 sp_B_grow := by
  refine jm_con2 (L := L_B_grow) (code := k_B_grow) CF_B rfl (by decide) ck_B_grow ⟨⟨y_B_stands, b_B_stands, 2, jm_rt (some true), 0, by decide, con_B_stands, lk_B_stands _ _, rfl⟩, ⟨y_B_set, b_B_set, 7, jm_rt none, 7, by decide, con_B_set, lk_B_set _ _, rfl⟩, ⟨y_B_lampsLook, b_B_lampsLook, 4, jm_rt none, 6, by decide, con_B_lampsLook, lk_B_lampsLook _ _, rfl⟩, trivial⟩ (by decide) ?_
  intro σ as hl hr hs hp Q hQ
  obtain rfl := jm_a0 hl
  obtain ⟨hK, hh3, hh4⟩ : bw_K σ ∧ σ 14 3 ≤ 2000000000 ∧ σ 14 4 ≤ 2000000000 := hp
  have h14 : ∀ j, 0 ≤ j → j < 5 → 0 ≤ σ 14 j := fun j a b => (hs 14 j a (Or.inl b)).1
  obtain ⟨a, hadef⟩ : ∃ a, a = bw_abs σ := ⟨_, rfl⟩
  have a0 : ∀ x, bw_cl x → a.1 x = σ 0 x := fun x hx => by rw [hadef]; exact bw_abs_0 hx
  have a1 : ∀ x, bw_cl x → a.2.1 x = σ 1 x := fun x hx => by rw [hadef]; exact bw_abs_1 hx
  have hheld : ∀ x, bw_cl x → (bw_held a x ↔ (64 ≤ x ∧ (σ 0 (x - 64) = 1 ∨ σ 0 (x - 64) = 4))) := by
    intro x hx
    unfold bw_held
    rcases Int.lt_or_le x 64 with q | q
    · constructor <;> (intro z; omega)
    · rw [a0 (x - 64) (by omega)]
  have n3r := bw_cnt_rg (bw_b1 a) 384
  have loop2 : ∀ (n m : Nat) (c : Int) (τ : jm_S), c = m → m + n = 384 → bw_I τ → (∀ x, bw_cl x → (τ 16 x = 1 ↔ bw_g0 a x)) → (∀ x, bw_cl x → τ 0 x = if x < c ∧ bw_b0 a x = true then 0 else σ 0 x) → (∀ x, bw_cl x → τ 1 x = if x < c ∧ bw_b0 a x = true then 0 else if bw_b1 a x = true then σ 1 x + 1 else σ 1 x) → (∀ x, bw_cl x → σ 0 x = 7 → τ 2 x = σ 2 x) → (∀ j, τ 14 j = if j = 3 then σ 14 3 + bw_n3 a else if j = 4 then σ 14 4 + bw_cnt (bw_b0 a) m else σ 14 j) → jm_Ok D_B fi_B (jm_look L_B_grow) k_B_grow none Q 127 [some (.inr none), some (.inl c)] [] τ := by
    intro n
    induction n with
    | zero =>
      intro m c τ hc hm hI h16 hb hst ho hh
      have hm : m = 384 := by omega
      subst hm
      refine jm_Ok.go 60 [] ?_
      refine ⟨fun _ => ⟨hI, ?_⟩, fun _ => by omega⟩
      rintro _ τ' hs' ⟨g1, g2, g3⟩
      refine hQ _ _ ⟨⟨g1, g2⟩, ?_, ?_⟩
      · rw [bw_fr_abs g3, ← hadef]
        have ea : (bw_abs τ).1 = (bw_gw a).1 := by
          funext x
          show bw_rs _ x = if bw_cl x ∧ bw_b0 a x = true then 0 else a.1 x
          by_cases hx : bw_cl x
          · have hxc : x < c := by omega
            rw [bw_rs_at hx, hb x hx, a0 x hx]
            by_cases q : bw_b0 a x = true <;> simp [q, hxc, hx.1, hx.2]
          · rw [if_neg (fun z => hx z.1), hadef]
            unfold bw_abs bw_rs
            rw [if_neg hx]; simp [hx]
        have eb : (bw_abs τ).2.1 = (bw_gw a).2.1 := by
          funext x
          show bw_rs _ x = if bw_cl x ∧ bw_b0 a x = true then 0 else if bw_cl x ∧ bw_b1 a x = true then a.2.1 x + 1 else a.2.1 x
          by_cases hx : bw_cl x
          · have hxc : x < c := by omega
            rw [bw_rs_at hx, hst x hx, a1 x hx]
            by_cases q : bw_b0 a x = true <;> by_cases q2 : bw_b1 a x = true <;> simp [q, q2, hxc, hx.1, hx.2]
          · rw [if_neg (fun z => hx z.1), if_neg (fun z => hx z.1), hadef]
            unfold bw_abs bw_rs
            rw [if_neg hx]; simp [hx]
        have ec : (bw_abs τ).2.2 = (bw_gw a).2.2 := by
          rw [hadef]
          refine bw_rs_ext fun x hx => ?_
          show (if τ 0 x = 7 then τ 2 x else 0) = if σ 0 x = 7 then σ 2 x else 0
          have hxc : x < c := by omega
          rw [hb x hx]
          by_cases q : bw_b0 a x = true
          · have := (bw_b0_iff.mp q).1
            rw [a0 x hx] at this
            simp [q, hxc, this]
          · by_cases h7 : σ 0 x = 7
            · simp [q, h7, ho x hx h7]
            · simp [q, h7]
        exact Prod.ext ea (Prod.ext eb ec)
      · intro j
        rw [g3.2.2.2.2.2.1, ← hadef]; exact hh j
    | succ n ih =>
      intro m c τ hc hm hI h16 hb hst ho hh
      have hcl : bw_cl c := by omega
      have hcr := bw_cnt_rg (bw_b0 a) m
      refine jm_Ok.go 60 [127] ?_
      refine ⟨fun _ => by omega, fun _ => ⟨by omega, fun f hf _ _ => ⟨fun h1 => ?_, fun h0 => ?_⟩⟩⟩
      · have hg : bw_g0 a c := by rw [← h16 c hcl]; omega
        have hgb : bw_b0 a c = true := bw_b0_iff.mpr hg
        refine ⟨⟨hcl, by omega, hI⟩, ?_⟩
        rintro _ τ1 hs1 h1
        have h1 : bw_SO τ τ1 c 0 := h1
        have e14 : τ1 14 = τ 14 := h1.2.2.2.2.2.2.1
        have e16 : τ1 16 = τ 16 := h1.2.2.2.2.2.2.2.2
        refine ⟨by omega, fun v hv _ _ => ?_⟩
        rw [e14, hh 4, if_neg (by decide), if_pos rfl] at hv
        refine ⟨by omega, by omega, by omega, by omega, ih (m + 1) (c + 1) _ (by omega) (by omega) h1.1 ?_ ?_ ?_ ?_ ?_⟩
        · intro x hx
          show τ1 16 x = 1 ↔ _
          rw [e16]; exact h16 x hx
        · intro x hx
          show τ1 0 x = _
          rw [h1.2.1 x]
          by_cases hxc : x = c
          · rw [if_pos hxc, if_pos ⟨by omega, by rw [hxc]; exact hgb⟩]
          · rw [if_neg hxc, hb x hx]
            by_cases q : x < c ∧ bw_b0 a x = true
            · rw [if_pos q, if_pos ⟨by omega, q.2⟩]
            · rw [if_neg q, if_neg (fun z => q ⟨by omega, z.2⟩)]
        · intro x hx
          show τ1 1 x = _
          rw [h1.2.2.1 x]
          by_cases hxc : x = c
          · rw [if_pos hxc, if_pos ⟨by omega, by rw [hxc]; exact hgb⟩]
          · have e : (x < c + 1 ∧ bw_b0 a x = true) = (x < c ∧ bw_b0 a x = true) := propext ⟨fun z => ⟨by omega, z.2⟩, fun z => ⟨by omega, z.2⟩⟩
            rw [if_neg hxc, hst x hx]
            simp only [e]
        · intro x hx h7
          show τ1 2 x = _
          have hxc : x ≠ c := by
            intro q
            have := hg.1
            rw [a0 c hcl, ← q] at this
            omega
          rw [h1.2.2.2.1 x hxc]; exact ho x hx h7
        · intro j
          by_cases hj : j = 4
          · subst hj
            rw [hc] at hgb
            simp [jm_up, bw_cnt, hgb]
            omega
          · simp [jm_up, hj]
            rw [e14, hh j]
            simp [hj]
      · have hg : ¬ bw_g0 a c := by rw [← h16 c hcl]; omega
        have hgb : ¬ bw_b0 a c = true := fun q => hg (bw_b0_iff.mp q)
        refine ⟨by omega, ih (m + 1) (c + 1) τ (by omega) (by omega) hI h16 ?_ ?_ ho ?_⟩
        · intro x hx
          rw [hb x hx]
          by_cases q : x < c ∧ bw_b0 a x = true
          · rw [if_pos q, if_pos ⟨by omega, q.2⟩]
          · rw [if_neg q, if_neg]
            intro z
            by_cases hxc : x = c
            · rw [hxc] at z; exact hgb z.2
            · exact q ⟨by omega, z.2⟩
        · intro x hx
          rw [hst x hx]
          have e : (x < c + 1 ∧ bw_b0 a x = true) = (x < c ∧ bw_b0 a x = true) := by
            refine propext ⟨fun z => ⟨?_, z.2⟩, fun z => ⟨by omega, z.2⟩⟩
            by_cases hxc : x = c
            · rw [hxc] at z; exact absurd z.2 hgb
            · omega
          simp only [e]
        · intro j
          rw [hh j]
          rw [hc] at hgb
          simp [bw_cnt, hgb]
  have loop1 : ∀ (n m : Nat) (c : Int) (τ : jm_S), c = m → m + n = 384 → (∀ k, k ≠ 1 → k ≠ 14 → k ≠ 16 → τ k = σ k) → (∀ x, bw_cl x → x < c → (τ 16 x = 1 ↔ bw_g0 a x)) → (∀ x, bw_cl x → τ 1 x = if x < c ∧ bw_b1 a x = true then σ 1 x + 1 else σ 1 x) → (∀ j, τ 14 j = if j = 3 then σ 14 3 + bw_cnt (bw_b1 a) m else σ 14 j) → jm_Ok D_B fi_B (jm_look L_B_grow) k_B_grow none Q 2 [some (.inr none), some (.inl c)] [] τ := by
    intro n
    induction n with
    | zero =>
      intro m c τ hc hm hk h16 hst hh
      have hm : m = 384 := by omega
      subst hm
      refine jm_Ok.go 60 [127] ?_
      refine ⟨fun _ => ?_, fun _ => by omega⟩
      have hst' : ∀ x, bw_cl x → τ 1 x = if bw_b1 a x = true then σ 1 x + 1 else σ 1 x := by
        intro x hx
        rw [hst x hx]
        by_cases q : bw_b1 a x = true
        · rw [if_pos ⟨by omega, q⟩, if_pos q]
        · rw [if_neg (fun z => q z.2), if_neg q]
      refine loop2 384 0 0 τ rfl rfl ?_ (fun x hx => h16 x hx (by omega)) ?_ ?_ ?_ ?_
      · have e : ∀ k, k ≠ 1 → k ≠ 14 → k ≠ 16 → τ k = σ k := hk
        have e0 := hk 0 (by decide) (by decide) (by decide)
        have e2 := hk 2 (by decide) (by decide) (by decide)
        have e3 := hk 3 (by decide) (by decide) (by decide)
        have e4 := hk 4 (by decide) (by decide) (by decide)
        have e8 := hk 8 (by decide) (by decide) (by decide)
        have e9 := hk 9 (by decide) (by decide) (by decide)
        have e10 := hk 10 (by decide) (by decide) (by decide)
        have e11 := hk 11 (by decide) (by decide) (by decide)
        have e12 := hk 12 (by decide) (by decide) (by decide)
        obtain ⟨⟨j1, j2, j3, j4, j5, j6, j7, j8⟩, jany⟩ := hK.1
        unfold bw_I bw_J bw_flds bw_onOK bw_look bw_lamp bw_any bw_cntOK bw_roofOK bw_stgOK bw_AA bw_G bw_F
        rw [e0, e2, e3, e4, e8, e9, e10, e11, e12]
        refine ⟨⟨j1, j2, j3, j4, j5, j6, j7, ?_⟩, jany⟩
        intro x hx h9
        rw [hst' x hx, if_neg]
        · exact j8 x hx h9
        · intro q
          have := (bw_b1_iff.mp q).1
          rw [a0 x hx] at this
          omega
      · intro x hx
        rw [if_neg (fun z => by omega), hk 0 (by decide) (by decide) (by decide)]
      · intro x hx
        rw [if_neg (fun z => by omega), hst' x hx]
      · intro x hx _; rw [hk 2 (by decide) (by decide) (by decide)]
      · intro j
        rw [hh j]
        by_cases h3 : j = 3
        · rw [if_pos h3, if_pos h3]; rfl
        · rw [if_neg h3, if_neg h3]
          by_cases h4 : j = 4
          · rw [if_pos h4, h4]; simp [bw_cnt]
          · rw [if_neg h4]
    | succ n ih =>
      intro m c τ hc hm hk h16 hst hh
      have hcl : bw_cl c := by omega
      have hcr := bw_cnt_rg (bw_b1 a) m
      have e0 := hk 0 (by decide) (by decide) (by decide)
      have e4 := hk 4 (by decide) (by decide) (by decide)
      have eL : bw_lgt a c = σ 4 c := by rw [hadef, ← bw_K_lgt hK hs c hcl, bw_F_0]
      have eS : bw_sky a c = σ 4 (384 + c) := by rw [hadef, ← bw_K_sky hK hs c hcl, bw_F_1]
      have est : τ 1 c = σ 1 c := by rw [hst c hcl, if_neg (fun z => by omega)]
      have skip : ∀ v : Int, (v = 1 ↔ bw_g0 a c) → ¬ bw_g1 a c → jm_Ok D_B fi_B (jm_look L_B_grow) k_B_grow none Q 119 [some (.inr none), some (.inl c)] [] (jm_up τ 16 c v) := by
        intro v hv hg
        have hgb : ¬ bw_b1 a (m : Int) = true := fun q => hg (by rw [hc]; exact bw_b1_iff.mp q)
        refine jm_Ok.go 60 [2] ?_
        refine ⟨by omega, ih (m + 1) (c + 1) _ (by omega) (by omega) ?_ ?_ ?_ ?_⟩
        · intro k h1 h14 h16; rw [← hk k h1 h14 h16]; simp [jm_up, h16]
        · intro x hx hlt
          by_cases hxc : x = c
          · subst hxc; simp [jm_up]; exact hv
          · have := h16 x hx (by omega)
            simpa [jm_up, hxc] using this
        · intro x hx
          show τ 1 x = _
          rw [hst x hx]
          by_cases q : x < c ∧ bw_b1 a x = true
          · rw [if_pos q, if_pos ⟨by omega, q.2⟩]
          · rw [if_neg q, if_neg]
            intro z
            by_cases hxc : x = c
            · rw [hxc, hc] at z; exact hgb z.2
            · exact q ⟨by omega, z.2⟩
        · intro j
          show τ 14 j = _
          rw [hh j]; simp [bw_cnt, hgb]
      have grow1 : ∀ v : Int, (v = 1 ↔ bw_g0 a c) → bw_g1 a c → jm_Ok D_B fi_B (jm_look L_B_grow) k_B_grow none Q 98 [some (.inr none), some (.inl c)] [] (jm_up τ 16 c v) := by
        intro v hv hg
        have hgb : bw_b1 a (m : Int) = true := by rw [← hc]; exact bw_b1_iff.mpr hg
        have hs7 : σ 1 c ≠ 7 := by rw [← a1 c hcl]; exact hg.2.2.1
        refine jm_Ok.go 60 [2] ?_
        refine ⟨by omega, fun st hst1 _ _ => ?_⟩
        have hst1 : st = σ 1 c := by rw [← est]; exact hst1
        refine ⟨by omega, by omega, by omega, by omega, by omega, fun h hh1 _ _ => ?_⟩
        have hh1 : h = σ 14 3 + bw_cnt (bw_b1 a) m := by
          have : h = τ 14 3 := hh1
          rw [this, hh 3, if_pos rfl]
        have := h14 3 (by omega) (by omega)
        refine ⟨by omega, by omega, by omega, by omega, ih (m + 1) (c + 1) _ (by omega) (by omega) ?_ ?_ ?_ ?_⟩
        · intro k h1 h14 h16; rw [← hk k h1 h14 h16]; simp [jm_up, h1, h14, h16]
        · intro x hx hlt
          by_cases hxc : x = c
          · subst hxc; simp [jm_up]; exact hv
          · have := h16 x hx (by omega)
            simpa [jm_up, hxc] using this
        · intro x hx
          by_cases hxc : x = c
          · rw [if_pos ⟨by omega, by rw [hxc, hc]; exact hgb⟩, hxc]
            simp [jm_up]; omega
          · have e : jm_up (jm_up (jm_up τ 16 c v) 1 c (st + 1)) 14 3 (h + 1) 1 x = τ 1 x := by simp [jm_up, hxc]
            rw [e, hst x hx]
            by_cases q : x < c ∧ bw_b1 a x = true
            · rw [if_pos q, if_pos ⟨by omega, q.2⟩]
            · rw [if_neg q, if_neg (fun z => q ⟨by omega, z.2⟩)]
        · intro j
          by_cases hj : j = 3
          · subst hj
            simp [jm_up, bw_cnt, hgb]; omega
          · have e : jm_up (jm_up (jm_up τ 16 c v) 1 c (st + 1)) 14 3 (h + 1) 14 j = τ 14 j := by simp [jm_up, hj]
            rw [e, hh j, if_neg hj, if_neg hj]
      -- behind the first join
      have k38 : ∀ v : Int, (v = 0 ∨ v = 1) → (v = 1 ↔ bw_g0 a c) → jm_Ok D_B fi_B (jm_look L_B_grow) k_B_grow none Q 38 [some (.inr none), some (.inl c)] [.inl v, .inl c, .inr (some 16)] τ := by
        intro v hv01 hv
        have hb0 : bw_g0 a c ↔ (σ 0 c = 9 ∧ ¬ bw_held a c) := by unfold bw_g0; rw [a0 c hcl]
        have hb1 : bw_g1 a c ↔ (σ 0 c = 9 ∧ bw_held a c ∧ σ 1 c ≠ 7 ∧ (9 ≤ σ 4 c ∨ 9 ≤ σ 4 (384 + c))) := by unfold bw_g1; rw [a0 c hcl, a1 c hcl, eL, eS]
        refine jm_Ok.go 60 [119, 98] ?_
        refine ⟨by omega, by omega, by omega, fun b hb _ _ => ?_⟩
        have hb : b = σ 0 c := by rw [← e0]; exact hb
        refine ⟨fun h9 => skip v hv (fun q => by have := (hb1.mp q).1; omega), fun h9 => ⟨hcl, ?_⟩⟩
        rintro r _ - ⟨hr, rfl⟩
        have hr : (r = 1 ∧ bw_held a c) ∨ (r = 0 ∧ ¬ bw_held a c) := by
          rw [hheld c hcl, ← e0]; exact hr
        refine ⟨fun h0 => skip v hv (fun q => ?_), fun h1 => ⟨by omega, fun st hst1 _ _ => ?_⟩⟩
        · rcases hr with z | z
          · omega
          · exact z.2 (hb1.mp q).2.1
        · have hst1 : st = σ 1 c := by rw [← est]; exact hst1
          refine ⟨fun h7 => skip v hv (fun q => (hb1.mp q).2.2.1 (by omega)), fun h7 => ⟨by omega, fun l hl _ _ => ?_⟩⟩
          have hl : l = σ 4 c := by rw [← e4]; exact hl
          have hhd : bw_held a c := by
            rcases hr with z | z
            · exact z.2
            · omega
          refine ⟨fun hge => grow1 v hv (hb1.mpr ⟨by omega, hhd, by omega, Or.inl (by omega)⟩), fun hlt => ⟨by omega, by omega, fun s hs1 _ _ => ?_⟩⟩
          have hs1 : s = σ 4 (384 + c) := by rw [← e4]; exact hs1
          exact ⟨fun hge => grow1 v hv (hb1.mpr ⟨by omega, hhd, by omega, Or.inr (by omega)⟩), fun hlt2 => skip v hv (fun q => by have := (hb1.mp q).2.2.2; omega)⟩
      refine jm_Ok.go 60 [38] ?_
      refine ⟨fun _ => by omega, fun _ => ⟨by omega, fun b hb _ _ => ?_⟩⟩
      have hb : b = σ 0 c := by rw [← e0]; exact hb
      have hb0 : bw_g0 a c ↔ (σ 0 c = 9 ∧ ¬ bw_held a c) := by unfold bw_g0; rw [a0 c hcl]
      refine ⟨fun h9 => k38 0 (Or.inl rfl) ⟨fun q => by omega, fun q => by have := (hb0.mp q).1; omega⟩, fun h9 => ⟨hcl, ?_⟩⟩
      rintro r τ - ⟨hr, rfl⟩
      have hr : (r = 1 ∧ bw_held a c) ∨ (r = 0 ∧ ¬ bw_held a c) := by
        rw [hheld c hcl, ← e0]; exact hr
      refine ⟨fun h1 => k38 0 (Or.inl rfl) ⟨fun q => by omega, fun q => ?_⟩, fun h0 => k38 1 (Or.inr rfl) ⟨fun _ => hb0.mpr ⟨by omega, ?_⟩, fun _ => rfl⟩⟩
      · rcases hr with z | z
        · exact absurd z.2 (hb0.mp q).2
        · omega
      · rcases hr with z | z
        · omega
        · exact z.2
  refine jm_Ok.go 60 [2] ?_
  refine loop1 384 0 0 σ rfl rfl (fun _ _ _ _ => rfl) (fun x hx q => by omega) (fun x hx => by rw [if_neg (fun z => by omega)]) ?_
  intro j
  by_cases h3 : j = 3
  · rw [if_pos h3, h3]; simp [bw_cnt]
  · rw [if_neg h3]
end
section
/-! tick -/
theorem bw_tk_rg : ∀ (k : Nat) (a : bw_X), (0 ≤ (bw_tk k a).1 ∧ (bw_tk k a).1 ≤ k) ∧ (0 ≤ (bw_tk k a).2.2.1 ∧ (bw_tk k a).2.2.1 ≤ 384 * k) ∧ (0 ≤ (bw_tk k a).2.2.2.1 ∧ (bw_tk k a).2.2.2.1 ≤ 384 * k) ∧ (0 ≤ (bw_tk k a).2.2.2.2.1 ∧ (bw_tk k a).2.2.2.2.1 ≤ 384 * k) ∧ (0 ≤ (bw_tk k a).2.2.2.2.2 ∧ (bw_tk k a).2.2.2.2.2 ≤ 384 * k)
  | 0, a => by simp [bw_tk]
  | k + 1, a => by
    have h := bw_tp_rg a
    have ih := bw_tk_rg k (bw_tp a).1
    unfold bw_tk
    split
    · dsimp only
      omega
    · dsimp only
      omega
def sp_B_tick : jm_K := (false, 1, false, fun as σ => (match as with
  | [_] => bw_K σ ∧ ∀ j, 0 ≤ j → j < 5 → σ 14 j ≤ 400000000
  | _ => False), fun as σ r σ' => (match as with
  | [n] => ((1 ≤ n ∧ n ≤ 50) ∧ r = (bw_tk n.toNat (bw_abs σ)).1 ∧ bw_K σ' ∧ bw_abs σ' = (bw_tk n.toNat (bw_abs σ)).2.1 ∧ σ' 14 0 = σ 14 0 + (bw_tk n.toNat (bw_abs σ)).1 ∧ σ' 14 1 = σ 14 1 + (bw_tk n.toNat (bw_abs σ)).2.2.1 ∧ σ' 14 2 = σ 14 2 + (bw_tk n.toNat (bw_abs σ)).2.2.2.1 ∧ σ' 14 3 = σ 14 3 + (bw_tk n.toNat (bw_abs σ)).2.2.2.2.1 ∧ σ' 14 4 = σ 14 4 + (bw_tk n.toNat (bw_abs σ)).2.2.2.2.2) ∨ (¬ (1 ≤ n ∧ n ≤ 50) ∧ r = -1 ∧ σ' = σ)
  | _ => False))
def L_B_tick : List (Nat × jm_K) := [(145, sp_B_invert), (149, sp_B_fall), (152, sp_B_grow)]
set_option maxHeartbeats 4000000 in
set_option maxRecDepth 100000 in
theorem con_B_tick : jm_Con classes D_B 17 ks_B 0 y_B_tick b_B_tick 5 (jm_rt (some false)) 9 sp_B_tick := by
  refine jm_con2 (L := L_B_tick) (code := k_B_tick) CF_B rfl (by decide) ck_B_tick ⟨⟨y_B_invert, b_B_invert, 3, jm_rt (some false), 7, by decide, con_B_invert, lk_B_invert _ _, rfl⟩, ⟨y_B_fall, b_B_fall, 3, jm_rt (some false), 8, by decide, con_B_fall, lk_B_fall _ _, rfl⟩, ⟨y_B_grow, b_B_grow, 2, jm_rt none, 8, by decide, con_B_grow, lk_B_grow _ _, rfl⟩, trivial⟩ (by decide) ?_
  intro σ as hl hr hs hp Q hQ
  obtain ⟨n, rfl⟩ := jm_a1 hl
  obtain ⟨hK, hh⟩ : bw_K σ ∧ ∀ j, 0 ≤ j → j < 5 → σ 14 j ≤ 400000000 := hp
  have loop : n ≤ 50 → ∀ (k : Nat) (made : Int) (l4 : Option jm_V) (τ : jm_S), 0 ≤ made → n = made + k → jm_okS D_B τ → bw_K τ → (∀ j, 0 ≤ j → j < 5 → τ 14 j ≤ 400000000 + 384 * made) → (∀ r u, r = made + (bw_tk k (bw_abs τ)).1 ∧ bw_K u ∧ bw_abs u = (bw_tk k (bw_abs τ)).2.1 ∧ u 14 0 = τ 14 0 + (bw_tk k (bw_abs τ)).1 ∧ u 14 1 = τ 14 1 + (bw_tk k (bw_abs τ)).2.2.1 ∧ u 14 2 = τ 14 2 + (bw_tk k (bw_abs τ)).2.2.2.1 ∧ u 14 3 = τ 14 3 + (bw_tk k (bw_abs τ)).2.2.2.2.1 ∧ u 14 4 = τ 14 4 + (bw_tk k (bw_abs τ)).2.2.2.2.2 → Q r u) → jm_Ok D_B fi_B (jm_look L_B_tick) k_B_tick (some false) Q 17 [some (.inr none), some (.inl n), some (.inl made), some (.inl 1), l4] [] τ := by
    intro hn50 k
    induction k with
    | zero =>
      intro made l4 τ hm0 hmn hsτ hKτ hhτ hfin
      refine jm_Ok.go 60 [] ?_
      refine ⟨fun q => by omega, fun _ => ⟨fun _ => hfin _ _ ⟨by simp [bw_tk], hKτ, rfl, by simp [bw_tk], by simp [bw_tk], by simp [bw_tk], by simp [bw_tk], by simp [bw_tk]⟩, fun q => by omega⟩⟩
    | succ k ih =>
      intro made l4 τ hm0 hmn hsτ hKτ hhτ hfin
      have n0 : ∀ j, 0 ≤ j → j < 5 → 0 ≤ τ 14 j := fun j a b => (hsτ 14 j a (Or.inl b)).1
      have b0 := hhτ 0 (by omega) (by omega)
      have b1 := hhτ 1 (by omega) (by omega)
      have b2 := hhτ 2 (by omega) (by omega)
      have b3 := hhτ 3 (by omega) (by omega)
      have b4 := hhτ 4 (by omega) (by omega)
      have z0 := n0 0 (by omega) (by omega)
      have z1 := n0 1 (by omega) (by omega)
      have z2 := n0 2 (by omega) (by omega)
      have z3 := n0 3 (by omega) (by omega)
      have z4 := n0 4 (by omega) (by omega)
      have hT := bw_tp_rg (bw_abs τ)
      have e1 : (bw_tp (bw_abs τ)).1 = bw_gw (bw_ff (bw_iv (bw_abs τ))).1 := rfl
      have e2 : (bw_tp (bw_abs τ)).2.1 = bw_in (bw_abs τ) := rfl
      have e3 : (bw_tp (bw_abs τ)).2.2.1 = (bw_ff (bw_iv (bw_abs τ))).2 := rfl
      have e4 : (bw_tp (bw_abs τ)).2.2.2.1 = bw_n3 (bw_ff (bw_iv (bw_abs τ))).1 := rfl
      have e5 : (bw_tp (bw_abs τ)).2.2.2.2 = bw_n4 (bw_ff (bw_iv (bw_abs τ))).1 := rfl
      -- behind a tick: the state ρ, whether there is more
      have k135 : ∀ (mo : Int) (l3 l4 : Option jm_V) (ρ : jm_S), jm_okS D_B ρ → bw_K ρ → bw_abs ρ = (bw_tp (bw_abs τ)).1 → ρ 14 0 = τ 14 0 + 1 → ρ 14 1 = τ 14 1 + (bw_tp (bw_abs τ)).2.1 → ρ 14 2 = τ 14 2 + (bw_tp (bw_abs τ)).2.2.1 → ρ 14 3 = τ 14 3 + (bw_tp (bw_abs τ)).2.2.2.1 → ρ 14 4 = τ 14 4 + (bw_tp (bw_abs τ)).2.2.2.2 → ((mo = 0 ∧ (bw_tp (bw_abs τ)).2.1 + (bw_tp (bw_abs τ)).2.2.1 + (bw_tp (bw_abs τ)).2.2.2.1 + (bw_tp (bw_abs τ)).2.2.2.2 = 0) ∨ (mo = 1 ∧ (bw_tp (bw_abs τ)).2.1 + (bw_tp (bw_abs τ)).2.2.1 + (bw_tp (bw_abs τ)).2.2.2.1 + (bw_tp (bw_abs τ)).2.2.2.2 ≠ 0)) → jm_Ok D_B fi_B (jm_look L_B_tick) k_B_tick (some false) Q 135 [some (.inr none), some (.inl n), some (.inl (made + 1)), l3, l4] [.inl mo] ρ := by
        intro mo l3 l4 ρ hsρ hKρ ha h0 h1 h2 h3 h4 hmo
        rcases hmo with ⟨rfl, hz⟩ | ⟨rfl, hz⟩
        · refine jm_Ok.go 60 [] ?_
          refine ⟨fun _ => hfin _ _ ?_, fun q => absurd rfl q⟩
          have e : bw_tk (k + 1) (bw_abs τ) = (1, bw_tp (bw_abs τ)) := by
            conv => lhs; unfold bw_tk
            rw [if_pos hz]
          rw [e]
          exact ⟨rfl, hKρ, ha, h0, h1, h2, h3, h4⟩
        · refine jm_Ok.go 60 [17] ?_
          refine ih (made + 1) _ ρ (by omega) (by omega) hsρ hKρ ?_ ?_
          · intro j a b
            have : j = 0 ∨ j = 1 ∨ j = 2 ∨ j = 3 ∨ j = 4 := by omega
            rcases this with rfl | rfl | rfl | rfl | rfl <;> omega
          · intro r u q
            apply hfin
            have e : bw_tk (k + 1) (bw_abs τ) = ((bw_tk k (bw_tp (bw_abs τ)).1).1 + 1, (bw_tk k (bw_tp (bw_abs τ)).1).2.1, (bw_tk k (bw_tp (bw_abs τ)).1).2.2.1 + (bw_tp (bw_abs τ)).2.1, (bw_tk k (bw_tp (bw_abs τ)).1).2.2.2.1 + (bw_tp (bw_abs τ)).2.2.1, (bw_tk k (bw_tp (bw_abs τ)).1).2.2.2.2.1 + (bw_tp (bw_abs τ)).2.2.2.1, (bw_tk k (bw_tp (bw_abs τ)).1).2.2.2.2.2 + (bw_tp (bw_abs τ)).2.2.2.2) := by
              conv => lhs; unfold bw_tk
              rw [if_neg hz]
            rw [e]
            rw [ha] at q
            obtain ⟨q1, q2, q3, q4, q5, q6, q7, q8⟩ := q
            exact ⟨by dsimp only; omega, q2, q3, by dsimp only; omega, by dsimp only; omega, by dsimp only; omega, by dsimp only; omega, by dsimp only; omega⟩
      refine jm_Ok.go 120 [135] ?_
      refine ⟨fun q => by omega, fun _ => ⟨fun q => by omega, fun _ => ?_⟩⟩
      refine ⟨by omega, fun h1 eh1 _ _ => ⟨by omega, fun h2 eh2 _ _ => ⟨by omega, by omega, fun h3 eh3 _ _ => ⟨by omega, by omega, fun h4 eh4 _ _ => ⟨by omega, ?_⟩⟩⟩⟩⟩
      refine ⟨by omega, fun v1 ev1 _ _ => ⟨hKτ, ?_⟩⟩
      rintro i τ1 hs1 ⟨i1, i2, i3, i4⟩
      rw [← e2] at i1
      refine ⟨by omega, by omega, by omega, ?_⟩
      refine ⟨by omega, fun v2 ev2 _ _ => ⟨i2, ?_⟩⟩
      have ev2 : v2 = τ 14 2 := by rw [← i4]; exact ev2
      rintro f τ2 hs2 ⟨f1, f2, f3, f4⟩
      have f1 : f = (bw_tp (bw_abs τ)).2.2.1 := by rw [e3, ← i3]; exact f1
      have f3 : bw_abs τ2 = (bw_ff (bw_iv (bw_abs τ))).1 := by rw [← i3]; exact f3
      have f4a : ∀ j, j ≠ 1 → τ2 14 j = τ 14 j := by
        intro j hj
        rw [f4, ← i4]; simp [jm_up, hj]
      have f4b : τ2 14 1 = τ 14 1 + (bw_tp (bw_abs τ)).2.1 := by
        rw [f4]; simp [jm_up]; omega
      refine ⟨by omega, by omega, by omega, ?_⟩
      refine ⟨⟨f2, ?_, ?_⟩, ?_⟩
      · show jm_up τ2 14 2 (v2 + f) 14 3 ≤ 2000000000
        simp [jm_up]; rw [f4a 3 (by decide)]; omega
      · show jm_up τ2 14 2 (v2 + f) 14 4 ≤ 2000000000
        simp [jm_up]; rw [f4a 4 (by decide)]; omega
      rintro _ τ3 hs3 ⟨g1, g2, g3⟩
      have g2 : bw_abs τ3 = (bw_tp (bw_abs τ)).1 := by rw [e1, ← f3]; exact g2
      have ea : bw_abs (jm_up τ2 14 2 (v2 + f)) = (bw_ff (bw_iv (bw_abs τ))).1 := f3
      rw [ea, ← e4, ← e5] at g3
      have t0 : τ3 14 0 = τ 14 0 := by rw [g3 0]; simp [jm_up]; exact f4a 0 (by decide)
      have t1 : τ3 14 1 = τ 14 1 + (bw_tp (bw_abs τ)).2.1 := by rw [g3 1]; simp [jm_up]; exact f4b
      have t2 : τ3 14 2 = τ 14 2 + (bw_tp (bw_abs τ)).2.2.1 := by rw [g3 2]; simp [jm_up]; omega
      have t3 : τ3 14 3 = τ 14 3 + (bw_tp (bw_abs τ)).2.2.2.1 := by rw [g3 3]; simp [jm_up]; exact f4a 3 (by decide)
      have t4 : τ3 14 4 = τ 14 4 + (bw_tp (bw_abs τ)).2.2.2.2 := by rw [g3 4]; simp [jm_up]; exact f4a 4 (by decide)
      refine ⟨by omega, fun v0 ev0 _ _ => ⟨by omega, by omega, by omega, by omega, ?_⟩⟩
      have u0 : jm_up τ3 14 0 (v0 + 1) 14 0 = v0 + 1 := by simp [jm_up]
      have u1 : jm_up τ3 14 0 (v0 + 1) 14 1 = τ3 14 1 := by simp [jm_up]
      have u2 : jm_up τ3 14 0 (v0 + 1) 14 2 = τ3 14 2 := by simp [jm_up]
      have u3 : jm_up τ3 14 0 (v0 + 1) 14 3 = τ3 14 3 := by simp [jm_up]
      have u4 : jm_up τ3 14 0 (v0 + 1) 14 4 = τ3 14 4 := by simp [jm_up]
      have fin : ∀ (mo : Int) (l3 l4 : Option jm_V), ((mo = 0 ∧ (bw_tp (bw_abs τ)).2.1 + (bw_tp (bw_abs τ)).2.2.1 + (bw_tp (bw_abs τ)).2.2.2.1 + (bw_tp (bw_abs τ)).2.2.2.2 = 0) ∨ (mo = 1 ∧ (bw_tp (bw_abs τ)).2.1 + (bw_tp (bw_abs τ)).2.2.1 + (bw_tp (bw_abs τ)).2.2.2.1 + (bw_tp (bw_abs τ)).2.2.2.2 ≠ 0)) → jm_Ok D_B fi_B (jm_look L_B_tick) k_B_tick (some false) Q 135 [some (.inr none), some (.inl n), some (.inl (made + 1)), l3, l4] [.inl mo] (jm_up τ3 14 0 (v0 + 1)) := by
        intro mo l3 l4 hmo
        refine k135 mo _ _ _ (hs3.up ?_) g1 g2 (by omega) (by omega) (by omega) (by omega) (by omega) hmo
        show (0 : Int) ≤ v0 + 1 ∧ v0 + 1 ≤ 2147483647
        omega
      refine ⟨by omega, fun w1 ew1 _ _ => ⟨by omega, fun w2 ew2 _ _ => ⟨by omega, by omega, fun w3 ew3 _ _ => ⟨by omega, by omega, fun w4 ew4 _ _ => ⟨by omega, ?_⟩⟩⟩⟩⟩
      exact ⟨fun heq => fin 0 _ _ (Or.inl ⟨rfl, by omega⟩), fun hne => fin 1 _ _ (Or.inr ⟨rfl, by omega⟩)⟩
  refine jm_Ok.go 60 [17] ?_
  refine ⟨fun h => hQ _ _ (Or.inr ⟨by omega, rfl, rfl⟩), fun h1 => ⟨fun h50 => ?_, fun h => hQ _ _ (Or.inr ⟨by omega, rfl, rfl⟩)⟩⟩
  refine loop (by omega) n.toNat 0 _ σ (by omega) (by omega) hs hK (fun j a b => by have := hh j a b; omega) ?_
  intro r u q
  refine hQ _ _ (Or.inl ⟨by omega, ?_⟩)
  obtain ⟨q1, q2⟩ := q
  exact ⟨by omega, q2⟩
end
section
/-! the component's answers -/
def bw_sum (f : Int → Int) : Nat → Int
  | 0 => 0
  | n + 1 => bw_sum f n + f (n : Int)
theorem bw_sum_congr {f g : Int → Int} : ∀ n : Nat, (∀ i : Int, 0 ≤ i → i < n → f i = g i) → bw_sum f n = bw_sum g n
  | 0, _ => rfl
  | n + 1, h => by unfold bw_sum; rw [bw_sum_congr n (fun i a b => h i a (by omega)), h n (by omega) (by omega)]
theorem bw_sum_rg {f : Int → Int} {M : Int} (hM : 0 ≤ M) : ∀ n : Nat, (∀ i : Int, 0 ≤ i → i < n → 0 ≤ f i ∧ f i ≤ M) → 0 ≤ bw_sum f n ∧ bw_sum f n ≤ M * n
  | 0, _ => by simp [bw_sum]
  | n + 1, h => by
    have ih := bw_sum_rg hM n (fun i a b => h i a (by omega))
    have h1 := h n (by omega) (by omega)
    unfold bw_sum
    have e : M * ((n + 1 : Nat) : Int) = M * n + M := by rw [Int.natCast_add, Int.mul_add]; simp
    omega
theorem bw_cnt_add (p : Int → Bool) (n : Nat) : ∀ m : Nat, bw_cnt p (n + m) = bw_cnt p n + bw_cnt (fun i => p ((n : Int) + i)) m
  | 0 => by simp [bw_cnt]
  | m + 1 => by
    have ih := bw_cnt_add p n m
    show bw_cnt p (n + m) + (if p ((n + m : Nat) : Int) = true then 1 else 0) = bw_cnt p n + (bw_cnt (fun i => p ((n : Int) + i)) m + (if p ((n : Int) + (m : Int)) = true then 1 else 0))
    rw [ih, Int.natCast_add]
    omega
noncomputable def bw_qpow (a : bw_X) (c : Int) : Int := if bw_cl c then (if a.1 c = 5 then bw_pow a c else if a.1 c = 7 ∨ a.1 c = 8 then bw_on a c else if a.1 c = 9 then a.2.1 c else if a.1 c = 6 then 15 else 0) else -1
noncomputable def bw_ob (a : bw_X) (x : Int) : Bool := @decide (bw_open a.1 x) (Classical.propDecidable _)
theorem bw_ob_iff {a : bw_X} {x : Int} : bw_ob a x = true ↔ bw_open a.1 x := ⟨@of_decide_eq_true _ (Classical.propDecidable _), @decide_eq_true _ (Classical.propDecidable _)⟩
noncomputable def bw_qcnt (a : bw_X) (w : Int) : Int :=
  if 0 ≤ w ∧ w < 10 then bw_cnt (fun x => decide (a.1 x = w)) 384 else if w = 10 then bw_cnt (fun x => decide (a.1 x = 8 ∧ bw_on a x = 1)) 384 else if w = 11 then bw_cnt (fun x => decide (a.1 x = 7 ∧ bw_on a x = 1)) 384
  else if w = 12 then bw_cnt (fun x => decide (0 < bw_pow a x)) 384 else if w = 13 then bw_sum (bw_lgt a) 384 else if w = 14 then bw_sum (bw_sky a) 384 else if w = 15 then bw_cnt (bw_ob a) 384 else -1
/-- the k-th dark place: the one answer -/
def bw_dkR (p : Int → Bool) (k r : Int) : Prop := (∃ c : Nat, r = c ∧ c < 384 ∧ p (c : Int) = true ∧ bw_cnt p c = k) ∨ (r = -1 ∧ ∀ c : Nat, c < 384 → p (c : Int) = true → bw_cnt p c ≠ k)
theorem bw_cnt_mono (p : Int → Bool) : ∀ (n m : Nat), n ≤ m → bw_cnt p n ≤ bw_cnt p m := by
  intro n m h
  obtain ⟨k, rfl⟩ := Nat.exists_eq_add_of_le h
  rw [bw_cnt_add]
  have := (bw_cnt_rg (fun i => p ((n : Int) + i)) k).1
  omega
theorem bw_dk_uniq {p : Int → Bool} {k r r' : Int} (h : bw_dkR p k r) (h' : bw_dkR p k r') : r = r' := by
  rcases h with ⟨c, e, h1, h2, h3⟩ | ⟨e, h1⟩ <;> rcases h' with ⟨c', e', h1', h2', h3'⟩ | ⟨e', h1'⟩
  · have key : ∀ a b : Nat, a < b → p (a : Int) = true → bw_cnt p a = k → bw_cnt p b = k → False := by
      intro a b hab hp h1 h2
      have h4 := bw_cnt_mono p (a + 1) b hab
      have h5 : bw_cnt p (a + 1) = bw_cnt p a + 1 := by simp [bw_cnt, hp]
      omega
    rcases Nat.lt_trichotomy c c' with q | q | q
    · exact (key c c' q h2 h3 h3').elim
    · subst q; omega
    · exact (key c' c q h2' h3' h3).elim
  · exact absurd h3 (h1' c h1 h2)
  · exact absurd h3' (h1 c' h1' h2')
  · omega
def bw_dp (a : bw_X) (most : Int) (L S : Int → Int) (x : Int) : Bool := decide (64 ≤ x ∧ a.1 x = 0 ∧ bw_op (a.1 (x - 64)) ∧ L x ≤ most ∧ S x ≤ most)
/-- the cells that belong together: the one answer -/
def bw_lq (a : bw_X) (L : Int → Int) (least x : Int) : Prop := ¬ bw_op (a.1 x) ∧ least ≤ L x
def bw_ltR (q : Int → Prop) (c r : Int) : Prop := (¬ (bw_cl c ∧ q c) ∧ r = 0) ∨ ((bw_cl c ∧ q c) ∧ ∃ M : Int → Bool, M c = true ∧ (∀ x, bw_cl x → M x = true → ∀ n, bw_adj x n → q n → M n = true) ∧ (∀ N : Int → Prop, N c → (∀ x, bw_cl x → N x → ∀ n, bw_adj x n → q n → N n) → ∀ x, bw_cl x → M x = true → N x) ∧ r = bw_cnt M 384)
theorem bw_lt_uniq {q : Int → Prop} {c r r' : Int} (h : bw_ltR q c r) (h' : bw_ltR q c r') : r = r' := by
  rcases h with ⟨h1, h2⟩ | ⟨h1, M, m1, m2, m3, m4⟩ <;> rcases h' with ⟨h1', h2'⟩ | ⟨h1', M', m1', m2', m3', m4'⟩
  · omega
  · exact absurd h1' h1
  · exact absurd h1 h1'
  · rw [m4, m4']
    refine bw_cnt_congr 384 fun x a b => ?_
    rw [Bool.eq_iff_iff]
    exact ⟨fun z => m3 (fun y => M' y = true) m1' m2' x ⟨a, b⟩ z, fun z => m3' (fun y => M y = true) m1 m2 x ⟨a, b⟩ z⟩
/-- what an answer leaves -/
def bw_Kp (σ σ' : jm_S) : Prop := bw_K σ' ∧ bw_abs σ' = bw_abs σ ∧ σ' 14 = σ 14
theorem bw_Kp.rf {σ : jm_S} (h : bw_K σ) : bw_Kp σ σ := ⟨h, rfl, rfl⟩
def sp_B_block : jm_K := (false, 1, false, fun as σ => (match as with
  | [_] => bw_K σ
  | _ => False), fun as σ r σ' => (match as with
  | [c] => r = (if bw_cl c then (bw_abs σ).1 c else -1) ∧ bw_Kp σ σ'
  | _ => False))
def L_B_block : List (Nat × jm_K) := [(142, sp_B_isCell)]
set_option maxHeartbeats 4000000 in
set_option maxRecDepth 100000 in
theorem con_B_block : jm_Con classes D_B 17 ks_B 0 y_B_block b_B_block 2 (jm_rt (some false)) 1 sp_B_block := by
  refine jm_con2 (L := L_B_block) (code := k_B_block) CF_B rfl (by decide) ck_B_block ⟨⟨y_B_isCell, b_B_isCell, 1, jm_rt (some true), 0, by decide, con_B_isCell, lk_B_isCell _ _, rfl⟩, trivial⟩ (by decide) ?_
  intro σ as hl hr hs hp Q hQ
  obtain ⟨c, rfl⟩ := jm_a1 hl
  have hK : bw_K σ := hp
  refine jm_Ok.go 60 [] ?_
  refine ⟨trivial, ?_⟩
  rintro r σ - ⟨hr, rfl⟩
  refine ⟨fun h0 => hQ _ _ ⟨?_, bw_Kp.rf hK⟩, fun h1 => ⟨by omega, fun v hv _ _ => hQ _ _ ⟨?_, bw_Kp.rf hK⟩⟩⟩
  · rw [if_neg (by omega)]
  · rw [if_pos (by omega), bw_abs_0 (by omega)]; exact hv
def sp_B_light : jm_K := (false, 1, false, fun as σ => (match as with
  | [_] => bw_K σ
  | _ => False), fun as σ r σ' => (match as with
  | [c] => r = (if bw_cl c then bw_lgt (bw_abs σ) c else -1) ∧ bw_Kp σ σ'
  | _ => False))
def L_B_light : List (Nat × jm_K) := [(142, sp_B_isCell)]
set_option maxHeartbeats 4000000 in
set_option maxRecDepth 100000 in
theorem con_B_light : jm_Con classes D_B 17 ks_B 0 y_B_light b_B_light 2 (jm_rt (some false)) 1 sp_B_light := by
  refine jm_con2 (L := L_B_light) (code := k_B_light) CF_B rfl (by decide) ck_B_light ⟨⟨y_B_isCell, b_B_isCell, 1, jm_rt (some true), 0, by decide, con_B_isCell, lk_B_isCell _ _, rfl⟩, trivial⟩ (by decide) ?_
  intro σ as hl hr hs hp Q hQ
  obtain ⟨c, rfl⟩ := jm_a1 hl
  have hK : bw_K σ := hp
  refine jm_Ok.go 60 [] ?_
  refine ⟨trivial, ?_⟩
  rintro r σ - ⟨hr, rfl⟩
  refine ⟨fun h0 => hQ _ _ ⟨?_, bw_Kp.rf hK⟩, fun h1 => ⟨by omega, fun v hv _ _ => hQ _ _ ⟨?_, bw_Kp.rf hK⟩⟩⟩
  · rw [if_neg (by omega)]
  · rw [if_pos (by omega), ← bw_K_lgt hK hs c (by omega), bw_F_0]; exact hv
def sp_B_sky : jm_K := (false, 1, false, fun as σ => (match as with
  | [_] => bw_K σ
  | _ => False), fun as σ r σ' => (match as with
  | [c] => r = (if bw_cl c then bw_sky (bw_abs σ) c else -1) ∧ bw_Kp σ σ'
  | _ => False))
def L_B_sky : List (Nat × jm_K) := [(142, sp_B_isCell)]
set_option maxHeartbeats 4000000 in
set_option maxRecDepth 100000 in
theorem con_B_sky : jm_Con classes D_B 17 ks_B 0 y_B_sky b_B_sky 2 (jm_rt (some false)) 1 sp_B_sky := by
  refine jm_con2 (L := L_B_sky) (code := k_B_sky) CF_B rfl (by decide) ck_B_sky ⟨⟨y_B_isCell, b_B_isCell, 1, jm_rt (some true), 0, by decide, con_B_isCell, lk_B_isCell _ _, rfl⟩, trivial⟩ (by decide) ?_
  intro σ as hl hr hs hp Q hQ
  obtain ⟨c, rfl⟩ := jm_a1 hl
  have hK : bw_K σ := hp
  refine jm_Ok.go 60 [] ?_
  refine ⟨trivial, ?_⟩
  rintro r σ - ⟨hr, rfl⟩
  refine ⟨fun h0 => hQ _ _ ⟨?_, bw_Kp.rf hK⟩, fun h1 => ⟨by omega, by omega, fun v hv _ _ => hQ _ _ ⟨?_, bw_Kp.rf hK⟩⟩⟩
  · rw [if_neg (by omega)]
  · rw [if_pos (by omega), ← bw_K_sky hK hs c (by omega), bw_F_1]; exact hv
def sp_B_power : jm_K := (false, 1, false, fun as σ => (match as with
  | [_] => bw_K σ
  | _ => False), fun as σ r σ' => (match as with
  | [c] => r = bw_qpow (bw_abs σ) c ∧ bw_Kp σ σ'
  | _ => False))
def L_B_power : List (Nat × jm_K) := [(142, sp_B_isCell)]
set_option maxHeartbeats 4000000 in
set_option maxRecDepth 100000 in
theorem con_B_power : jm_Con classes D_B 17 ks_B 0 y_B_power b_B_power 2 (jm_rt (some false)) 1 sp_B_power := by
  refine jm_con2 (L := L_B_power) (code := k_B_power) CF_B rfl (by decide) ck_B_power ⟨⟨y_B_isCell, b_B_isCell, 1, jm_rt (some true), 0, by decide, con_B_isCell, lk_B_isCell _ _, rfl⟩, trivial⟩ (by decide) ?_
  intro σ as hl hr hs hp Q hQ
  obtain ⟨c, rfl⟩ := jm_a1 hl
  have hK : bw_K σ := hp
  refine jm_Ok.go 60 [48, 59, 74, 81] ?_
  refine ⟨trivial, ?_⟩
  rintro r σ - ⟨hr, rfl⟩
  refine ⟨fun h1 => ?_, fun h0 => hQ _ _ ⟨?_, bw_Kp.rf hK⟩⟩
  · have hc : bw_cl c := by omega
    have e : bw_qpow (bw_abs σ) c = if σ 0 c = 5 then σ 4 (768 + c) else if σ 0 c = 7 ∨ σ 0 c = 8 then σ 2 c else if σ 0 c = 9 then σ 1 c else if σ 0 c = 6 then 15 else 0 := by
      unfold bw_qpow
      rw [if_pos hc, bw_abs_0 hc, bw_abs_1 hc, bw_K_on hK hs hc, ← bw_K_pow hK hs c hc, bw_F_2]
    have p48 : σ 0 c = 5 → jm_Ok D_B fi_B (jm_look L_B_power) k_B_power (some false) Q 48 [some (.inr none), some (.inl c)] [] σ := by
      intro h
      refine jm_Ok.go 60 [] ?_
      refine ⟨by omega, by omega, fun v hv _ _ => hQ _ _ ⟨?_, bw_Kp.rf hK⟩⟩
      rw [e, if_pos h]; exact hv
    have p59 : (σ 0 c = 7 ∨ σ 0 c = 8) → jm_Ok D_B fi_B (jm_look L_B_power) k_B_power (some false) Q 59 [some (.inr none), some (.inl c)] [] σ := by
      intro h
      refine jm_Ok.go 60 [] ?_
      refine ⟨by omega, fun v hv _ _ => ⟨fun hz => hQ _ _ ⟨?_, bw_Kp.rf hK⟩, fun hz => hQ _ _ ⟨?_, bw_Kp.rf hK⟩⟩⟩
      · rw [e, if_neg (by omega), if_pos h]; omega
      · rw [e, if_neg (by omega), if_pos h]; omega
    have p74 : σ 0 c = 9 → jm_Ok D_B fi_B (jm_look L_B_power) k_B_power (some false) Q 74 [some (.inr none), some (.inl c)] [] σ := by
      intro h
      refine jm_Ok.go 60 [] ?_
      refine ⟨by omega, fun v hv _ _ => hQ _ _ ⟨?_, bw_Kp.rf hK⟩⟩
      rw [e, if_neg (by omega), if_neg (by omega), if_pos h]; exact hv
    have p81 : ¬ σ 0 c = 5 → ¬ (σ 0 c = 7 ∨ σ 0 c = 8) → ¬ σ 0 c = 9 → jm_Ok D_B fi_B (jm_look L_B_power) k_B_power (some false) Q 81 [some (.inr none), some (.inl c)] [] σ := by
      intro h5 h78 h9
      refine jm_Ok.go 60 [] ?_
      refine ⟨by omega, fun v hv _ _ => ⟨fun hz => hQ _ _ ⟨?_, bw_Kp.rf hK⟩, fun hz => hQ _ _ ⟨?_, bw_Kp.rf hK⟩⟩⟩
      · rw [e, if_neg h5, if_neg h78, if_neg h9, if_neg (by omega)]
      · rw [e, if_neg h5, if_neg h78, if_neg h9, if_pos (by omega)]
    refine ⟨by omega, fun b hb _ _ => ⟨⟨fun h => p48 (by omega), fun h => p81 (by omega) (by omega) (by omega), fun h => p59 (by omega), fun h => p59 (by omega), fun h => p74 (by omega), trivial⟩, fun h => p81 (by omega) (by omega) (by omega)⟩⟩
  · unfold bw_qpow
    rw [if_neg (by omega)]
def sp_B_fed : jm_K := (false, 1, false, fun as σ => (match as with
  | [_] => bw_K σ
  | _ => False), fun as σ r σ' => (match as with
  | [c] => ((r = 1 ∧ bw_cl c ∧ bw_fed (bw_abs σ).1 (bw_abs σ).2.2 (bw_pow (bw_abs σ)) c) ∨ (r = 0 ∧ ¬ (bw_cl c ∧ bw_fed (bw_abs σ).1 (bw_abs σ).2.2 (bw_pow (bw_abs σ)) c))) ∧ bw_Kp σ σ'
  | _ => False))
def L_B_fed : List (Nat × jm_K) := [(142, sp_B_isCell), (117, sp_B_isFed)]
set_option maxHeartbeats 4000000 in
set_option maxRecDepth 100000 in
theorem con_B_fed : jm_Con classes D_B 17 ks_B 0 y_B_fed b_B_fed 2 (jm_rt (some true)) 2 sp_B_fed := by
  refine jm_con2 (L := L_B_fed) (code := k_B_fed) CF_B rfl (by decide) ck_B_fed ⟨⟨y_B_isCell, b_B_isCell, 1, jm_rt (some true), 0, by decide, con_B_isCell, lk_B_isCell _ _, rfl⟩, ⟨y_B_isFed, b_B_isFed, 4, jm_rt (some true), 1, by decide, con_B_isFed, lk_B_isFed _ _, rfl⟩, trivial⟩ (by decide) ?_
  intro σ as hl hr hs hp Q hQ
  obtain ⟨c, rfl⟩ := jm_a1 hl
  have hK : bw_K σ := hp
  refine jm_Ok.go 60 [] ?_
  refine ⟨trivial, ?_⟩
  rintro r σ - ⟨hr, rfl⟩
  refine ⟨fun h0 => ⟨by omega, hQ _ _ ⟨Or.inr ⟨rfl, fun q => ?_⟩, bw_Kp.rf hK⟩⟩, fun h1 => ?_⟩
  · rcases hr with z | z
    · omega
    · exact z.2 q.1
  · have hc : bw_cl c := by
      rcases hr with z | z
      · exact z.2
      · omega
    refine ⟨hc, ?_⟩
    rintro f σ - ⟨hf, rfl⟩
    rw [bw_fed_of (bw_K_pow hK hs) hc] at hf
    refine ⟨fun hz => ⟨by omega, hQ _ _ ⟨Or.inr ⟨rfl, fun q => ?_⟩, bw_Kp.rf hK⟩⟩, fun hz => ⟨by omega, hQ _ _ ⟨Or.inl ⟨rfl, hc, ?_⟩, bw_Kp.rf hK⟩⟩⟩
    · rcases hf with z | z
      · omega
      · exact z.2 q.2
    · rcases hf with z | z
      · exact z.2
      · omega
def sp_B_since : jm_K := (false, 1, false, fun as σ => (match as with
  | [_] => bw_K σ
  | _ => False), fun as σ r σ' => (match as with
  | [w] => r = (if 0 ≤ w ∧ w < 5 then σ 14 w else -1) ∧ bw_Kp σ σ'
  | _ => False))
def L_B_since : List (Nat × jm_K) := []
set_option maxHeartbeats 4000000 in
set_option maxRecDepth 100000 in
theorem con_B_since : jm_Con classes D_B 17 ks_B 0 y_B_since b_B_since 2 (jm_rt (some false)) 0 sp_B_since := by
  refine jm_con2 (L := L_B_since) (code := k_B_since) CF_B rfl (by decide) ck_B_since trivial (by decide) ?_
  intro σ as hl hr hs hp Q hQ
  obtain ⟨w, rfl⟩ := jm_a1 hl
  have hK : bw_K σ := hp
  refine jm_Ok.go 60 [] ?_
  refine ⟨fun h => hQ _ _ ⟨?_, bw_Kp.rf hK⟩, fun h => ⟨fun h4 => ⟨by omega, fun v hv _ _ => hQ _ _ ⟨?_, bw_Kp.rf hK⟩⟩, fun h4 => hQ _ _ ⟨?_, bw_Kp.rf hK⟩⟩⟩
  · rw [if_neg (by omega)]
  · rw [if_pos (by omega)]; exact hv
  · rw [if_neg (by omega)]
end
section
/-! count, dark, belongs, lit of the component -/
theorem bw_roof_cnt (R : Int → Int) (hR : ∀ m, 0 ≤ m → m < 64 → 0 ≤ R m) : ∀ k : Nat, bw_cnt (fun x => decide (R (x % 64) ≤ x / 64)) (64 * k) = bw_sum (fun m => if R m ≤ k then k - R m else 0) 64
  | 0 => by
    rw [bw_sum_congr 64 (g := fun _ => 0) (fun i a b => by
      have := hR i a b
      split <;> omega)]
    have e : bw_sum (fun _ => 0) 64 = 0 := by decide
    rw [e]
    rfl
  | k + 1 => by
    rw [Nat.mul_add, Nat.mul_one, bw_cnt_add, bw_roof_cnt R hR k]
    have key : ∀ n : Nat, n ≤ 64 → bw_sum (fun m => if R m ≤ (k : Int) then (k : Int) - R m else 0) n + bw_cnt (fun i => decide (R ((((64 * k : Nat) : Int) + i) % 64) ≤ (((64 * k : Nat) : Int) + i) / 64)) n = bw_sum (fun m => if R m ≤ ((k + 1 : Nat) : Int) then ((k + 1 : Nat) : Int) - R m else 0) n := by
      intro n
      induction n with
      | zero => intro _; rfl
      | succ n ih =>
        intro hn
        have ih := ih (by omega)
        have h1 := hR n (by omega) (by omega)
        show (bw_sum _ n + _) + (bw_cnt _ n + _) = bw_sum _ n + _
        rw [← ih]
        dsimp only
        have e1 : ((((64 * k : Nat) : Int) + (n : Int)) % 64) = n := by omega
        have e2 : ((((64 * k : Nat) : Int) + (n : Int)) / 64) = k := by omega
        have e3 : ((k + 1 : Nat) : Int) = (k : Int) + 1 := by omega
        simp only [decide_eq_true_eq, e1, e2, e3]
        by_cases q : R (n : Int) ≤ (k : Int)
        · rw [if_pos q, if_pos q, if_pos (by omega)]; omega
        · rw [if_neg q, if_neg q]
          by_cases q2 : R (n : Int) ≤ (k : Int) + 1
          · rw [if_pos q2]; omega
          · rw [if_neg q2]; omega
    exact key 64 (by omega)
def sp_B_count : jm_K := (false, 1, false, fun as σ => (match as with
  | [_] => bw_K σ
  | _ => False), fun as σ r σ' => (match as with
  | [w] => r = bw_qcnt (bw_abs σ) w ∧ bw_Kp σ σ'
  | _ => False))
def L_B_count : List (Nat × jm_K) := []
set_option maxHeartbeats 4000000 in
set_option maxRecDepth 100000 in
theorem con_B_count : jm_Con classes D_B 17 ks_B 0 y_B_count b_B_count 4 (jm_rt (some false)) 0 sp_B_count := by
  refine jm_con2 (L := L_B_count) (code := k_B_count) CF_B rfl (by decide) ck_B_count trivial (by decide) ?_
  intro σ as hl hr hs hp Q hQ
  obtain ⟨w, rfl⟩ := jm_a1 hl
  have hK : bw_K σ := hp
  have lamps : (w = 10 ∨ w = 11) → ∀ (n m : Nat) (k c : Int), c = m → m + n = 384 → k = bw_cnt (fun x => decide ((bw_abs σ).1 x = (if w = 10 then 8 else 7) ∧ bw_on (bw_abs σ) x = 1)) m → jm_Ok D_B fi_B (jm_look L_B_count) k_B_count (some false) Q 62 [some (.inr none), some (.inl w), some (.inl k), some (.inl c)] [] σ := by
    intro hw n
    induction n with
    | zero =>
      intro m k c hc hm hk
      have hm : m = 384 := by omega
      subst hm
      refine jm_Ok.go 60 [] ?_
      refine ⟨fun _ => hQ _ _ ⟨?_, bw_Kp.rf hK⟩, fun _ => by omega⟩
      rw [hk]
      unfold bw_qcnt
      rw [if_neg (show ¬ (0 ≤ w ∧ w < 10) by omega)]
      by_cases h10 : w = 10
      · simp [h10]
      · have h11 : w = 11 := by omega
        simp [h11]
    | succ n ih =>
      intro m k c hc hm hk
      have hcl : bw_cl c := by omega
      have hkr := bw_cnt_rg (fun x => decide ((bw_abs σ).1 x = (if w = 10 then 8 else 7) ∧ bw_on (bw_abs σ) x = 1)) m
      have eb : (bw_abs σ).1 (m : Int) = σ 0 c := by rw [← hc]; exact bw_abs_0 hcl
      have eo : bw_on (bw_abs σ) (m : Int) = σ 2 c := by rw [← hc]; exact bw_K_on hK hs hcl
      have no : ¬ (σ 0 c = (if w = 10 then 8 else 7) ∧ σ 2 c = 1) → jm_Ok D_B fi_B (jm_look L_B_count) k_B_count (some false) Q 103 [some (.inr none), some (.inl w), some (.inl k), some (.inl c)] [] σ := by
        intro q
        refine jm_Ok.go 60 [62] ?_
        refine ⟨by omega, ih (m + 1) k (c + 1) (by omega) (by omega) ?_⟩
        unfold bw_cnt
        rw [← hk, eb, eo, if_neg (by simpa using q)]
        omega
      have yes : (σ 0 c = (if w = 10 then 8 else 7) ∧ σ 2 c = 1) → jm_Ok D_B fi_B (jm_look L_B_count) k_B_count (some false) Q 100 [some (.inr none), some (.inl w), some (.inl k), some (.inl c)] [] σ := by
        intro q
        refine jm_Ok.go 60 [62] ?_
        refine ⟨by omega, by omega, ih (m + 1) (k + 1) (c + 1) (by omega) (by omega) ?_⟩
        unfold bw_cnt
        rw [← hk, eb, eo, if_pos (by simpa using q)]
      refine jm_Ok.go 60 [103, 100] ?_
      refine ⟨fun _ => by omega, fun _ => ⟨by omega, fun o ho _ _ => ⟨fun h0 => no (fun q => by omega), fun h1 => ⟨by omega, fun b hb _ _ => ?_⟩⟩⟩⟩
      by_cases h10 : w = 10
      · refine ⟨fun q => absurd h10 q, fun _ => ⟨fun hne => no (fun q => ?_), fun heq => yes ⟨?_, by omega⟩⟩⟩
        · rw [if_pos h10] at q; omega
        · rw [if_pos h10]; omega
      · refine ⟨fun _ => ⟨fun hne => no (fun q => ?_), fun heq => yes ⟨?_, by omega⟩⟩, fun q => absurd q h10⟩
        · rw [if_neg h10] at q; omega
        · rw [if_neg h10]; omega
  have pows : w = 12 → ∀ (n m : Nat) (k c : Int), c = m → m + n = 384 → k = bw_cnt (fun x => decide (0 < bw_pow (bw_abs σ) x)) m → jm_Ok D_B fi_B (jm_look L_B_count) k_B_count (some false) Q 113 [some (.inr none), some (.inl w), some (.inl k), some (.inl c)] [] σ := by
    intro hw n
    induction n with
    | zero =>
      intro m k c hc hm hk
      have hm : m = 384 := by omega
      subst hm
      refine jm_Ok.go 60 [] ?_
      refine ⟨fun _ => hQ _ _ ⟨?_, bw_Kp.rf hK⟩, fun _ => by omega⟩
      rw [hk]; unfold bw_qcnt
      simp [hw]
    | succ n ih =>
      intro m k c hc hm hk
      have hcl : bw_cl c := by omega
      have hkr := bw_cnt_rg (fun x => decide (0 < bw_pow (bw_abs σ) x)) m
      have eP : bw_pow (bw_abs σ) (m : Int) = σ 4 (768 + c) := by rw [← hc, ← bw_K_pow hK hs c hcl, bw_F_2]
      refine jm_Ok.go 60 [113] ?_
      refine ⟨fun _ => by omega, fun _ => ⟨by omega, by omega, fun v hv _ _ => ⟨fun hle => ⟨by omega, ih (m + 1) k (c + 1) (by omega) (by omega) ?_⟩, fun hgt => ⟨by omega, by omega, ih (m + 1) (k + 1) (c + 1) (by omega) (by omega) ?_⟩⟩⟩⟩
      · unfold bw_cnt
        rw [← hk, eP, if_neg (by simp; omega)]
        omega
      · unfold bw_cnt
        rw [← hk, eP, if_pos (by simp; omega)]
  have sums : ∀ f : Int, (f = 0 ∨ f = 1) → w = 13 + f → ∀ (n m : Nat) (k c : Int), c = 384 * f + m → m + n = 384 → k = bw_sum (bw_F σ f) m → jm_Ok D_B fi_B (jm_look L_B_count) k_B_count (some false) Q 153 [some (.inr none), some (.inl w), some (.inl k), some (.inl c)] [] σ := by
    intro f hf hw n
    induction n with
    | zero =>
      intro m k c hc hm hk
      have hm : m = 384 := by omega
      subst hm
      refine jm_Ok.go 60 [] ?_
      refine ⟨by omega, by omega, ⟨fun _ => hQ _ _ ⟨?_, bw_Kp.rf hK⟩, fun _ => by omega⟩⟩
      rw [hk]; unfold bw_qcnt
      rcases hf with h0 | h1
      · rw [h0] at hw ⊢
        rw [bw_sum_congr 384 (g := bw_lgt (bw_abs σ)) (fun i a b => bw_K_lgt hK hs i ⟨a, b⟩)]
        simp [hw]
      · rw [h1] at hw ⊢
        rw [bw_sum_congr 384 (g := bw_sky (bw_abs σ)) (fun i a b => bw_K_sky hK hs i ⟨a, b⟩)]
        simp [hw]
    | succ n ih =>
      intro m k c hc hm hk
      have hkr := bw_sum_rg (f := bw_F σ f) (M := 15) (by omega) m (fun i a b => hs 4 (384 * f + i) (by omega) (Or.inl (by show _ < (1152 : Int); omega)))
      refine jm_Ok.go 60 [153] ?_
      refine ⟨by omega, by omega, ⟨fun _ => by omega, fun _ => ⟨by omega, fun v hv _ _ => ⟨by omega, by omega, ih (m + 1) (k + v) (c + 1) (by omega) (by omega) ?_⟩⟩⟩⟩
      show k + v = bw_sum (bw_F σ f) m + σ 4 (384 * f + (m : Int))
      rw [← hc]
      omega
  have roofs : w = 15 → ∀ (n m : Nat) (k c : Int), c = m → m + n = 64 → k = bw_sum (fun x => 6 - σ 11 x) m → jm_Ok D_B fi_B (jm_look L_B_count) k_B_count (some false) Q 184 [some (.inr none), some (.inl w), some (.inl k), some (.inl c)] [] σ := by
    intro hw n
    have hR : ∀ m, 0 ≤ m → m < 64 → 0 ≤ σ 11 m ∧ σ 11 m ≤ 6 := fun m a b => hs 11 m a (Or.inl b)
    induction n with
    | zero =>
      intro m k c hc hm hk
      have hm : m = 64 := by omega
      subst hm
      refine jm_Ok.go 60 [] ?_
      refine ⟨fun _ => hQ _ _ ⟨?_, bw_Kp.rf hK⟩, fun _ => by omega⟩
      rw [hk]; unfold bw_qcnt
      have h1 := bw_roof_cnt (σ 11) (fun m a b => (hR m a b).1) 6
      have h2 : bw_cnt (bw_ob (bw_abs σ)) 384 = bw_cnt (fun x => decide (σ 11 (x % 64) ≤ x / 64)) (64 * 6) := by
        refine bw_cnt_congr 384 fun i a b => ?_
        rw [Bool.eq_iff_iff, bw_ob_iff, decide_eq_true_eq, bw_K_open hK hs ⟨a, b⟩]
        exact (bw_open_cg ⟨a, b⟩ (fun x hx => bw_abs_0 hx)).symm
      simp [hw]
      rw [h2, h1]
      refine bw_sum_congr 64 fun i a b => ?_
      have := hR i a b
      rw [if_pos (by omega)]
      rfl
    | succ n ih =>
      intro m k c hc hm hk
      have hkr := bw_sum_rg (f := fun x => 6 - σ 11 x) (M := 6) (by omega) m (fun i a b => by have := hR i a (by omega); omega)
      refine jm_Ok.go 60 [184] ?_
      refine ⟨fun _ => by omega, fun _ => ⟨by omega, fun v hv _ _ => ⟨by omega, by omega, by omega, ih (m + 1) (k + (6 - v)) (c + 1) (by omega) (by omega) ?_⟩⟩⟩
      show k + (6 - v) = bw_sum (fun x => 6 - σ 11 x) m + (6 - σ 11 (m : Int))
      rw [← hc]
      omega
  have sw : ¬ (0 ≤ w ∧ w < 10) → ∀ l2 l3 : Option jm_V, jm_Ok D_B fi_B (jm_look L_B_count) k_B_count (some false) Q 17 [some (.inr none), some (.inl w), l2, l3] [] σ := by
    intro hn l2 l3
    have dflt : ¬ (10 ≤ w ∧ w ≤ 15) → bw_qcnt (bw_abs σ) w = -1 := by
      intro q
      unfold bw_qcnt
      rw [if_neg hn, if_neg (by omega), if_neg (by omega), if_neg (by omega), if_neg (by omega), if_neg (by omega), if_neg (by omega)]
    refine jm_Ok.go 60 [62, 113, 153, 184] ?_
    refine ⟨⟨fun h => lamps (by omega) 384 0 0 0 rfl rfl rfl, fun h => lamps (by omega) 384 0 0 0 rfl rfl rfl, fun h => pows (by omega) 384 0 0 0 rfl rfl rfl, fun h => ⟨by omega, by omega, sums 0 (Or.inl rfl) (by omega) 384 0 0 _ ?_ rfl rfl⟩, fun h => ⟨by omega, by omega, sums 1 (Or.inr rfl) (by omega) 384 0 0 _ ?_ rfl rfl⟩, fun h => roofs (by omega) 64 0 0 0 rfl rfl rfl, trivial⟩, fun h => hQ _ _ ⟨(dflt (by omega)).symm, bw_Kp.rf hK⟩⟩
    · omega
    · omega
  refine jm_Ok.go 60 [17] ?_
  refine ⟨fun h => sw (by omega) _ _, fun h => ⟨fun h10 => sw (by omega) _ _, fun h10 => ⟨by omega, fun v hv _ _ => hQ _ _ ⟨?_, bw_Kp.rf hK⟩⟩⟩⟩
  unfold bw_qcnt
  rw [if_pos (by omega), hv, hK.1.1.2.2.2.2.2.1 w (by omega)]
  exact bw_cnt_congr 384 fun i a b => by rw [bw_abs_0 ⟨a, b⟩]
def sp_B_dark : jm_K := (false, 2, false, fun as σ => (match as with
  | [_, _] => bw_K σ
  | _ => False), fun as σ r σ' => (match as with
  | [k, most] => bw_dkR (bw_dp (bw_abs σ) most (bw_lgt (bw_abs σ)) (bw_sky (bw_abs σ))) k r ∧ bw_Kp σ σ'
  | _ => False))
def L_B_dark : List (Nat × jm_K) := [(74, sp_B_opaque)]
set_option maxHeartbeats 4000000 in
set_option maxRecDepth 100000 in
theorem con_B_dark : jm_Con classes D_B 17 ks_B 0 y_B_dark b_B_dark 5 (jm_rt (some false)) 1 sp_B_dark := by
  refine jm_con2 (L := L_B_dark) (code := k_B_dark) CF_B rfl (by decide) ck_B_dark ⟨⟨y_B_opaque, b_B_opaque, 1, jm_rt (some true), 0, by decide, con_B_opaque, lk_B_opaque _ _, rfl⟩, trivial⟩ (by decide) ?_
  intro σ as hl hr hs hp Q hQ
  obtain ⟨k, most, rfl⟩ := jm_a2 hl
  have hK : bw_K σ := hp
  obtain ⟨p, hpd⟩ : ∃ p, p = bw_dp (bw_abs σ) most (bw_lgt (bw_abs σ)) (bw_sky (bw_abs σ)) := ⟨_, rfl⟩
  have hpc : ∀ c, bw_cl c → 64 ≤ c → (p c = true ↔ (σ 0 c = 0 ∧ bw_op (σ 0 (c - 64)) ∧ σ 4 c ≤ most ∧ σ 4 (384 + c) ≤ most)) := by
    intro c hc h64
    rw [hpd]
    unfold bw_dp
    rw [decide_eq_true_eq, bw_abs_0 hc, bw_abs_0 (show bw_cl (c - 64) by omega), ← bw_K_lgt hK hs c hc, ← bw_K_sky hK hs c hc, bw_F_0, bw_F_1]
    exact ⟨fun q => q.2, fun q => ⟨h64, q⟩⟩
  have loop : ∀ (n m : Nat) (j c : Int), c = m → 64 ≤ m → m + n = 384 → j = bw_cnt p m → (0 ≤ k → bw_cnt p m ≤ k) → (∀ i : Nat, i < m → p (i : Int) = true → bw_cnt p i ≠ k) → jm_Ok D_B fi_B (jm_look L_B_dark) k_B_dark (some false) Q 6 [some (.inr none), some (.inl k), some (.inl most), some (.inl j), some (.inl c)] [] σ := by
    intro n
    induction n with
    | zero =>
      intro m j c hc h64 hm hj hle hno
      have hm : m = 384 := by omega
      subst hm
      refine jm_Ok.go 60 [] ?_
      refine ⟨fun _ => hQ _ _ ⟨Or.inr ⟨rfl, ?_⟩, bw_Kp.rf hK⟩, fun _ => by omega⟩
      rw [← hpd]; exact hno
    | succ n ih =>
      intro m j c hc h64 hm hj hle hno
      have hcl : bw_cl c := by omega
      have hjr := bw_cnt_rg p m
      have hp2 := hpc c hcl (by omega)
      refine jm_Ok.go 60 [84] ?_
      refine ⟨fun _ => by omega, fun _ => ⟨fun hk => hQ _ _ ⟨Or.inr ⟨rfl, fun i _ _ => ?_⟩, bw_Kp.rf hK⟩, fun hk => ?_⟩⟩
      · have := (bw_cnt_rg (bw_dp (bw_abs σ) most (bw_lgt (bw_abs σ)) (bw_sky (bw_abs σ))) i).1
        omega
      have skip : ¬ (σ 0 c = 0 ∧ bw_op (σ 0 (c - 64)) ∧ σ 4 c ≤ most ∧ σ 4 (384 + c) ≤ most) → jm_Ok D_B fi_B (jm_look L_B_dark) k_B_dark (some false) Q 84 [some (.inr none), some (.inl k), some (.inl most), some (.inl j), some (.inl c)] [] σ := by
        intro q
        have hpf : p (m : Int) = false := by
          rw [← hc]
          cases hb : p c
          · rfl
          · exact absurd (hp2.mp hb) q
        refine jm_Ok.go 60 [6] ?_
        refine ⟨by omega, ih (m + 1) j (c + 1) (by omega) (by omega) (by omega) ?_ ?_ ?_⟩
        · rw [hj]; simp [bw_cnt, hpf]
        · intro z; have := hle z; simp [bw_cnt, hpf]; exact this
        · intro i hi hpi
          by_cases him : i = m
          · subst him; rw [hpf] at hpi; cases hpi
          · exact hno i (by omega) hpi
      refine ⟨by omega, fun b hb _ _ => ⟨fun h0 => skip (by omega), fun h0 => ⟨by omega, by omega, fun b2 hb2 _ _ => ⟨trivial, ?_⟩⟩⟩⟩
      rintro r σ - ⟨hr, rfl⟩
      refine ⟨fun h => skip (fun q => by omega), fun h => ⟨by omega, fun l hl _ _ => ⟨fun h2 => skip (by omega), fun h2 => ⟨by omega, by omega, fun s hs1 _ _ => ⟨fun h3 => ?_, fun h3 => skip (by omega)⟩⟩⟩⟩⟩
      have hpt : p (m : Int) = true := by
        rw [← hc]
        exact hp2.mpr ⟨by omega, by omega, by omega, by omega⟩
      refine ⟨fun hne => ⟨by omega, ?_⟩, fun heq => hQ _ _ ⟨Or.inl ⟨m, by omega, by omega, by rw [← hpd]; exact hpt, by rw [← hpd]; omega⟩, bw_Kp.rf hK⟩⟩
      refine jm_Ok.go 60 [6] ?_
      refine ⟨by omega, ih (m + 1) (j + 1) (c + 1) (by omega) (by omega) (by omega) ?_ ?_ ?_⟩
      · rw [hj]; simp [bw_cnt, hpt]
      · intro z; have := hle z; simp [bw_cnt, hpt]; omega
      · intro i hi hpi
        by_cases him : i = m
        · subst him; omega
        · exact hno i (by omega) hpi
  have h64 : bw_cnt p 64 = 0 := by
    refine bw_cnt_none 64 fun i a b => ?_
    rw [hpd]
    unfold bw_dp
    exact decide_eq_false (fun q => by omega)
  refine jm_Ok.go 60 [6] ?_
  refine loop 320 64 0 64 rfl (by omega) (by omega) h64.symm (fun q => by rw [h64]; exact q) ?_
  intro i hi hpi
  rw [hpd] at hpi
  unfold bw_dp at hpi
  have := (of_decide_eq_true hpi).1
  omega
def sp_B_belongs : jm_K := (false, 2, false, fun as _ => (match as with
  | [c, _] => bw_cl c
  | _ => False), fun as σ r σ' => (match as with
  | [c, least] => ((r = 1 ∧ (¬ bw_op (σ 0 c) ∧ least ≤ σ 4 c)) ∨ (r = 0 ∧ ¬ (¬ bw_op (σ 0 c) ∧ least ≤ σ 4 c))) ∧ σ' = σ
  | _ => False))
def L_B_belongs : List (Nat × jm_K) := [(74, sp_B_opaque)]
set_option maxHeartbeats 4000000 in
set_option maxRecDepth 100000 in
theorem con_B_belongs : jm_Con classes D_B 17 ks_B 0 y_B_belongs b_B_belongs 3 (jm_rt (some true)) 1 sp_B_belongs := by
  refine jm_con2 (L := L_B_belongs) (code := k_B_belongs) CF_B rfl (by decide) ck_B_belongs ⟨⟨y_B_opaque, b_B_opaque, 1, jm_rt (some true), 0, by decide, con_B_opaque, lk_B_opaque _ _, rfl⟩, trivial⟩ (by decide) ?_
  intro σ as hl hr hs hp Q hQ
  obtain ⟨c, least, rfl⟩ := jm_a2 hl
  have hc : bw_cl c := hp
  refine jm_Ok.go 60 [] ?_
  refine ⟨by omega, fun b hb _ _ => ⟨trivial, ?_⟩⟩
  rintro r σ - ⟨hr, rfl⟩
  refine ⟨fun h1 => ⟨by omega, hQ _ _ ⟨by omega, rfl⟩⟩, fun h0 => ⟨by omega, fun l hl _ _ => ⟨fun h2 => ⟨by omega, hQ _ _ ⟨by omega, rfl⟩⟩, fun h2 => ⟨by omega, hQ _ _ ⟨by omega, rfl⟩⟩⟩⟩⟩
end
section
/-! lit of the component -/
def sp_B_lit : jm_K := (false, 2, false, fun as σ => (match as with
  | [_, _] => bw_K σ
  | _ => False), fun as σ r σ' => (match as with
  | [c, least] => bw_ltR (bw_lq (bw_abs σ) (bw_lgt (bw_abs σ)) least) c r ∧ bw_Kp σ σ'
  | _ => False))
/-- the search: what is met, what waits (top of them), n done -/
def bw_LI (σ τ : jm_S) (q : Int → Prop) (cell n top : Int) : Prop :=
  (∀ k, k ≠ 13 → k ≠ 15 → τ k = σ k) ∧ (0 ≤ n ∧ 0 ≤ top) ∧ n + top = bw_cnt (fun x => decide (τ 15 x = 1)) 384 ∧ (∀ i, 0 ≤ i → i < top → bw_cl (τ 13 i) ∧ τ 15 (τ 13 i) = 1) ∧ τ 15 cell = 1 ∧
  (∀ N : Int → Prop, N cell → (∀ x, bw_cl x → N x → ∀ m, bw_adj x m → q m → N m) → ∀ x, bw_cl x → τ 15 x = 1 → N x)
def bw_LC (τ : jm_S) (q : Int → Prop) (top x : Int) : Prop := (∀ i, 0 ≤ i → i < top → τ 13 i ≠ x) → ∀ m, bw_adj x m → q m → τ 15 m = 1
def L_B_lit : List (Nat × jm_K) := [(142, sp_B_isCell), (155, sp_B_belongs), (58, sp_B_near)]
set_option maxHeartbeats 4000000 in
set_option maxRecDepth 100000 in
theorem con_B_lit : jm_Con classes D_B 17 ks_B 0 y_B_lit b_B_lit 8 (jm_rt (some false)) 2 sp_B_lit := by
  refine jm_con2 (L := L_B_lit) (code := k_B_lit) CF_B rfl (by decide) ck_B_lit ⟨⟨y_B_isCell, b_B_isCell, 1, jm_rt (some true), 0, by decide, con_B_isCell, lk_B_isCell _ _, rfl⟩, ⟨y_B_belongs, b_B_belongs, 3, jm_rt (some true), 1, by decide, con_B_belongs, lk_B_belongs _ _, rfl⟩, ⟨y_B_near, b_B_near, 2, jm_rt (some false), 0, by decide, con_B_near, lk_B_near _ _, rfl⟩, trivial⟩ (by decide) ?_
  intro σ as hl hr hs hp Q hQ
  obtain ⟨cell, least, rfl⟩ := jm_a2 hl
  have hK : bw_K σ := hp
  obtain ⟨q, hqd⟩ : ∃ q, q = bw_lq (bw_abs σ) (bw_lgt (bw_abs σ)) least := ⟨_, rfl⟩
  have hq : ∀ x, bw_cl x → (q x ↔ (¬ bw_op (σ 0 x) ∧ least ≤ σ 4 x)) := by
    intro x hx
    rw [hqd]; unfold bw_lq
    rw [bw_abs_0 hx, ← bw_K_lgt hK hs x hx, bw_F_0]
  have none0 : ¬ (bw_cl cell ∧ q cell) → ∀ l3 l4 l5 l6 l7 : Option jm_V, jm_Ok D_B fi_B (jm_look L_B_lit) k_B_lit (some false) Q 16 [some (.inr none), some (.inl cell), some (.inl least), l3, l4, l5, l6, l7] [] σ := by
    intro hn l3 l4 l5 l6 l7
    refine jm_Ok.go 60 [] ?_
    exact hQ _ _ ⟨Or.inl ⟨by rw [← hqd]; exact hn, rfl⟩, bw_Kp.rf hK⟩
  have main : bw_cl cell → q cell → ∀ (m : Nat) (n top : Int) (l5 l6 l7 : Option jm_V) (τ : jm_S), n + m = 385 → jm_okS D_B τ → bw_LI σ τ q cell n top → (∀ x, bw_cl x → τ 15 x = 1 → bw_LC τ q top x) → jm_Ok D_B fi_B (jm_look L_B_lit) k_B_lit (some false) Q 64 [some (.inr none), some (.inl cell), some (.inl least), some (.inl n), some (.inl top), l5, l6, l7] [] τ := by
    intro hcell hqc m
    induction m with
    | zero =>
      intro n top l5 l6 l7 τ hm hsτ hL hC
      have h1 := hL.2.2.1
      have h2 := (bw_cnt_rg (fun x => decide (τ 15 x = 1)) 384).2
      have h3 := hL.2.1
      omega
    | succ m ih =>
      intro n top l5 l6 l7 τ hm hsτ hL hC
      have hcr := bw_cnt_rg (fun x => decide (τ 15 x = 1)) 384
      obtain ⟨L1, L2, L3, L4, L5, L6⟩ := hL
      refine jm_Ok.go 60 [87] ?_
      refine ⟨fun hz => ?_, fun hp => ?_⟩
      · have htop : top = 0 := by omega
        subst htop
        refine hQ _ _ ⟨Or.inr ⟨⟨hcell, by rw [← hqd]; exact hqc⟩, fun x => decide (τ 15 x = 1), by simp [L5], ?_, ?_, by omega⟩, ?_⟩
        · intro x hx hM nn hnn hqn
          rw [← hqd] at hqn
          exact decide_eq_true (hC x hx (of_decide_eq_true hM) (fun i a b => by omega) nn hnn hqn)
        · intro N hN hcl x hx hM
          rw [← hqd] at hcl
          exact L6 N hN hcl x hx (of_decide_eq_true hM)
        · have e : ∀ k, k ≠ 13 → k ≠ 15 → τ k = σ k := L1
          refine ⟨?_, ?_, e 14 (by decide) (by decide)⟩
          · have e0 := e 0 (by decide) (by decide)
            have e1 := e 1 (by decide) (by decide)
            have e2 := e 2 (by decide) (by decide)
            have e3 := e 3 (by decide) (by decide)
            have e4 := e 4 (by decide) (by decide)
            have e8 := e 8 (by decide) (by decide)
            have e9 := e 9 (by decide) (by decide)
            have e10 := e 10 (by decide) (by decide)
            have e11 := e 11 (by decide) (by decide)
            have e12 := e 12 (by decide) (by decide)
            unfold bw_K bw_I bw_J bw_flds bw_onOK bw_look bw_lamp bw_any bw_cntOK bw_roofOK bw_stgOK bw_AA bw_G bw_F
            rw [e0, e1, e2, e3, e4, e8, e9, e10, e11, e12]
            exact hK
          · exact bw_abs_ext (fun x _ => by rw [e 0 (by decide) (by decide)]) (fun x _ => by rw [e 1 (by decide) (by decide)]) (fun x _ _ => by rw [e 2 (by decide) (by decide)])
      · refine ⟨by omega, by omega, fun c hc _ _ => ⟨by omega, ?_⟩⟩
        have hc : c = τ 13 (top + -1) := hc
        obtain ⟨c1, c2⟩ := L4 (top + -1) (by omega) (by omega)
        rw [← hc] at c1 c2
        have inner : ∀ (j : Nat) (d top' : Int) (l7 : Option jm_V) (ρ : jm_S), 0 ≤ d → d + j = 6 → jm_okS D_B ρ → bw_LI σ ρ q cell (n + 1) top' → ρ 15 c = 1 → (∀ x, bw_cl x → ρ 15 x = 1 → x ≠ c → bw_LC ρ q top' x) → (∀ e, (0 ≤ e ∧ e < d) → 0 ≤ bw_nb c e → q (bw_nb c e) → ρ 15 (bw_nb c e) = 1) → jm_Ok D_B fi_B (jm_look L_B_lit) k_B_lit (some false) Q 87 [some (.inr none), some (.inl cell), some (.inl least), some (.inl (n + 1)), some (.inl top'), some (.inl c), some (.inl d), l7] [] ρ := by
          intro j
          induction j with
          | zero =>
            intro d top' l7 ρ hd0 hd hsρ hL hc1 hC hP
            refine jm_Ok.go 60 [64] ?_
            refine ⟨fun _ => ih (n + 1) top' _ _ _ ρ (by omega) hsρ hL fun x hx hx1 => ?_, fun _ => by omega⟩
            by_cases hxc : x = c
            · subst hxc
              intro _ mm hmm hqm
              obtain ⟨e, he, rfl, h0⟩ := hmm
              exact hP e (by omega) h0 hqm
            · exact hC x hx hx1 hxc
          | succ j ihj =>
            intro d top' l7 ρ hd0 hd hsρ hL hc1 hC hP
            have hk := bw_nb_rg c1 (show 0 ≤ d ∧ d < 6 by omega)
            have next : ∀ (top2 : Int) (ρ' : jm_S), jm_okS D_B ρ' → bw_LI σ ρ' q cell (n + 1) top2 → ρ' 15 c = 1 → (∀ x, bw_cl x → ρ' 15 x = 1 → x ≠ c → bw_LC ρ' q top2 x) → (∀ e, (0 ≤ e ∧ e < d + 1) → 0 ≤ bw_nb c e → q (bw_nb c e) → ρ' 15 (bw_nb c e) = 1) → jm_Ok D_B fi_B (jm_look L_B_lit) k_B_lit (some false) Q 152 [some (.inr none), some (.inl cell), some (.inl least), some (.inl (n + 1)), some (.inl top2), some (.inl c), some (.inl d), some (.inl (bw_nb c d))] [] ρ' := by
              intro top2 ρ' a1 a2 a3 a4 a5
              refine jm_Ok.go 60 [87] ?_
              exact ⟨by omega, ihj (d + 1) top2 _ ρ' (by omega) (by omega) a1 a2 a3 a4 a5⟩
            refine jm_Ok.go 60 [152] ?_
            refine ⟨fun _ => by omega, fun _ => ⟨⟨c1, by omega⟩, ?_⟩⟩
            rintro k ρ - ⟨rfl, rfl⟩
            have skip : (0 ≤ bw_nb c d → q (bw_nb c d) → ρ 15 (bw_nb c d) = 1) → jm_Ok D_B fi_B (jm_look L_B_lit) k_B_lit (some false) Q 152 [some (.inr none), some (.inl cell), some (.inl least), some (.inl (n + 1)), some (.inl top'), some (.inl c), some (.inl d), some (.inl (bw_nb c d))] [] ρ := by
              intro hz
              refine next top' ρ hsρ hL hc1 hC fun e he h0 hqe => ?_
              by_cases hed : e = d
              · subst hed; exact hz h0 hqe
              · exact hP e (by omega) h0 hqe
            refine ⟨fun hneg => skip (fun z => by omega), fun hk0 => ⟨by omega, fun mt hmt _ _ => ⟨fun h1 => skip (fun _ _ => by omega), fun h0 => ?_⟩⟩⟩
            have hkc : bw_cl (bw_nb c d) := ⟨hk0, by omega⟩
            refine ⟨hkc, ?_⟩
            rintro r ρ - ⟨hr, rfl⟩
            rw [hL.1 0 (by decide) (by decide), hL.1 4 (by decide) (by decide), ← hq _ hkc] at hr
            refine ⟨fun hr1 => ?_, fun hr0 => skip (fun _ hqe => ?_)⟩
            · have hqk : q (bw_nb c d) := by
                rcases hr with z | z
                · exact z.2
                · omega
              obtain ⟨M1, M2, M3, M4, M5, M6⟩ := hL
              have hlt := bw_cnt_lt (p := fun x => decide (ρ 15 x = 1)) (n := 384) hkc.1 hkc.2 (by simp; omega)
              refine ⟨by omega, by omega, by omega, by omega, by omega, by omega, ?_⟩
              have hne : bw_nb c d ≠ c := bw_nb_ne c1
              refine next (top' + 1) _ ((hsρ.up (by decide)).up ?_) ⟨?_, by omega, ?_, ?_, ?_, ?_⟩ ?_ ?_ ?_
              · show (0 : Int) ≤ bw_nb c d ∧ bw_nb c d ≤ 383
                omega
              · intro k a b; rw [← M1 k a b]; simp [jm_up, a, b]
              · have e1 := bw_cnt_set (p := fun x => decide (ρ 15 x = 1)) (q := fun x => decide (jm_up (jm_up ρ 15 (bw_nb c d) 1) 13 top' (bw_nb c d) 15 x = 1)) (c := bw_nb c d) 384 (fun i _ _ hi => by simp [jm_up, hi]) hkc.1 hkc.2
                rw [if_pos (by simp [jm_up]), if_neg (by simp; omega)] at e1
                omega
              · intro i a b
                by_cases hi : i = top'
                · subst hi
                  have e1 : jm_up (jm_up ρ 15 (bw_nb c d) 1) 13 i (bw_nb c d) 13 i = bw_nb c d := by simp [jm_up]
                  rw [e1]
                  exact ⟨hkc, by simp [jm_up]⟩
                · have e1 : jm_up (jm_up ρ 15 (bw_nb c d) 1) 13 top' (bw_nb c d) 13 i = ρ 13 i := by simp [jm_up, hi]
                  rw [e1]
                  obtain ⟨z1, z2⟩ := M4 i a (by omega)
                  exact ⟨z1, by simp [jm_up, z2]⟩
              · simp [jm_up, M5]
              · intro N hN hcl x hx hx1
                by_cases hxk : x = bw_nb c d
                · rw [hxk]
                  exact hcl c c1 (M6 N hN hcl c c1 hc1) _ (bw_adj_of (by omega) hk0) hqk
                · refine M6 N hN hcl x hx ?_
                  simpa [jm_up, hxk] using hx1
              · simp [jm_up, hc1]
              · intro x hx hx1 hxc hst mm hmm hqm
                have e2 : ∀ y, ρ 15 y = 1 → jm_up (jm_up ρ 15 (bw_nb c d) 1) 13 top' (bw_nb c d) 15 y = 1 := fun y hy => by simp [jm_up, hy]
                have hxk : x ≠ bw_nb c d := by
                  intro z
                  refine hst top' (by omega) (by omega) ?_
                  simp [jm_up, z]
                have hx1' : ρ 15 x = 1 := by simpa [jm_up, hxk] using hx1
                refine e2 mm (hC x hx hx1' hxc (fun i a b => ?_) mm hmm hqm)
                have := hst i a (by omega)
                have e3 : jm_up (jm_up ρ 15 (bw_nb c d) 1) 13 top' (bw_nb c d) 13 i = ρ 13 i := by
                  have : i ≠ top' := by omega
                  simp [jm_up, this]
                rw [e3] at this
                exact this
              · intro e he h0 hqe
                by_cases hed : e = d
                · subst hed; simp [jm_up]
                · have := hP e (by omega) h0 hqe
                  simp [jm_up, this]
            · rcases hr with z | z
              · omega
              · exact absurd hqe z.2
        refine inner 6 0 (top + -1) _ τ (by omega) (by omega) hsτ ⟨L1, by omega, by omega, fun i a b => L4 i a (by omega), L5, L6⟩ c2 ?_ (fun e he => by omega)
        intro x hx hx1 hxc hst
        refine hC x hx hx1 fun i a b => ?_
        by_cases hi : i = top + -1
        · rw [hi, ← hc]; exact fun z => hxc z.symm
        · exact hst i a (by omega)
  have clear : bw_cl cell → q cell → ∀ (n : Nat) (c : Int) (l4 l5 l6 l7 : Option jm_V) (τ : jm_S), 0 ≤ c → c + n = 384 → jm_okS D_B τ → (∀ k, k ≠ 13 → k ≠ 15 → τ k = σ k) → (∀ x, 0 ≤ x → x < c → τ 15 x = 0) → jm_Ok D_B fi_B (jm_look L_B_lit) k_B_lit (some false) Q 20 [some (.inr none), some (.inl cell), some (.inl least), some (.inl c), l4, l5, l6, l7] [] τ := by
    intro hcell hqc n
    induction n with
    | zero =>
      intro c l4 l5 l6 l7 τ hc0 hn hsτ hk hz
      refine jm_Ok.go 60 [64] ?_
      refine ⟨fun _ => ⟨by omega, by omega, by omega, by omega, by omega, by omega, ?_⟩, fun _ => by omega⟩
      refine main hcell hqc 385 0 1 _ _ _ _ (by omega) ((hsτ.up ?_).up (by decide)) ⟨?_, by omega, ?_, ?_, by simp [jm_up], ?_⟩ ?_
      · show (0 : Int) ≤ cell ∧ cell ≤ 383
        omega
      · intro k a b; rw [← hk k a b]; simp [jm_up, a, b]
      · have e1 := bw_cnt_set (p := fun _ => false) (q := fun x => decide (jm_up (jm_up τ 13 0 cell) 15 cell 1 15 x = 1)) (c := cell) 384 (fun i a b hi => by simp [jm_up, hi, hz i a (by omega)]) hcell.1 hcell.2
        rw [bw_cnt_none 384 (fun _ _ _ => rfl), if_pos (by simp [jm_up]), if_neg (by decide)] at e1
        omega
      · intro i a b
        have : i = 0 := by omega
        subst this
        have e1 : jm_up (jm_up τ 13 0 cell) 15 cell 1 13 0 = cell := by simp [jm_up]
        rw [e1]
        exact ⟨hcell, by simp [jm_up]⟩
      · intro N hN _ x hx hx1
        by_cases hxc : x = cell
        · rw [hxc]; exact hN
        · have := hz x hx.1 (by omega)
          simp [jm_up, hxc] at hx1
          omega
      · intro x hx hx1 hst
        by_cases hxc : x = cell
        · refine absurd ?_ (hst 0 (by omega) (by omega))
          simp [jm_up, hxc]
        · have := hz x hx.1 (by omega)
          simp [jm_up, hxc] at hx1
          omega
    | succ n ih =>
      intro c l4 l5 l6 l7 τ hc0 hn hsτ hk hz
      refine jm_Ok.go 60 [20] ?_
      refine ⟨fun _ => by omega, fun _ => ⟨by omega, by omega, by omega, ih (c + 1) _ _ _ _ _ (by omega) (by omega) (hsτ.up (by decide)) ?_ ?_⟩⟩
      · intro k a b; rw [← hk k a b]; simp [jm_up, b]
      · intro x a b
        by_cases hx : x = c
        · simp [jm_up, hx]
        · simp [jm_up, hx]; exact hz x a (by omega)
  refine jm_Ok.go 60 [16, 20] ?_
  refine ⟨trivial, ?_⟩
  rintro r σ - ⟨hr, rfl⟩
  refine ⟨fun h0 => none0 (fun z => by have := z.1; omega) _ _ _ _ _, fun h1 => ?_⟩
  have hcell : bw_cl cell := by omega
  refine ⟨hcell, ?_⟩
  rintro r2 σ - ⟨hr2, rfl⟩
  rw [← hq cell hcell] at hr2
  refine ⟨fun h => ?_, fun h => none0 (fun z => ?_) _ _ _ _ _⟩
  · refine clear hcell ?_ 384 0 _ _ _ _ σ (by omega) (by omega) hs (fun _ _ _ => rfl) (fun x a b => by omega)
    rcases hr2 with z | z
    · exact z.2
    · omega
  · rcases hr2 with y | y
    · omega
    · exact y.2 z.2
end
section
/-! the reference: leaves -/
def bw_dr (k : Int) : Int := if k ≤ 3 then 3 - k else 9 - k
theorem bw_dr_rg {k : Int} (h : 0 ≤ k ∧ k < 6) : 0 ≤ bw_dr k ∧ bw_dr k < 6 := by unfold bw_dr; split <;> omega
theorem bw_dr_dr {k : Int} (h : 0 ≤ k ∧ k < 6) : bw_dr (bw_dr k) = k := by unfold bw_dr; split <;> split <;> omega
theorem bw_dr_0 {k : Int} (h : 0 ≤ k ∧ k < 6) : bw_dr k = 0 ↔ k = 3 := by unfold bw_dr; split <;> omega
def sp_M_among : jm_K := (false, 2, false, fun _ _ => True, fun as σ r σ' => (match as with
  | [v, n] => ((r = 1 ∧ (0 ≤ v ∧ v < n)) ∨ (r = 0 ∧ ¬ (0 ≤ v ∧ v < n))) ∧ σ' = σ
  | _ => False))
def L_M_among : List (Nat × jm_K) := []
set_option maxHeartbeats 4000000 in
set_option maxRecDepth 100000 in
theorem con_M_among : jm_Con classes D_M 14 ks_M 1 y_M_among b_M_among 3 (jm_rt (some true)) 0 sp_M_among := by
  refine jm_con2 (L := L_M_among) (code := k_M_among) CF_M rfl (by decide) ck_M_among trivial (by decide) ?_
  intro σ as hl hr hs hp Q hQ
  obtain ⟨v, n, rfl⟩ := jm_a2 hl
  refine jm_Ok.go 60 [] ?_
  repeat' (first | apply And.intro | intro _)
  all_goals first | omega | (refine hQ _ _ ⟨?_, rfl⟩; omega)
def sp_M_number : jm_K := (false, 3, false, fun as _ => (match as with
  | [x, y, z] => (0 ≤ x ∧ x < 8) ∧ (0 ≤ y ∧ y < 6) ∧ (0 ≤ z ∧ z < 8)
  | _ => False), fun as σ r σ' => (match as with
  | [x, y, z] => r = x + 8 * z + 64 * y ∧ σ' = σ
  | _ => False))
def L_M_number : List (Nat × jm_K) := []
set_option maxHeartbeats 4000000 in
set_option maxRecDepth 100000 in
theorem con_M_number : jm_Con classes D_M 14 ks_M 1 y_M_number b_M_number 4 (jm_rt (some false)) 0 sp_M_number := by
  refine jm_con2 (L := L_M_number) (code := k_M_number) CF_M rfl (by decide) ck_M_number trivial (by decide) ?_
  intro σ as hl hr hs hp Q hQ
  obtain ⟨x, y, z, rfl⟩ := jm_a3 hl
  obtain ⟨hx, hy, hz⟩ := hp
  refine jm_Ok.go 60 [] ?_
  repeat' (first | apply And.intro | intro _)
  all_goals first | omega | exact hQ _ _ ⟨rfl, rfl⟩
def sp_M_opaque : jm_K := (false, 1, false, fun as _ => (match as with
  | [c] => bw_cl c
  | _ => False), fun as σ r σ' => (match as with
  | [c] => ((r = 1 ∧ bw_op (σ 0 c)) ∨ (r = 0 ∧ ¬ bw_op (σ 0 c))) ∧ σ' = σ
  | _ => False))
def L_M_opaque : List (Nat × jm_K) := []
set_option maxHeartbeats 4000000 in
set_option maxRecDepth 100000 in
theorem con_M_opaque : jm_Con classes D_M 14 ks_M 1 y_M_opaque b_M_opaque 2 (jm_rt (some true)) 0 sp_M_opaque := by
  refine jm_con2 (L := L_M_opaque) (code := k_M_opaque) CF_M rfl (by decide) ck_M_opaque trivial (by decide) ?_
  intro σ as hl hr hs hp Q hQ
  obtain ⟨c, rfl⟩ := jm_a1 hl
  have hc : bw_cl c := hp
  refine jm_Ok.go 60 [] ?_
  repeat' (first | apply And.intro | intro _)
  all_goals first | omega | (refine hQ _ _ ⟨?_, rfl⟩; omega)
def sp_M_neighbour : jm_K := (false, 2, false, fun as _ => (match as with
  | [c, k] => bw_cl c ∧ 0 ≤ k ∧ k < 6
  | _ => False), fun as σ r σ' => (match as with
  | [c, k] => r = bw_nb c (bw_dr k) ∧ σ' = σ
  | _ => False))
def L_M_neighbour : List (Nat × jm_K) := []
set_option maxHeartbeats 4000000 in
set_option maxRecDepth 100000 in
theorem con_M_neighbour : jm_Con classes D_M 14 ks_M 1 y_M_neighbour b_M_neighbour 3 (jm_rt (some false)) 0 sp_M_neighbour := by
  refine jm_con2 (L := L_M_neighbour) (code := k_M_neighbour) CF_M rfl (by decide) ck_M_neighbour trivial (by decide) ?_
  intro σ as hl hr hs hp Q hQ
  obtain ⟨c, k, rfl⟩ := jm_a2 hl
  obtain ⟨hc, hk⟩ := hp
  have e : ∀ j : Int, k = j → bw_nb c (bw_dr k) = bw_nb c (bw_dr j) := fun j h => by rw [h]
  refine jm_Ok.go 60 [] ?_
  repeat' (first | apply And.intro | intro _)
  all_goals first | omega | (refine hQ _ _ ⟨?_, rfl⟩; unfold bw_nb bw_dr; repeat' split)
  all_goals omega
def sp_M_driven : jm_K := (false, 1, false, fun as _ => (match as with
  | [c] => bw_cl c
  | _ => False), fun as σ r σ' => (match as with
  | [c] => ((r = 1 ∧ bw_drv (σ 0) (σ 2) c) ∨ (r = 0 ∧ ¬ bw_drv (σ 0) (σ 2) c)) ∧ σ' = σ
  | _ => False))
def L_M_driven : List (Nat × jm_K) := [(41, sp_M_neighbour)]
set_option maxHeartbeats 4000000 in
set_option maxRecDepth 100000 in
theorem con_M_driven : jm_Con classes D_M 14 ks_M 1 y_M_driven b_M_driven 4 (jm_rt (some true)) 1 sp_M_driven := by
  refine jm_con2 (L := L_M_driven) (code := k_M_driven) CF_M rfl (by decide) ck_M_driven ⟨⟨y_M_neighbour, b_M_neighbour, 3, jm_rt (some false), 0, by decide, con_M_neighbour, lk_M_neighbour _ _, rfl⟩, trivial⟩ (by decide) ?_
  intro σ as hl hr hs hp Q hQ
  obtain ⟨c, rfl⟩ := jm_a1 hl
  have hc : bw_cl c := hp
  have loop : ∀ (n : Nat) (k : Int) (l3 : Option jm_V), 0 ≤ k → k + n = 6 → (∀ e, (0 ≤ e ∧ e < k) → ¬ bw_mk (σ 0) (σ 2) c (bw_dr e)) → jm_Ok D_M fi_M (jm_look L_M_driven) k_M_driven (some true) Q 2 [some (.inr none), some (.inl c), some (.inl k), l3] [] σ := by
    intro n
    induction n with
    | zero =>
      intro k l3 h0 h1 h2
      refine jm_Ok.go 60 [] ?_
      refine ⟨fun _ => ⟨by omega, hQ _ _ ⟨Or.inr ⟨rfl, ?_⟩, rfl⟩⟩, fun _ => by omega⟩
      rintro ⟨d, hd, q⟩
      have := h2 (bw_dr d) (by have := bw_dr_rg hd; omega)
      rw [bw_dr_dr hd] at this
      exact this q
    | succ n ih =>
      intro k l3 h0 h1 h2
      have hkr : 0 ≤ k ∧ k < 6 := by omega
      have hk := bw_nb_rg hc (bw_dr_rg hkr)
      have hd0 := bw_dr_0 hkr
      refine jm_Ok.go 60 [60] ?_
      refine ⟨fun _ => by omega, fun _ => ⟨⟨hc, by omega⟩, ?_⟩⟩
      rintro j σ - ⟨rfl, rfl⟩
      have skip : ¬ bw_mk (σ 0) (σ 2) c (bw_dr k) → jm_Ok D_M fi_M (jm_look L_M_driven) k_M_driven (some true) Q 60 [some (.inr none), some (.inl c), some (.inl k), some (.inl (bw_nb c (bw_dr k)))] [] σ := by
        intro hn
        refine jm_Ok.go 60 [2] ?_
        refine ⟨by omega, ih (k + 1) _ (by omega) (by omega) fun e he => ?_⟩
        by_cases hek : e = k
        · subst hek; exact hn
        · exact h2 e (by omega)
      refine ⟨fun hk0 => ?_, fun hk0 => skip (by unfold bw_mk; omega)⟩
      refine ⟨by omega, fun b hb _ _ => ⟨fun h6 => ⟨by omega, hQ _ _ ⟨Or.inl ⟨rfl, bw_dr k, bw_dr_rg hkr, hk0, by omega⟩, rfl⟩⟩, fun h6 => ?_⟩⟩
      refine ⟨by omega, fun b2 hb2 _ _ => ⟨fun h7 => skip (by unfold bw_mk; omega), fun h7 => ⟨by omega, fun o ho _ _ => ⟨fun h0' => skip (by unfold bw_mk; omega), fun h1' => ⟨fun h3 => skip (by unfold bw_mk; omega), fun h3 => ⟨by omega, hQ _ _ ⟨Or.inl ⟨rfl, bw_dr k, bw_dr_rg hkr, hk0, by omega⟩, rfl⟩⟩⟩⟩⟩⟩⟩
  refine jm_Ok.go 60 [2] ?_
  exact loop 6 0 _ (by omega) (by omega) (fun e he => by omega)
def sp_M_feeds : jm_K := (false, 1, false, fun as _ => (match as with
  | [c] => bw_cl c
  | _ => False), fun as σ r σ' => (match as with
  | [c] => ((r = 1 ∧ bw_fed (σ 0) (σ 2) (σ 3) c) ∨ (r = 0 ∧ ¬ bw_fed (σ 0) (σ 2) (σ 3) c)) ∧ σ' = σ
  | _ => False))
def L_M_feeds : List (Nat × jm_K) := [(45, sp_M_driven), (41, sp_M_neighbour)]
set_option maxHeartbeats 4000000 in
set_option maxRecDepth 100000 in
theorem con_M_feeds : jm_Con classes D_M 14 ks_M 1 y_M_feeds b_M_feeds 4 (jm_rt (some true)) 2 sp_M_feeds := by
  refine jm_con2 (L := L_M_feeds) (code := k_M_feeds) CF_M rfl (by decide) ck_M_feeds ⟨⟨y_M_driven, b_M_driven, 4, jm_rt (some true), 1, by decide, con_M_driven, lk_M_driven _ _, rfl⟩, ⟨y_M_neighbour, b_M_neighbour, 3, jm_rt (some false), 0, by decide, con_M_neighbour, lk_M_neighbour _ _, rfl⟩, trivial⟩ (by decide) ?_
  intro σ as hl hr hs hp Q hQ
  obtain ⟨c, rfl⟩ := jm_a1 hl
  have hc : bw_cl c := hp
  have loop : ¬ bw_drv (σ 0) (σ 2) c → ∀ (n : Nat) (k : Int) (l3 : Option jm_V), 0 ≤ k → k + n = 6 → (∀ e, (0 ≤ e ∧ e < k) → ¬ (σ 0 c ≠ 5 ∧ 0 ≤ bw_nb c (bw_dr e) ∧ σ 0 (bw_nb c (bw_dr e)) = 5 ∧ 0 < σ 3 (bw_nb c (bw_dr e)))) → jm_Ok D_M fi_M (jm_look L_M_feeds) k_M_feeds (some true) Q 12 [some (.inr none), some (.inl c), some (.inl k), l3] [] σ := by
    intro hd n
    induction n with
    | zero =>
      intro k l3 h0 h1 h2
      refine jm_Ok.go 60 [] ?_
      refine ⟨fun _ => ⟨by omega, hQ _ _ ⟨Or.inr ⟨rfl, ?_⟩, rfl⟩⟩, fun _ => by omega⟩
      rintro (q | ⟨q1, n, ⟨e, he, rfl, hn0⟩, q2, q3⟩)
      · exact hd q
      · have := h2 (bw_dr e) (by have := bw_dr_rg he; omega)
        rw [bw_dr_dr he] at this
        exact this ⟨q1, hn0, q2, q3⟩
    | succ n ih =>
      intro k l3 h0 h1 h2
      have hkr : 0 ≤ k ∧ k < 6 := by omega
      have hk := bw_nb_rg hc (bw_dr_rg hkr)
      refine jm_Ok.go 60 [60] ?_
      refine ⟨fun _ => by omega, fun _ => ⟨by omega, fun b hb _ _ => ⟨fun h5 => ?_, fun h5 => ⟨⟨hc, by omega⟩, ?_⟩⟩⟩⟩
      · refine ⟨by omega, hQ _ _ ⟨Or.inr ⟨rfl, ?_⟩, rfl⟩⟩
        rintro (q | ⟨q1, -⟩)
        · exact hd q
        · omega
      · rintro j σ - ⟨rfl, rfl⟩
        have skip : ¬ (σ 0 c ≠ 5 ∧ 0 ≤ bw_nb c (bw_dr k) ∧ σ 0 (bw_nb c (bw_dr k)) = 5 ∧ 0 < σ 3 (bw_nb c (bw_dr k))) → jm_Ok D_M fi_M (jm_look L_M_feeds) k_M_feeds (some true) Q 60 [some (.inr none), some (.inl c), some (.inl k), some (.inl (bw_nb c (bw_dr k)))] [] σ := by
          intro hn
          refine jm_Ok.go 60 [12] ?_
          refine ⟨by omega, ih (k + 1) _ (by omega) (by omega) fun e he => ?_⟩
          by_cases hek : e = k
          · subst hek; exact hn
          · exact h2 e (by omega)
        refine ⟨fun hk0 => skip (by omega), fun hk0 => ⟨by omega, fun b2 hb2 _ _ => ⟨fun hne => skip (by omega), fun heq => ⟨by omega, fun p hp _ _ => ⟨fun hle => skip (by omega), fun hgt => ?_⟩⟩⟩⟩⟩
        exact ⟨by omega, hQ _ _ ⟨Or.inl ⟨rfl, Or.inr ⟨by omega, bw_nb c (bw_dr k), bw_adj_of (bw_dr_rg hkr) hk0, by omega, by omega⟩⟩, rfl⟩⟩
  refine jm_Ok.go 60 [12] ?_
  refine ⟨hc, ?_⟩
  rintro r σ - ⟨hr, rfl⟩
  refine ⟨fun h0 => ?_, fun h1 => ⟨by omega, hQ _ _ ⟨Or.inl ⟨rfl, Or.inl ?_⟩, rfl⟩⟩⟩
  · refine loop ?_ 6 0 _ (by omega) (by omega) (fun e he => by omega)
    rcases hr with z | z
    · omega
    · exact z.2
  · rcases hr with z | z
    · exact z.2
    · omega
/-- the field of a number: powers 0, light 1, sky 2 -/
def mw_F (σ : jm_S) (w : Int) : Int → Int := if w = 0 then σ 3 else if w = 1 then σ 4 else σ 5
def sp_M_around : jm_K := (false, 2, false, fun as _ => (match as with
  | [_, c] => bw_cl c
  | _ => False), fun as σ r σ' => (match as with
  | [w, c] => ((0 ≤ r ∧ r ≤ 15) ∧ (∀ n, bw_adj c n → mw_F σ w n ≤ r) ∧ (r = 0 ∨ ∃ n, bw_adj c n ∧ r = mw_F σ w n)) ∧ σ' = σ
  | _ => False))
def L_M_around : List (Nat × jm_K) := [(41, sp_M_neighbour)]
set_option maxHeartbeats 4000000 in
set_option maxRecDepth 100000 in
theorem con_M_around : jm_Con classes D_M 14 ks_M 1 y_M_around b_M_around 7 (jm_rt (some false)) 1 sp_M_around := by
  refine jm_con2 (L := L_M_around) (code := k_M_around) CF_M rfl (by decide) ck_M_around ⟨⟨y_M_neighbour, b_M_neighbour, 3, jm_rt (some false), 0, by decide, con_M_neighbour, lk_M_neighbour _ _, rfl⟩, trivial⟩ (by decide) ?_
  intro σ as hl hr hs hp Q hQ
  obtain ⟨w, c, rfl⟩ := jm_a2 hl
  have hc : bw_cl c := hp
  have loop : ∀ (n : Nat) (k best : Int) (l5 l6 : Option jm_V), 0 ≤ k → k + n = 6 → (0 ≤ best ∧ best ≤ 15) → (∀ e, (0 ≤ e ∧ e < k) → 0 ≤ bw_nb c (bw_dr e) → mw_F σ w (bw_nb c (bw_dr e)) ≤ best) → (best = 0 ∨ ∃ m, bw_adj c m ∧ best = mw_F σ w m) → jm_Ok D_M fi_M (jm_look L_M_around) k_M_around (some false) Q 5 [some (.inr none), some (.inl w), some (.inl c), some (.inl best), some (.inl k), l5, l6] [] σ := by
    intro n
    induction n with
    | zero =>
      intro k best l5 l6 h0 h1 hb h2 h3
      refine jm_Ok.go 60 [] ?_
      refine ⟨fun _ => hQ _ _ ⟨⟨hb, ?_, h3⟩, rfl⟩, fun _ => by omega⟩
      rintro m ⟨e, he, rfl, hn0⟩
      have := h2 (bw_dr e) (by have := bw_dr_rg he; omega)
      rw [bw_dr_dr he] at this
      exact this hn0
    | succ n ih =>
      intro k best l5 l6 h0 h1 hb h2 h3
      have hkr : 0 ≤ k ∧ k < 6 := by omega
      have hk := bw_nb_rg hc (bw_dr_rg hkr)
      refine jm_Ok.go 60 [76, 65] ?_
      refine ⟨fun _ => by omega, fun _ => ⟨⟨hc, by omega⟩, ?_⟩⟩
      rintro j σ - ⟨rfl, rfl⟩
      have next : ∀ (best' : Int) (l6 : Option jm_V), (0 ≤ best' ∧ best' ≤ 15) → best ≤ best' → (0 ≤ bw_nb c (bw_dr k) → mw_F σ w (bw_nb c (bw_dr k)) ≤ best') → (best' = 0 ∨ ∃ m, bw_adj c m ∧ best' = mw_F σ w m) → jm_Ok D_M fi_M (jm_look L_M_around) k_M_around (some false) Q 76 [some (.inr none), some (.inl w), some (.inl c), some (.inl best'), some (.inl k), some (.inl (bw_nb c (bw_dr k))), l6] [] σ := by
        intro best' l6 hb' hle hn h3'
        refine jm_Ok.go 60 [5] ?_
        refine ⟨by omega, ih (k + 1) best' _ _ (by omega) (by omega) hb' (fun e he q => ?_) h3'⟩
        by_cases hek : e = k
        · subst hek; exact hn q
        · have := h2 e (by omega) q; omega
      have k65 : 0 ≤ bw_nb c (bw_dr k) → ∀ v : Int, v = mw_F σ w (bw_nb c (bw_dr k)) → (0 ≤ v ∧ v ≤ 15) → jm_Ok D_M fi_M (jm_look L_M_around) k_M_around (some false) Q 65 [some (.inr none), some (.inl w), some (.inl c), some (.inl best), some (.inl k), some (.inl (bw_nb c (bw_dr k))), l6] [.inl v] σ := by
        intro hk0 v hv hvr
        refine jm_Ok.go 60 [76] ?_
        refine ⟨fun hle => next best _ hb (by omega) (fun _ => by omega) h3, fun hgt => next v _ hvr (by omega) (fun _ => by omega) (Or.inr ⟨bw_nb c (bw_dr k), bw_adj_of (bw_dr_rg hkr) hk0, hv⟩)⟩
      refine ⟨fun hk0 => ?_, fun hk0 => next best _ hb (by omega) (fun q => by omega) h3⟩
      refine ⟨fun hw0 => ⟨fun hw1 => ⟨by omega, fun v hv _ _ => k65 hk0 v ?_ (by omega)⟩, fun hw1 => ⟨by omega, fun v hv _ _ => k65 hk0 v ?_ (by omega)⟩⟩, fun hw0 => ⟨by omega, fun v hv _ _ => k65 hk0 v ?_ (by omega)⟩⟩
      · unfold mw_F; rw [if_neg hw0, if_neg hw1]; exact hv
      · unfold mw_F; rw [if_neg hw0, if_pos hw1]; exact hv
      · unfold mw_F; rw [if_pos hw0]; exact hv
  refine jm_Ok.go 60 [5] ?_
  exact loop 6 0 0 _ _ (by omega) (by omega) (by omega) (fun e he => by omega) (Or.inl rfl)
def sp_M_quiet : jm_K := (false, 1, false, fun as _ => (match as with
  | [c] => c < 384
  | _ => False), fun as σ r σ' => (match as with
  | [c] => ((r = 1 ∧ (c < 0 ∨ (σ 0 c ≠ 6 ∧ (σ 0 c ≠ 5 ∨ σ 3 c = 0) ∧ ((σ 0 c ≠ 7 ∧ σ 0 c ≠ 8) ∨ σ 2 c = 0)))) ∨ (r = 0 ∧ ¬ (c < 0 ∨ (σ 0 c ≠ 6 ∧ (σ 0 c ≠ 5 ∨ σ 3 c = 0) ∧ ((σ 0 c ≠ 7 ∧ σ 0 c ≠ 8) ∨ σ 2 c = 0))))) ∧ σ' = σ
  | _ => False))
def L_M_quiet : List (Nat × jm_K) := []
set_option maxHeartbeats 4000000 in
set_option maxRecDepth 100000 in
theorem con_M_quiet : jm_Con classes D_M 14 ks_M 1 y_M_quiet b_M_quiet 3 (jm_rt (some true)) 0 sp_M_quiet := by
  refine jm_con2 (L := L_M_quiet) (code := k_M_quiet) CF_M rfl (by decide) ck_M_quiet trivial (by decide) ?_
  intro σ as hl hr hs hp Q hQ
  obtain ⟨c, rfl⟩ := jm_a1 hl
  have hc : c < 384 := hp
  refine jm_Ok.go 60 [] ?_
  repeat' (first | apply And.intro | intro _)
  all_goals first | omega | (refine hQ _ _ ⟨?_, rfl⟩; omega)
def sp_M_isCell : jm_K := (false, 3, false, fun _ _ => True, fun as σ r σ' => (match as with
  | [x, y, z] => ((r = 1 ∧ ((0 ≤ x ∧ x < 8) ∧ (0 ≤ y ∧ y < 6) ∧ (0 ≤ z ∧ z < 8))) ∨ (r = 0 ∧ ¬ ((0 ≤ x ∧ x < 8) ∧ (0 ≤ y ∧ y < 6) ∧ (0 ≤ z ∧ z < 8)))) ∧ σ' = σ
  | _ => False))
def L_M_isCell : List (Nat × jm_K) := [(78, sp_M_among)]
set_option maxHeartbeats 4000000 in
set_option maxRecDepth 100000 in
theorem con_M_isCell : jm_Con classes D_M 14 ks_M 1 y_M_isCell b_M_isCell 4 (jm_rt (some true)) 1 sp_M_isCell := by
  refine jm_con2 (L := L_M_isCell) (code := k_M_isCell) CF_M rfl (by decide) ck_M_isCell ⟨⟨y_M_among, b_M_among, 3, jm_rt (some true), 0, by decide, con_M_among, lk_M_among _ _, rfl⟩, trivial⟩ (by decide) ?_
  intro σ as hl hr hs hp Q hQ
  obtain ⟨x, y, z, rfl⟩ := jm_a3 hl
  refine jm_Ok.go 60 [] ?_
  refine ⟨trivial, ?_⟩
  rintro r1 σ - ⟨hr1, rfl⟩
  refine ⟨fun h => ⟨by omega, hQ _ _ ⟨by omega, rfl⟩⟩, fun h => ⟨trivial, ?_⟩⟩
  rintro r2 σ - ⟨hr2, rfl⟩
  refine ⟨fun h => ⟨by omega, hQ _ _ ⟨by omega, rfl⟩⟩, fun h => ⟨trivial, ?_⟩⟩
  rintro r3 σ - ⟨hr3, rfl⟩
  exact ⟨fun h => ⟨by omega, hQ _ _ ⟨by omega, rfl⟩⟩, fun h => ⟨by omega, hQ _ _ ⟨by omega, rfl⟩⟩⟩
def sp_M_touches : jm_K := (false, 1, false, fun as _ => (match as with
  | [c] => bw_cl c
  | _ => False), fun as σ r σ' => (match as with
  | [c] => ((r = 1 ∧ ∃ n, bw_adj c n ∧ σ 8 n = 1) ∨ (r = 0 ∧ ¬ ∃ n, bw_adj c n ∧ σ 8 n = 1)) ∧ σ' = σ
  | _ => False))
def L_M_touches : List (Nat × jm_K) := [(41, sp_M_neighbour)]
set_option maxHeartbeats 4000000 in
set_option maxRecDepth 100000 in
theorem con_M_touches : jm_Con classes D_M 14 ks_M 1 y_M_touches b_M_touches 4 (jm_rt (some true)) 1 sp_M_touches := by
  refine jm_con2 (L := L_M_touches) (code := k_M_touches) CF_M rfl (by decide) ck_M_touches ⟨⟨y_M_neighbour, b_M_neighbour, 3, jm_rt (some false), 0, by decide, con_M_neighbour, lk_M_neighbour _ _, rfl⟩, trivial⟩ (by decide) ?_
  intro σ as hl hr hs hp Q hQ
  obtain ⟨c, rfl⟩ := jm_a1 hl
  have hc : bw_cl c := hp
  have loop : ∀ (n : Nat) (k : Int) (l3 : Option jm_V), 0 ≤ k → k + n = 6 → (∀ e, (0 ≤ e ∧ e < k) → 0 ≤ bw_nb c (bw_dr e) → ¬ σ 8 (bw_nb c (bw_dr e)) = 1) → jm_Ok D_M fi_M (jm_look L_M_touches) k_M_touches (some true) Q 2 [some (.inr none), some (.inl c), some (.inl k), l3] [] σ := by
    intro n
    induction n with
    | zero =>
      intro k l3 h0 h1 h2
      refine jm_Ok.go 60 [] ?_
      refine ⟨fun _ => ⟨by omega, hQ _ _ ⟨Or.inr ⟨rfl, ?_⟩, rfl⟩⟩, fun _ => by omega⟩
      rintro ⟨m, ⟨e, he, rfl, hn0⟩, q⟩
      have := h2 (bw_dr e) (by have := bw_dr_rg he; omega)
      rw [bw_dr_dr he] at this
      exact this hn0 q
    | succ n ih =>
      intro k l3 h0 h1 h2
      have hkr : 0 ≤ k ∧ k < 6 := by omega
      have hk := bw_nb_rg hc (bw_dr_rg hkr)
      refine jm_Ok.go 60 [30] ?_
      refine ⟨fun _ => by omega, fun _ => ⟨⟨hc, by omega⟩, ?_⟩⟩
      rintro j σ - ⟨rfl, rfl⟩
      have skip : (0 ≤ bw_nb c (bw_dr k) → ¬ σ 8 (bw_nb c (bw_dr k)) = 1) → jm_Ok D_M fi_M (jm_look L_M_touches) k_M_touches (some true) Q 30 [some (.inr none), some (.inl c), some (.inl k), some (.inl (bw_nb c (bw_dr k)))] [] σ := by
        intro hn
        refine jm_Ok.go 60 [2] ?_
        refine ⟨by omega, ih (k + 1) _ (by omega) (by omega) fun e he q => ?_⟩
        by_cases hek : e = k
        · subst hek; exact hn q
        · exact h2 e (by omega) q
      refine ⟨fun hk0 => skip (fun q => by omega), fun hk0 => ⟨by omega, fun v hv _ _ => ⟨fun hz => skip (fun _ => by omega), fun hz => ?_⟩⟩⟩
      exact ⟨by omega, hQ _ _ ⟨Or.inl ⟨rfl, bw_nb c (bw_dr k), bw_adj_of (bw_dr_rg hkr) hk0, by omega⟩, rfl⟩⟩
  refine jm_Ok.go 60 [2] ?_
  exact loop 6 0 _ (by omega) (by omega) (fun e he => by omega)
end
section
/-! the reference: fields found from nothing -/
def mw_R (ps : Int → Prop) (bg F : Int → Int) : Prop := (∀ k, bw_cl k → 0 ≤ F k ∧ F k ≤ 15) ∧ (∀ k, bw_cl k → ps k → bg k ≤ F k) ∧ (∀ k, bw_cl k → 0 < F k → ps k ∧ (F k ≤ bg k ∨ ∃ n, bw_adj k n ∧ F k < F n))
theorem mw_R_sol {ps : Int → Prop} {bg F : Int → Int} (h : mw_R ps bg F) (hA : bw_A ps F) : bw_sol ps bg F := ⟨h.1, hA, fun k hk => ⟨h.2.1 k hk, h.2.2 k hk⟩⟩
theorem mw_R_step {ps : Int → Prop} {bg F F' : Int → Int} {c v n : Int} (h : mw_R ps bg F) (hc : bw_cl c) (hps : ps c) (hF : ∀ x, bw_cl x → F' x = if x = c then v else F x) (hv : F c < v) (hv15 : v ≤ 15) (hn : bw_adj c n) (hvn : v < F n) : mw_R ps bg F' := by
  have mono : ∀ x, bw_cl x → F x ≤ F' x := by
    intro x hx
    rw [hF x hx]
    by_cases hxc : x = c
    · rw [if_pos hxc, hxc]; omega
    · rw [if_neg hxc]; omega
  refine ⟨fun k hk => ?_, fun k hk q => Int.le_trans (h.2.1 k hk q) (mono k hk), fun k hk hp => ?_⟩
  · rw [hF k hk]
    split
    · have := h.1 c hc; omega
    · exact h.1 k hk
  · by_cases hkc : k = c
    · subst hkc
      have e : F' k = v := by rw [hF k hk, if_pos rfl]
      refine ⟨hps, Or.inr ⟨n, hn, ?_⟩⟩
      rw [e]
      exact Int.lt_of_lt_of_le hvn (mono n (bw_adj_cl hk hn))
    · have e : F' k = F k := by rw [hF k hk, if_neg hkc]
      rw [e] at hp ⊢
      obtain ⟨q1, q2⟩ := h.2.2 k hk hp
      refine ⟨q1, ?_⟩
      rcases q2 with q2 | ⟨m, hm, hlt⟩
      · exact Or.inl q2
      · exact Or.inr ⟨m, hm, Int.lt_of_lt_of_le hlt (mono m (bw_adj_cl hk hm))⟩
theorem bw_sum_set {f g : Int → Int} {c : Int} : ∀ n : Nat, (∀ i : Int, 0 ≤ i → i < n → i ≠ c → g i = f i) → 0 ≤ c → c < n → bw_sum g n = bw_sum f n + g c - f c
  | 0, _, h1, h2 => by simp at h2; omega
  | n + 1, h, h1, h2 => by
    show bw_sum g n + g n = bw_sum f n + f n + g c - f c
    by_cases hc : c = n
    · subst hc
      rw [bw_sum_congr n (g := f) (fun i a b => h i a (by omega) (by omega))]
      omega
    · rw [bw_sum_set n (fun i a b d => h i a (by omega) d) h1 (by omega), h n (by omega) (by omega) (Ne.symm hc)]
      omega
theorem bw_sum_le {F : Int → Int} (h : ∀ k, bw_cl k → 0 ≤ F k ∧ F k ≤ 15) : 0 ≤ bw_sum F 384 ∧ bw_sum F 384 ≤ 5760 := by
  have := bw_sum_rg (f := F) (M := 15) (by omega) 384 (fun i a b => h i ⟨a, b⟩)
  omega
/-- a step of a round: the sum grows -/
theorem mw_sum_step {F F' : Int → Int} {c v : Int} (hc : bw_cl c) (hF : ∀ x, bw_cl x → F' x = if x = c then v else F x) (hv : F c < v) : bw_sum F 384 < bw_sum F' 384 := by
  have h := bw_sum_set (f := F) (g := F') (c := c) 384 (fun i a b d => by rw [hF i ⟨a, b⟩, if_neg d]) hc.1 hc.2
  rw [hF c hc, if_pos rfl] at h
  omega
def sp_M_spread : jm_K := (false, 1, true, fun as _ => (match as with
  | [w] => w = 1 ∨ w = 2
  | _ => False), fun as σ _ σ' => (match as with
  | [w] => (∀ k, k ≠ 4 → k ≠ 5 → k ≠ 12 → σ' k = σ k) ∧ (w = 1 → σ' 5 = σ 5) ∧ (w = 2 → σ' 4 = σ 4) ∧ (∀ bg, mw_R (bw_ps (σ 0) (w - 1)) bg (mw_F σ w) → mw_R (bw_ps (σ 0) (w - 1)) bg (mw_F σ' w)) ∧ bw_A (bw_ps (σ 0) (w - 1)) (mw_F σ' w)
  | _ => False))
def L_M_spread : List (Nat × jm_K) := [(72, sp_M_opaque), (53, sp_M_around)]
set_option maxHeartbeats 4000000 in
set_option maxRecDepth 100000 in
theorem con_M_spread : jm_Con classes D_M 14 ks_M 1 y_M_spread b_M_spread 7 (jm_rt none) 2 sp_M_spread := by
  refine jm_con2 (L := L_M_spread) (code := k_M_spread) CF_M rfl (by decide) ck_M_spread ⟨⟨y_M_opaque, b_M_opaque, 2, jm_rt (some true), 0, by decide, con_M_opaque, lk_M_opaque _ _, rfl⟩, ⟨y_M_around, b_M_around, 7, jm_rt (some false), 1, by decide, con_M_around, lk_M_around _ _, rfl⟩, trivial⟩ (by decide) ?_
  intro σ as hl hr hs hp Q hQ
  obtain ⟨w, rfl⟩ := jm_a1 hl
  have hw : w = 1 ∨ w = 2 := hp
  have hps : ∀ x, bw_ps (σ 0) (w - 1) x ↔ ¬ bw_op (σ 0 x) := by
    intro x; unfold bw_ps
    constructor
    · rintro (q | q)
      · omega
      · exact q.2
    · intro q; exact Or.inr ⟨by omega, q⟩
  have rgF : ∀ τ, jm_okS D_M τ → ∀ x, bw_cl x → 0 ≤ mw_F τ w x ∧ mw_F τ w x ≤ 15 := by
    intro τ hsτ x hx
    unfold mw_F
    rcases hw with h1 | h2
    · rw [if_neg (by omega), if_pos h1]; exact hsτ 4 x hx.1 (Or.inl hx.2)
    · rw [if_neg (by omega), if_neg (by omega)]; exact hsτ 5 x hx.1 (Or.inl hx.2)
  have exit : ∀ (l3 l4 l5 l6 : Option jm_V) (τ : jm_S), (∀ k, k ≠ 4 → k ≠ 5 → k ≠ 12 → τ k = σ k) → (w = 1 → τ 5 = σ 5) → (w = 2 → τ 4 = σ 4) → (∀ bg, mw_R (bw_ps (σ 0) (w - 1)) bg (mw_F σ w) → mw_R (bw_ps (σ 0) (w - 1)) bg (mw_F τ w)) → bw_A (bw_ps (σ 0) (w - 1)) (mw_F τ w) → jm_Ok D_M fi_M (jm_look L_M_spread) k_M_spread none Q 2 [some (.inr none), some (.inl w), some (.inl 0), l3, l4, l5, l6] [] τ := by
    intro l3 l4 l5 l6 τ h1 h2 h3 h4 h5
    refine jm_Ok.go 60 [] ?_
    exact ⟨fun _ => hQ _ _ ⟨h1, h2, h3, h4, h5⟩, fun q => absurd rfl q⟩
  have outer : ∀ (m : Nat) (l3 l4 l5 l6 : Option jm_V) (τ : jm_S), jm_okS D_M τ → (∀ k, k ≠ 4 → k ≠ 5 → k ≠ 12 → τ k = σ k) → (w = 1 → τ 5 = σ 5) → (w = 2 → τ 4 = σ 4) → (∀ bg, mw_R (bw_ps (σ 0) (w - 1)) bg (mw_F σ w) → mw_R (bw_ps (σ 0) (w - 1)) bg (mw_F τ w)) → 5760 - bw_sum (mw_F τ w) 384 < m → jm_Ok D_M fi_M (jm_look L_M_spread) k_M_spread none Q 2 [some (.inr none), some (.inl w), some (.inl 1), l3, l4, l5, l6] [] τ := by
    intro m
    induction m with
    | zero =>
      intro l3 l4 l5 l6 τ hsτ h1 h2 h3 h4 hm
      have := bw_sum_le (rgF τ hsτ)
      omega
    | succ m ihm =>
      intro l3 l4 l5 l6 τ hsτ h1 h2 h3 h4 hm
      -- one round, from the state ρ, in the direction g
      have inner : ∀ (ρ : jm_S) (g : Int), (g = 0 ∨ g = 1) → bw_sum (mw_F ρ w) 384 = bw_sum (mw_F τ w) 384 → ∀ (n : Nat) (i more : Int) (l4 l5 l6 : Option jm_V) (τ' : jm_S), 0 ≤ i → i + n = 384 → jm_okS D_M τ' → τ' 12 0 = g → (∀ k, k ≠ 4 → k ≠ 5 → k ≠ 12 → τ' k = σ k) → (w = 1 → τ' 5 = σ 5) → (w = 2 → τ' 4 = σ 4) → (∀ bg, mw_R (bw_ps (σ 0) (w - 1)) bg (mw_F σ w) → mw_R (bw_ps (σ 0) (w - 1)) bg (mw_F τ' w)) → ((more = 0 ∧ ∀ j, 0 ≤ j → j < i → bw_ps (σ 0) (w - 1) (if g = 1 then j else 383 - j) → ∀ n, bw_adj (if g = 1 then j else 383 - j) n → mw_F τ' w n - 1 ≤ mw_F τ' w (if g = 1 then j else 383 - j)) ∨ (more = 1 ∧ bw_sum (mw_F τ w) 384 < bw_sum (mw_F τ' w) 384)) → bw_sum (mw_F τ w) 384 ≤ bw_sum (mw_F τ' w) 384 → jm_Ok D_M fi_M (jm_look L_M_spread) k_M_spread none Q 26 [some (.inr none), some (.inl w), some (.inl more), some (.inl i), l4, l5, l6] [] τ' := by
        intro ρ g hg hρ n
        induction n with
        | zero =>
          intro i more l4 l5 l6 τ' hi0 hn hs' h12 k1 k2 k3 k4 k5 k6
          refine jm_Ok.go 60 [2] ?_
          refine ⟨fun _ => ?_, fun _ => by omega⟩
          rcases k5 with ⟨rfl, k5⟩ | ⟨rfl, k5⟩
          · refine exit _ _ _ _ τ' k1 k2 k3 k4 ?_
            intro k hk q n hn
            have := k5 (if g = 1 then k else 383 - k) (by split <;> omega) (by split <;> omega)
            have e : (if g = 1 then (if g = 1 then k else 383 - k) else 383 - (if g = 1 then k else 383 - k)) = k := by
              split <;> omega
            rw [e] at this
            exact this q n hn
          · exact ihm _ _ _ _ τ' hs' k1 k2 k3 k4 (by omega)
        | succ n ih =>
          intro i more l4 l5 l6 τ' hi0 hn hs' h12 k1 k2 k3 k4 k5 k6
          have e0 := k1 0 (by decide) (by decide) (by decide)
          have k49 : ∀ c : Int, c = (if g = 1 then i else 383 - i) → jm_Ok D_M fi_M (jm_look L_M_spread) k_M_spread none Q 49 [some (.inr none), some (.inl w), some (.inl more), some (.inl i), l4, l5, l6] [.inl c] τ' := by
            intro c hc
            have hcl : bw_cl c := by rw [hc]; split <;> omega
            have next : ∀ (more' : Int) (l5 l6 : Option jm_V) (τ2 : jm_S), jm_okS D_M τ2 → τ2 12 0 = g → (∀ k, k ≠ 4 → k ≠ 5 → k ≠ 12 → τ2 k = σ k) → (w = 1 → τ2 5 = σ 5) → (w = 2 → τ2 4 = σ 4) → (∀ bg, mw_R (bw_ps (σ 0) (w - 1)) bg (mw_F σ w) → mw_R (bw_ps (σ 0) (w - 1)) bg (mw_F τ2 w)) → ((more' = 0 ∧ ∀ j, 0 ≤ j → j < i + 1 → bw_ps (σ 0) (w - 1) (if g = 1 then j else 383 - j) → ∀ n, bw_adj (if g = 1 then j else 383 - j) n → mw_F τ2 w n - 1 ≤ mw_F τ2 w (if g = 1 then j else 383 - j)) ∨ (more' = 1 ∧ bw_sum (mw_F τ w) 384 < bw_sum (mw_F τ2 w) 384)) → bw_sum (mw_F τ w) 384 ≤ bw_sum (mw_F τ2 w) 384 → jm_Ok D_M fi_M (jm_look L_M_spread) k_M_spread none Q 136 [some (.inr none), some (.inl w), some (.inl more'), some (.inl i), some (.inl c), l5, l6] [] τ2 := by
              intro more' l5 l6 τ2 a1 a2 a3 a4 a5 a6 a7 a8
              refine jm_Ok.go 60 [26] ?_
              exact ⟨by omega, ih (i + 1) more' _ _ _ τ2 (by omega) (by omega) a1 a2 a3 a4 a5 a6 a7 a8⟩
            have skip : (bw_ps (σ 0) (w - 1) c → ∀ n, bw_adj c n → mw_F τ' w n - 1 ≤ mw_F τ' w c) → ∀ l5 l6 : Option jm_V, jm_Ok D_M fi_M (jm_look L_M_spread) k_M_spread none Q 136 [some (.inr none), some (.inl w), some (.inl more), some (.inl i), some (.inl c), l5, l6] [] τ' := by
              intro hz l5 l6
              refine next more _ _ τ' hs' h12 k1 k2 k3 k4 ?_ k6
              rcases k5 with ⟨q1, q2⟩ | q
              · refine Or.inl ⟨q1, fun j a b => ?_⟩
                by_cases hj : j = i
                · subst hj; rw [← hc]; exact hz
                · exact q2 j a (by omega)
              · exact Or.inr q
            refine jm_Ok.go 60 [136, 96] ?_
            refine ⟨hcl, ?_⟩
            rintro r τ' - ⟨hr, rfl⟩
            rw [e0] at hr
            refine ⟨fun h0 => ⟨hcl, ?_⟩, fun h1 => skip (fun q => absurd ((hps c).mp q) (by rcases hr with z | z; exact fun y => y z.2; omega)) _ _⟩
            rintro a τ' - ⟨⟨ha1, ha2, ha3⟩, rfl⟩
            have hcps : bw_ps (σ 0) (w - 1) c := (hps c).mpr (by rcases hr with z | z; omega; exact z.2)
            refine ⟨by omega, ?_⟩
            have k96 : ∀ now : Int, now = mw_F τ' w c → jm_Ok D_M fi_M (jm_look L_M_spread) k_M_spread none Q 96 [some (.inr none), some (.inl w), some (.inl more), some (.inl i), some (.inl c), some (.inl (a - 1)), l6] [.inl now] τ' := by
              intro now hnow
              have hnr := rgF τ' hs' c hcl
              refine jm_Ok.go 60 [136, 134] ?_
              refine ⟨fun hgt => ?_, fun hle => skip (fun _ n hn => by have := ha2 n hn; omega) _ _⟩
              have hn : ∃ n, bw_adj c n ∧ a = mw_F τ' w n := by
                rcases ha3 with z | z
                · omega
                · exact z
              obtain ⟨n, hn, han⟩ := hn
              have fin : ∀ τ2, jm_okS D_M τ2 → τ2 12 0 = g → (∀ k, k ≠ 4 → k ≠ 5 → k ≠ 12 → τ2 k = σ k) → (w = 1 → τ2 5 = σ 5) → (w = 2 → τ2 4 = σ 4) → (∀ x, bw_cl x → mw_F τ2 w x = if x = c then a - 1 else mw_F τ' w x) → jm_Ok D_M fi_M (jm_look L_M_spread) k_M_spread none Q 134 [some (.inr none), some (.inl w), some (.inl more), some (.inl i), some (.inl c), some (.inl (a - 1)), some (.inl now)] [] τ2 := by
                intro τ2 b1 b2 b3 b4 b5 b6
                have hsum := mw_sum_step hcl b6 (by omega)
                refine jm_Ok.go 60 [136] ?_
                refine next 1 _ _ τ2 b1 b2 b3 b4 b5 (fun bg hbg => mw_R_step (k4 bg hbg) hcl hcps b6 (by omega) (by omega) hn (by omega)) (Or.inr ⟨rfl, by omega⟩) (by omega)
              refine ⟨fun hw1 => ⟨by omega, by omega, fin _ (hs'.up ?_) h12 ?_ ?_ ?_ ?_⟩, fun hw1 => ⟨by omega, by omega, fin _ (hs'.up ?_) h12 ?_ ?_ ?_ ?_⟩⟩
              · show (0 : Int) ≤ a - 1 ∧ a - 1 ≤ 15
                omega
              · intro k q4 q5 q12; rw [← k1 k q4 q5 q12]; simp [jm_up, q5]
              · intro q; omega
              · intro q; rw [← k3 q]; simp [jm_up]
              · intro x _
                have hw0 : ¬ w = 0 := by omega
                simp [mw_F, hw0, hw1, jm_up]
              · show (0 : Int) ≤ a - 1 ∧ a - 1 ≤ 15
                omega
              · intro k q4 q5 q12; rw [← k1 k q4 q5 q12]; simp [jm_up, q4]
              · intro q; rw [← k2 q]; simp [jm_up]
              · intro q; omega
              · intro x _
                have hw0 : ¬ w = 0 := by omega
                simp [mw_F, hw0, hw1, jm_up]
            refine ⟨fun hw1 => ⟨by omega, fun now hnow _ _ => k96 now ?_⟩, fun hw1 => ⟨by omega, fun now hnow _ _ => k96 now ?_⟩⟩
            · unfold mw_F; rw [if_neg (by omega), if_neg hw1]; exact hnow
            · unfold mw_F; rw [if_neg (by omega), if_pos hw1]; exact hnow
          refine jm_Ok.go 60 [49] ?_
          refine ⟨fun _ => by omega, fun _ => fun f hf _ _ => ⟨fun hz => ⟨by omega, k49 _ ?_⟩, fun hz => k49 _ ?_⟩⟩
          · rw [if_neg (by omega)]
          · rw [if_pos (by omega)]
      refine jm_Ok.go 60 [26] ?_
      refine ⟨fun q => by omega, fun _ => fun f hf _ _ => ⟨fun hne => ⟨by omega, ?_⟩, fun he => ⟨by omega, ?_⟩⟩⟩
      · refine inner τ 0 (Or.inl rfl) rfl 384 0 0 _ _ _ _ (by omega) (by omega) (hsτ.up (by decide)) (by simp [jm_up]) ?_ h2 h3 h4 (Or.inl ⟨rfl, fun j a b => by omega⟩) (Int.le_refl _)
        intro k q4 q5 q12; rw [← h1 k q4 q5 q12]; simp [jm_up, q12]
      · refine inner τ 1 (Or.inr rfl) rfl 384 0 0 _ _ _ _ (by omega) (by omega) (hsτ.up (by decide)) (by simp [jm_up]) ?_ h2 h3 h4 (Or.inl ⟨rfl, fun j a b => by omega⟩) (Int.le_refl _)
        intro k q4 q5 q12; rw [← h1 k q4 q5 q12]; simp [jm_up, q12]
  refine jm_Ok.go 60 [2] ?_
  exact outer (5761 - bw_sum (mw_F σ w) 384).toNat _ _ _ _ σ hs (fun _ _ _ _ => rfl) (fun _ => rfl) (fun _ => rfl) (fun _ q => q) (by have := bw_sum_le (rgF σ hs); omega)
end
section
/-! the reference: findPower, findLight, findSky -/
def mw_P (τ : jm_S) : Prop := ∀ x, bw_cl x → τ 3 x = bw_pow (bw_abs τ) x ∧ (τ 0 x = 8 → τ 2 x = bw_on (bw_abs τ) x)
def mw_L (τ : jm_S) : Prop := ∀ x, bw_cl x → τ 4 x = bw_lgt (bw_abs τ) x
def mw_S (τ : jm_S) : Prop := ∀ x, bw_cl x → τ 5 x = bw_sky (bw_abs τ) x ∧ (τ 6 x = 1 ↔ bw_open (bw_abs τ).1 x)
def mw_I (τ : jm_S) : Prop := (τ 9 0 = 1 → mw_P τ) ∧ (τ 10 0 = 1 → τ 9 0 = 1 ∧ mw_L τ) ∧ (τ 11 0 = 1 → mw_S τ)
theorem mw_P_of {τ : jm_S} (hs : jm_okS D_M τ) (h : bw_sol (bw_ps (τ 0) 2) (bw_bgP (τ 0) (τ 2)) (τ 3)) (hl : ∀ x, bw_cl x → τ 0 x = 8 → (τ 2 x = 1 ↔ bw_fed (τ 0) (τ 2) (τ 3) x)) : mw_P τ := by
  have hp := bw_pow_of h
  intro x hx
  refine ⟨hp x hx, fun h8 => ?_⟩
  have h2 := hs 2 x hx.1 (Or.inl hx.2)
  have h2a : 0 ≤ τ 2 x := h2.1
  have h2b : τ 2 x ≤ 1 := h2.2
  have hf := (hl x hx h8).trans (bw_fed_of hp hx)
  rcases Classical.em (τ 2 x = 1) with q | q
  · rw [bw_on_8 (by rw [bw_abs_0 hx]; exact h8) (hf.mp q), q]
  · rw [bw_on_0 (by rw [bw_abs_0 hx]; omega) (fun z => q (hf.mpr z.2))]
    omega
def sp_M_findPower : jm_K := (false, 0, true, fun as σ => (match as with
  | [] => mw_I σ
  | _ => False), fun as σ _ σ' => (match as with
  | [] => mw_I σ' ∧ σ' 9 0 = 1 ∧ bw_abs σ' = bw_abs σ ∧ (∀ k, k ≠ 2 → k ≠ 3 → k ≠ 9 → σ' k = σ k)
  | _ => False))
def L_M_findPower : List (Nat × jm_K) := [(45, sp_M_driven), (53, sp_M_around), (56, sp_M_feeds)]
set_option maxHeartbeats 4000000 in
set_option maxRecDepth 100000 in
theorem con_M_findPower : jm_Con classes D_M 14 ks_M 1 y_M_findPower b_M_findPower 4 (jm_rt none) 3 sp_M_findPower := by
  refine jm_con2 (L := L_M_findPower) (code := k_M_findPower) CF_M rfl (by decide) ck_M_findPower ⟨⟨y_M_driven, b_M_driven, 4, jm_rt (some true), 1, by decide, con_M_driven, lk_M_driven _ _, rfl⟩, ⟨y_M_around, b_M_around, 7, jm_rt (some false), 1, by decide, con_M_around, lk_M_around _ _, rfl⟩, ⟨y_M_feeds, b_M_feeds, 4, jm_rt (some true), 2, by decide, con_M_feeds, lk_M_feeds _ _, rfl⟩, trivial⟩ (by decide) ?_
  intro σ as hl hr hs hp Q hQ
  obtain rfl := jm_a0 hl
  have hI : mw_I σ := hp
  have hps : ∀ x, bw_ps (σ 0) 2 x ↔ σ 0 x = 5 := by
    intro x; unfold bw_ps
    constructor
    · rintro (q | q)
      · exact q.2
      · exact absurd rfl q.1
    · intro q; exact Or.inl ⟨rfl, q⟩
  have rgF : ∀ τ, jm_okS D_M τ → ∀ x, bw_cl x → 0 ≤ τ 3 x ∧ τ 3 x ≤ 15 := fun τ hsτ x hx => hsτ 3 x hx.1 (Or.inl hx.2)
  have eF : ∀ τ : jm_S, mw_F τ 0 = τ 3 := fun τ => rfl
  -- the lamps
  have lamps : ∀ ρ : jm_S, bw_sol (bw_ps (σ 0) 2) (bw_bgP (σ 0) (σ 2)) (ρ 3) → σ 10 0 ≠ 1 → ∀ (n : Nat) (c : Int) (l1 l3 : Option jm_V) (τ : jm_S), 0 ≤ c → c + n = 384 → jm_okS D_M τ → (∀ k, k ≠ 2 → k ≠ 3 → k ≠ 9 → τ k = σ k) → τ 9 0 = 1 → τ 3 = ρ 3 → (∀ x, bw_cl x → σ 0 x ≠ 8 → τ 2 x = σ 2 x) → (∀ x, bw_cl x → x < c → σ 0 x = 8 → (τ 2 x = 1 ↔ bw_fed (σ 0) (σ 2) (ρ 3) x)) → jm_Ok D_M fi_M (jm_look L_M_findPower) k_M_findPower none Q 131 [some (.inr none), l1, some (.inl c), l3] [] τ := by
    intro ρ hsol h10 n
    induction n with
    | zero =>
      intro c l1 l3 τ hc0 hn hsτ hk h9 h3 ho hl
      refine jm_Ok.go 60 [] ?_
      refine ⟨fun _ => ?_, fun _ => by omega⟩
      have e0 := hk 0 (by decide) (by decide) (by decide)
      have habs : bw_abs τ = bw_abs σ := bw_abs_ext (fun x _ => by rw [e0]) (fun x _ => by rw [hk 1 (by decide) (by decide) (by decide)]) (fun x hx h7 => ho x hx (by omega))
      have o7 : ∀ x, bw_cl x → σ 0 x = 7 → τ 2 x = σ 2 x := fun x hx h7 => ho x hx (by omega)
      have hP : mw_P τ := by
        refine mw_P_of hsτ ?_ ?_
        · rw [e0, h3]
          refine ⟨hsol.1, hsol.2.1, fun k hk2 => ?_⟩
          exact bw_gd_congr hk2 Iff.rfl (bw_bgP_cg hk2 (fun _ _ => rfl) o7).symm (fun _ _ => rfl) (hsol.2.2 k hk2)
        · intro x hx h8
          rw [e0] at h8 ⊢
          rw [h3, hl x hx (by omega) h8]
          exact bw_fed_cg hx (fun _ _ => rfl) o7 (fun _ _ => rfl)
      refine hQ _ _ ⟨⟨fun _ => hP, fun q => ?_, fun q => ?_⟩, h9, habs, hk⟩
      · rw [hk 10 (by decide) (by decide) (by decide)] at q; exact absurd q h10
      · rw [hk 11 (by decide) (by decide) (by decide)] at q
        have := hI.2.2 q
        intro x hx
        rw [hk 5 (by decide) (by decide) (by decide), hk 6 (by decide) (by decide) (by decide), habs]
        exact this x hx
    | succ n ih =>
      intro c l1 l3 τ hc0 hn hsτ hk h9 h3 ho hl
      have hcl : bw_cl c := ⟨hc0, by omega⟩
      have e0 := hk 0 (by decide) (by decide) (by decide)
      refine jm_Ok.go 60 [131] ?_
      refine ⟨fun _ => by omega, fun _ => ⟨by omega, fun b hb _ _ => ?_⟩⟩
      rw [e0] at hb
      refine ⟨fun hne => ⟨by omega, ih (c + 1) _ _ τ (by omega) (by omega) hsτ hk h9 h3 ho fun x hx hlt h8 => ?_⟩, fun he => ⟨hcl, ?_⟩⟩
      · by_cases hxc : x = c
        · subst hxc; omega
        · exact hl x hx (by omega) h8
      · rintro r τ - ⟨hr, rfl⟩
        have hf : bw_fed (τ 0) (τ 2) (τ 3) c ↔ bw_fed (σ 0) (σ 2) (ρ 3) c := by
          rw [e0, h3]
          exact (bw_fed_cg hcl (fun _ _ => rfl) (fun x hx h7 => ho x hx (by omega)) (fun _ _ => rfl)).symm
        rw [hf] at hr
        refine ⟨by omega, by omega, by omega, ih (c + 1) _ _ _ (by omega) (by omega) (hsτ.up ?_) ?_ h9 h3 ?_ ?_⟩
        · show (0 : Int) ≤ r ∧ r ≤ 1
          omega
        · intro k q2 q3 q9; rw [← hk k q2 q3 q9]; simp [jm_up, q2]
        · intro x hx h8
          have hxc : x ≠ c := fun q => by rw [q] at h8; omega
          simp [jm_up, hxc]; exact ho x hx h8
        · intro x hx hlt h8
          by_cases hxc : x = c
          · subst hxc
            simp [jm_up]
            rcases hr with ⟨z1, z2⟩ | ⟨z1, z2⟩
            · exact ⟨fun _ => z2, fun _ => z1⟩
            · exact ⟨fun q => by omega, fun q => absurd q z2⟩
          · have := hl x hx (by omega) h8
            simpa [jm_up, hxc] using this
  have exit : σ 10 0 ≠ 1 → ∀ (l2 l3 : Option jm_V) (τ : jm_S), jm_okS D_M τ → (∀ k, k ≠ 3 → k ≠ 9 → τ k = σ k) → τ 9 0 = 1 → mw_R (bw_ps (σ 0) 2) (bw_bgP (σ 0) (σ 2)) (τ 3) → bw_A (bw_ps (σ 0) 2) (τ 3) → jm_Ok D_M fi_M (jm_look L_M_findPower) k_M_findPower none Q 60 [some (.inr none), some (.inl 0), l2, l3] [] τ := by
    intro h10 l2 l3 τ hsτ hk h9 hR hA
    refine jm_Ok.go 60 [131] ?_
    refine ⟨fun _ => ?_, fun q => absurd rfl q⟩
    refine lamps τ (mw_R_sol hR hA) h10 384 0 _ _ τ (by omega) (by omega) hsτ (fun k _ b c => hk k b c) h9 rfl (fun x _ _ => by rw [hk 2 (by decide) (by decide)]) (fun x hx q => by omega)
  have outer : σ 10 0 ≠ 1 → ∀ (m : Nat) (l2 l3 : Option jm_V) (τ : jm_S), jm_okS D_M τ → (∀ k, k ≠ 3 → k ≠ 9 → τ k = σ k) → τ 9 0 = 1 → mw_R (bw_ps (σ 0) 2) (bw_bgP (σ 0) (σ 2)) (τ 3) → 5760 - bw_sum (τ 3) 384 < m → jm_Ok D_M fi_M (jm_look L_M_findPower) k_M_findPower none Q 60 [some (.inr none), some (.inl 1), l2, l3] [] τ := by
    intro h10 m
    induction m with
    | zero =>
      intro l2 l3 τ hsτ hk h9 hR hm
      have := bw_sum_le (rgF τ hsτ)
      omega
    | succ m ihm =>
      intro l2 l3 τ hsτ hk h9 hR hm
      have inner : ∀ (n : Nat) (c more : Int) (l3 : Option jm_V) (τ' : jm_S), 0 ≤ c → c + n = 384 → jm_okS D_M τ' → (∀ k, k ≠ 3 → k ≠ 9 → τ' k = σ k) → τ' 9 0 = 1 → mw_R (bw_ps (σ 0) 2) (bw_bgP (σ 0) (σ 2)) (τ' 3) → ((more = 0 ∧ ∀ x, 0 ≤ x → x < c → bw_ps (σ 0) 2 x → ∀ n, bw_adj x n → τ' 3 n - 1 ≤ τ' 3 x) ∨ (more = 1 ∧ bw_sum (τ 3) 384 < bw_sum (τ' 3) 384)) → bw_sum (τ 3) 384 ≤ bw_sum (τ' 3) 384 → jm_Ok D_M fi_M (jm_look L_M_findPower) k_M_findPower none Q 68 [some (.inr none), some (.inl more), some (.inl c), l3] [] τ' := by
        intro n
        induction n with
        | zero =>
          intro c more l3 τ' hc0 hn hs' hk' h9' hR' hm' hle
          refine jm_Ok.go 60 [60] ?_
          refine ⟨fun _ => ?_, fun _ => by omega⟩
          rcases hm' with ⟨rfl, q⟩ | ⟨rfl, q⟩
          · exact exit h10 _ _ τ' hs' hk' h9' hR' (fun k hk2 hp2 n hn2 => q k hk2.1 (by omega) hp2 n hn2)
          · exact ihm _ _ τ' hs' hk' h9' hR' (by omega)
        | succ n ih =>
          intro c more l3 τ' hc0 hn hs' hk' h9' hR' hm' hle
          have hcl : bw_cl c := ⟨hc0, by omega⟩
          have e0 := hk' 0 (by decide) (by decide)
          have hrc := rgF τ' hs' c hcl
          have k97 : ∀ p : Int, (σ 0 c = 5 → (∀ n, bw_adj c n → τ' 3 n - 1 ≤ p) ∧ p ≤ 14 ∧ (p = -1 ∨ ∃ n, bw_adj c n ∧ p = τ' 3 n - 1)) → (σ 0 c ≠ 5 → p = 0) → jm_Ok D_M fi_M (jm_look L_M_findPower) k_M_findPower none Q 97 [some (.inr none), some (.inl more), some (.inl c), l3] [.inl p] τ' := by
            intro p hp5 hp0
            refine jm_Ok.go 60 [68] ?_
            refine ⟨by omega, fun v hv _ _ => ⟨fun hgt => ?_, fun hle2 => ⟨by omega, ih (c + 1) more _ τ' (by omega) (by omega) hs' hk' h9' hR' ?_ hle⟩⟩⟩
            · by_cases h5 : σ 0 c = 5
              · obtain ⟨q1, q2, q3⟩ := hp5 h5
                have hF : ∀ x, bw_cl x → jm_up τ' 3 c p 3 x = if x = c then p else τ' 3 x := fun x _ => by simp [jm_up]
                have hsum := mw_sum_step (F := τ' 3) (F' := jm_up τ' 3 c p 3) hcl hF (by omega)
                have hex : ∃ n, bw_adj c n ∧ p = τ' 3 n - 1 := by
                  rcases q3 with z | z
                  · omega
                  · exact z
                obtain ⟨n, hn1, hn2⟩ := hex
                refine ⟨by omega, by omega, by omega, ih (c + 1) 1 _ _ (by omega) (by omega) (hs'.up ?_) ?_ h9' ?_ (Or.inr ⟨rfl, by omega⟩) (by omega)⟩
                · show (0 : Int) ≤ p ∧ p ≤ 15
                  omega
                · intro k a b; rw [← hk' k a b]; simp [jm_up, a]
                · exact mw_R_step hR' hcl ((hps c).mpr h5) hF (by omega) (by omega) hn1 (by omega)
              · have := hp0 h5; omega
            · rcases hm' with ⟨z1, z2⟩ | z
              · refine Or.inl ⟨z1, fun x a b hpx n hn2 => ?_⟩
                by_cases hxc : x = c
                · subst hxc
                  have := (hp5 ((hps x).mp hpx)).1 n hn2
                  omega
                · exact z2 x a (by omega) hpx n hn2
              · exact Or.inr z
          refine jm_Ok.go 60 [97] ?_
          refine ⟨fun _ => by omega, fun _ => ⟨by omega, fun b hb _ _ => ?_⟩⟩
          rw [e0] at hb
          refine ⟨fun hne => k97 0 (fun q => by omega) (fun _ => rfl), fun he => ⟨hcl, ?_⟩⟩
          rintro a τ' - ⟨⟨ha1, ha2, ha3⟩, rfl⟩
          rw [eF] at ha2 ha3
          refine ⟨by omega, k97 (a - 1) (fun _ => ⟨fun n hn => by have := ha2 n hn; omega, by omega, ?_⟩) (fun q => by omega)⟩
          rcases ha3 with z | ⟨n, z1, z2⟩
          · exact Or.inl (by omega)
          · exact Or.inr ⟨n, z1, by omega⟩
      refine jm_Ok.go 60 [68] ?_
      refine ⟨fun q => by omega, fun _ => ?_⟩
      exact inner 384 0 0 _ τ (by omega) (by omega) hsτ hk h9 hR (Or.inl ⟨rfl, fun x a b => by omega⟩) (Int.le_refl _)
  have init : σ 10 0 ≠ 1 → ∀ (n : Nat) (c : Int) (l2 l3 : Option jm_V) (τ : jm_S), 0 ≤ c → c + n = 384 → jm_okS D_M τ → (∀ k, k ≠ 3 → k ≠ 9 → τ k = σ k) → τ 9 0 = 1 → (∀ x, 0 ≤ x → x < c → τ 3 x = bw_bgP (σ 0) (σ 2) x) → jm_Ok D_M fi_M (jm_look L_M_findPower) k_M_findPower none Q 15 [some (.inr none), some (.inl c), l2, l3] [] τ := by
    intro h10 n
    induction n with
    | zero =>
      intro c l2 l3 τ hc0 hn hsτ hk h9 hb
      refine jm_Ok.go 60 [60] ?_
      refine ⟨fun _ => ?_, fun _ => by omega⟩
      have hR : mw_R (bw_ps (σ 0) 2) (bw_bgP (σ 0) (σ 2)) (τ 3) := by
        refine ⟨rgF τ hsτ, fun k hk2 _ => by rw [hb k hk2.1 (by omega)]; exact Int.le_refl _, fun k hk2 hp2 => ?_⟩
        rw [hb k hk2.1 (by omega)] at hp2 ⊢
        rcases Classical.em (σ 0 k = 5 ∧ bw_drv (σ 0) (σ 2) k) with q | q
        · exact ⟨(hps k).mpr q.1, Or.inl (Int.le_refl _)⟩
        · rw [bw_bgP_0 q] at hp2; omega
      exact outer h10 (5761 - bw_sum (τ 3) 384).toNat _ _ τ hsτ hk h9 hR (by have := bw_sum_le (rgF τ hsτ); omega)
    | succ n ih =>
      intro c l2 l3 τ hc0 hn hsτ hk h9 hb
      have hcl : bw_cl c := ⟨hc0, by omega⟩
      have e0 := hk 0 (by decide) (by decide)
      have e2 := hk 2 (by decide) (by decide)
      have k51 : ∀ v : Int, v = bw_bgP (σ 0) (σ 2) c → (0 ≤ v ∧ v ≤ 15) → jm_Ok D_M fi_M (jm_look L_M_findPower) k_M_findPower none Q 51 [some (.inr none), some (.inl c), l2, l3] [.inl v, .inl c, .inr (some 3)] τ := by
        intro v hv hvr
        refine jm_Ok.go 60 [15] ?_
        refine ⟨by omega, by omega, by omega, ih (c + 1) _ _ _ (by omega) (by omega) (hsτ.up hvr) ?_ h9 ?_⟩
        · intro k a b; rw [← hk k a b]; simp [jm_up, a]
        · intro x a b
          by_cases hxc : x = c
          · simp [jm_up, hxc, hv]
          · simp [jm_up, hxc]; exact hb x a (by omega)
      refine jm_Ok.go 60 [51] ?_
      refine ⟨fun _ => by omega, fun _ => ⟨by omega, fun b hb1 _ _ => ?_⟩⟩
      rw [e0] at hb1
      refine ⟨fun hne => k51 0 (bw_bgP_0 (fun q => by omega)).symm (by omega), fun he => ⟨hcl, ?_⟩⟩
      rintro r τ - ⟨hr, rfl⟩
      rw [e0, e2] at hr
      refine ⟨fun h0 => k51 0 (bw_bgP_0 (fun q => ?_)).symm (by omega), fun h1 => k51 15 (bw_bgP_1 ⟨by omega, ?_⟩).symm (by omega)⟩
      · rcases hr with z | z
        · omega
        · exact z.2 q.2
      · rcases hr with z | z
        · exact z.2
        · omega
  refine jm_Ok.go 60 [15] ?_
  refine fun v hv _ _ => ⟨fun h0 => ⟨by omega, ?_⟩, fun h1 => ?_⟩
  · have h10 : σ 10 0 ≠ 1 := fun q => by have := (hI.2.1 q).1; omega
    refine init h10 384 0 _ _ _ (by omega) (by omega) (hs.up (by decide)) ?_ (by simp [jm_up]) (fun x a b => by omega)
    intro k a b; simp [jm_up, b]
  · exact hQ _ _ ⟨hI, by omega, rfl, fun _ _ _ _ => rfl⟩
def sp_M_findLight : jm_K := (false, 0, true, fun as σ => (match as with
  | [] => mw_I σ
  | _ => False), fun as σ _ σ' => (match as with
  | [] => mw_I σ' ∧ σ' 9 0 = 1 ∧ σ' 10 0 = 1 ∧ bw_abs σ' = bw_abs σ ∧ (∀ k, k ≠ 2 → k ≠ 3 → k ≠ 4 → k ≠ 9 → k ≠ 10 → k ≠ 12 → σ' k = σ k)
  | _ => False))
def L_M_findLight : List (Nat × jm_K) := [(59, sp_M_findPower), (65, sp_M_spread)]
set_option maxHeartbeats 4000000 in
set_option maxRecDepth 100000 in
theorem con_M_findLight : jm_Con classes D_M 14 ks_M 1 y_M_findLight b_M_findLight 2 (jm_rt none) 4 sp_M_findLight := by
  refine jm_con2 (L := L_M_findLight) (code := k_M_findLight) CF_M rfl (by decide) ck_M_findLight ⟨⟨y_M_findPower, b_M_findPower, 4, jm_rt none, 3, by decide, con_M_findPower, lk_M_findPower _ _, rfl⟩, ⟨y_M_spread, b_M_spread, 7, jm_rt none, 2, by decide, con_M_spread, lk_M_spread _ _, rfl⟩, trivial⟩ (by decide) ?_
  intro σ as hl hr hs hp Q hQ
  obtain rfl := jm_a0 hl
  have hI : mw_I σ := hp
  have e41 : ∀ τ : jm_S, mw_F τ 1 = τ 4 := fun τ => rfl
  have init : ∀ ρ : jm_S, mw_I ρ → ρ 9 0 = 1 → bw_abs ρ = bw_abs σ → (∀ k, k ≠ 2 → k ≠ 3 → k ≠ 9 → ρ k = σ k) → ∀ (n : Nat) (c : Int) (τ : jm_S), 0 ≤ c → c + n = 384 → jm_okS D_M τ → (∀ k, k ≠ 4 → k ≠ 10 → τ k = ρ k) → τ 10 0 = 1 → (∀ x, 0 ≤ x → x < c → τ 4 x = bw_shn (ρ 0) (ρ 2) x) → jm_Ok D_M fi_M (jm_look L_M_findLight) k_M_findLight none Q 19 [some (.inr none), some (.inl c)] [] τ := by
    intro ρ hIρ h9 habs hkρ n
    induction n with
    | zero =>
      intro c τ hc0 hn hsτ hk h10 hb
      refine jm_Ok.go 60 [] ?_
      refine ⟨fun _ => ⟨Or.inl rfl, ?_⟩, fun _ => by omega⟩
      rintro _ τ' hs' ⟨g1, g2, g3, g4, g5⟩
      have e0 : τ' 0 = ρ 0 := (g1 0 (by decide) (by decide) (by decide)).trans (hk 0 (by decide) (by decide))
      have e1 : τ' 1 = ρ 1 := (g1 1 (by decide) (by decide) (by decide)).trans (hk 1 (by decide) (by decide))
      have e2 : τ' 2 = ρ 2 := (g1 2 (by decide) (by decide) (by decide)).trans (hk 2 (by decide) (by decide))
      have e3 : τ' 3 = ρ 3 := (g1 3 (by decide) (by decide) (by decide)).trans (hk 3 (by decide) (by decide))
      have e5 : τ' 5 = ρ 5 := (g2 rfl).trans (hk 5 (by decide) (by decide))
      have e6 : τ' 6 = ρ 6 := (g1 6 (by decide) (by decide) (by decide)).trans (hk 6 (by decide) (by decide))
      have e9 : τ' 9 = ρ 9 := (g1 9 (by decide) (by decide) (by decide)).trans (hk 9 (by decide) (by decide))
      have e10 : τ' 10 0 = 1 := by rw [g1 10 (by decide) (by decide) (by decide)]; exact h10
      have e11 : τ' 11 = ρ 11 := (g1 11 (by decide) (by decide) (by decide)).trans (hk 11 (by decide) (by decide))
      have ha : bw_abs τ' = bw_abs ρ := bw_abs_ext (fun x _ => by rw [e0]) (fun x _ => by rw [e1]) (fun x _ _ => by rw [e2])
      have hPρ := hIρ.1 h9
      have t0 : τ 0 = ρ 0 := hk 0 (by decide) (by decide)
      rw [t0, e41, e41] at g4
      rw [t0, e41] at g5
      have hR : mw_R (bw_ps (ρ 0) 0) (bw_shn (ρ 0) (ρ 2)) (τ 4) := by
        refine ⟨fun k hk2 => hsτ 4 k hk2.1 (Or.inl hk2.2), fun k hk2 _ => by rw [hb k hk2.1 (by omega)]; exact Int.le_refl _, fun k hk2 hp2 => ?_⟩
        rw [hb k hk2.1 (by omega)] at hp2 ⊢
        refine ⟨?_, Or.inl (Int.le_refl _)⟩
        unfold bw_shn at hp2
        unfold bw_ps
        right
        refine ⟨by decide, ?_⟩
        split at hp2
        · omega
        · split at hp2 <;> omega
      have hsol := mw_R_sol (g4 _ hR) g5
      have hL : mw_L τ' := by
        intro x hx
        rw [ha]
        exact bw_lgt_of (σ := ρ) (O := ρ 2) hsol (fun y hy h8 => (hPρ y hy).2 h8) x hx
      refine hQ _ _ ⟨⟨fun _ => ?_, fun _ => ⟨by rw [e9]; exact h9, hL⟩, fun q => ?_⟩, by rw [e9]; exact h9, e10, by rw [ha, habs], ?_⟩
      · intro x hx; rw [e0, e2, e3, ha]; exact hPρ x hx
      · rw [e11] at q
        intro x hx; rw [e5, e6, ha]; exact hIρ.2.2 q x hx
      · intro k q2 q3 q4 q9 q10 q12
        by_cases h5 : k = 5
        · subst h5; rw [e5]; exact hkρ 5 q2 q3 q9
        · rw [g1 k q4 h5 q12, hk k q4 q10, hkρ k q2 q3 q9]
    | succ n ih =>
      intro c τ hc0 hn hsτ hk h10 hb
      have hcl : bw_cl c := ⟨hc0, by omega⟩
      have e0 := hk 0 (by decide) (by decide)
      have e2 := hk 2 (by decide) (by decide)
      have k72 : ∀ v : Int, v = bw_shn (ρ 0) (ρ 2) c → (0 ≤ v ∧ v ≤ 15) → jm_Ok D_M fi_M (jm_look L_M_findLight) k_M_findLight none Q 72 [some (.inr none), some (.inl c)] [.inl v, .inl c, .inr (some 4)] τ := by
        intro v hv hvr
        refine jm_Ok.go 60 [19] ?_
        refine ⟨by omega, by omega, by omega, ih (c + 1) _ (by omega) (by omega) (hsτ.up hvr) ?_ h10 ?_⟩
        · intro k a b; rw [← hk k a b]; simp [jm_up, a]
        · intro x a b
          by_cases hxc : x = c
          · simp [jm_up, hxc, hv]
          · simp [jm_up, hxc]; exact hb x a (by omega)
      refine jm_Ok.go 60 [72] ?_
      refine ⟨fun _ => by omega, fun _ => ⟨by omega, fun b hb1 _ _ => ?_⟩⟩
      rw [e0] at hb1
      refine ⟨fun hne => ⟨by omega, fun b2 hb2 _ _ => ?_⟩, fun he => k72 14 ?_ (by omega)⟩
      · rw [e0] at hb2
        refine ⟨fun hne8 => k72 0 ?_ (by omega), fun he8 => ⟨by omega, fun o ho _ _ => ?_⟩⟩
        · unfold bw_shn; rw [if_neg (by omega), if_neg (by omega)]
        · rw [e2] at ho
          refine ⟨fun hz => k72 0 ?_ (by omega), fun hz => k72 12 ?_ (by omega)⟩
          · unfold bw_shn; rw [if_neg (by omega), if_neg (by omega)]
          · unfold bw_shn; rw [if_neg (by omega), if_pos (by omega)]
      · unfold bw_shn; rw [if_pos (by omega)]
  refine jm_Ok.go 60 [19] ?_
  refine ⟨hI, ?_⟩
  rintro _ ρ hsρ ⟨r1, r2, r3, r4⟩
  refine fun v hv _ _ => ⟨fun h0 => ⟨by omega, ?_⟩, fun h1 => ?_⟩
  · refine init ρ r1 r2 r3 r4 384 0 _ (by omega) (by omega) (hsρ.up (by decide)) ?_ (by simp [jm_up]) (fun x a b => by omega)
    intro k a b; simp [jm_up, b]
  · exact hQ _ _ ⟨r1, r2, by omega, r3, fun k q2 q3 _ q9 _ _ => r4 k q2 q3 q9⟩
theorem bw_open_rec {B : Int → Int} {c : Int} (hc : bw_cl c) : bw_open B c ↔ ¬ bw_op (B c) ∧ (320 ≤ c ∨ bw_open B (c + 64)) := by
  unfold bw_open
  constructor
  · intro h
    refine ⟨?_, ?_⟩
    · have := h (c / 64) (by omega) (by omega)
      rw [show 64 * (c / 64) + c % 64 = c by omega] at this
      exact this
    · by_cases q : 320 ≤ c
      · exact Or.inl q
      · right
        intro y h1 h2
        have := h y (by omega) h2
        rw [show (c + 64) % 64 = c % 64 by omega]
        exact this
  · rintro ⟨h1, h2⟩ y h3 h4
    by_cases hy : y = c / 64
    · rw [hy, show 64 * (c / 64) + c % 64 = c by omega]; exact h1
    · rcases h2 with q | q
      · omega
      · have := q y (by omega) h4
        rw [show (c + 64) % 64 = c % 64 by omega] at this
        exact this
def sp_M_findSky : jm_K := (false, 0, true, fun as σ => (match as with
  | [] => mw_I σ
  | _ => False), fun as σ _ σ' => (match as with
  | [] => mw_I σ' ∧ σ' 11 0 = 1 ∧ bw_abs σ' = bw_abs σ ∧ (∀ k, k ≠ 5 → k ≠ 6 → k ≠ 11 → k ≠ 12 → σ' k = σ k)
  | _ => False))
def L_M_findSky : List (Nat × jm_K) := [(72, sp_M_opaque), (65, sp_M_spread)]
set_option maxHeartbeats 4000000 in
set_option maxRecDepth 100000 in
theorem con_M_findSky : jm_Con classes D_M 14 ks_M 1 y_M_findSky b_M_findSky 2 (jm_rt none) 3 sp_M_findSky := by
  refine jm_con2 (L := L_M_findSky) (code := k_M_findSky) CF_M rfl (by decide) ck_M_findSky ⟨⟨y_M_opaque, b_M_opaque, 2, jm_rt (some true), 0, by decide, con_M_opaque, lk_M_opaque _ _, rfl⟩, ⟨y_M_spread, b_M_spread, 7, jm_rt none, 2, by decide, con_M_spread, lk_M_spread _ _, rfl⟩, trivial⟩ (by decide) ?_
  intro σ as hl hr hs hp Q hQ
  obtain rfl := jm_a0 hl
  have hI : mw_I σ := hp
  have e52 : ∀ τ : jm_S, mw_F τ 2 = τ 5 := fun τ => rfl
  have init : ∀ (n : Nat) (c : Int) (τ : jm_S), c = (n : Int) - 1 → c ≤ 383 → jm_okS D_M τ → (∀ k, k ≠ 5 → k ≠ 6 → k ≠ 11 → τ k = σ k) → τ 11 0 = 1 → (∀ x, c < x → x < 384 → (τ 6 x = 1 ↔ bw_open (σ 0) x) ∧ τ 5 x = bw_bgO (σ 0) x) → jm_Ok D_M fi_M (jm_look L_M_findSky) k_M_findSky none Q 17 [some (.inr none), some (.inl c)] [] τ := by
    intro n
    induction n with
    | zero =>
      intro c τ hc hc3 hsτ hk h11 hb
      refine jm_Ok.go 60 [] ?_
      refine ⟨fun _ => ⟨Or.inr rfl, ?_⟩, fun _ => by omega⟩
      rintro _ τ' hs' ⟨g1, g2, g3, g4, g5⟩
      have e0 : τ' 0 = σ 0 := (g1 0 (by decide) (by decide) (by decide)).trans (hk 0 (by decide) (by decide) (by decide))
      have e1 : τ' 1 = σ 1 := (g1 1 (by decide) (by decide) (by decide)).trans (hk 1 (by decide) (by decide) (by decide))
      have e2 : τ' 2 = σ 2 := (g1 2 (by decide) (by decide) (by decide)).trans (hk 2 (by decide) (by decide) (by decide))
      have e3 : τ' 3 = σ 3 := (g1 3 (by decide) (by decide) (by decide)).trans (hk 3 (by decide) (by decide) (by decide))
      have e4 : τ' 4 = σ 4 := (g3 rfl).trans (hk 4 (by decide) (by decide) (by decide))
      have e6 : τ' 6 = τ 6 := g1 6 (by decide) (by decide) (by decide)
      have e9 : τ' 9 = σ 9 := (g1 9 (by decide) (by decide) (by decide)).trans (hk 9 (by decide) (by decide) (by decide))
      have e10 : τ' 10 = σ 10 := (g1 10 (by decide) (by decide) (by decide)).trans (hk 10 (by decide) (by decide) (by decide))
      have e11 : τ' 11 0 = 1 := by rw [g1 11 (by decide) (by decide) (by decide)]; exact h11
      have ha : bw_abs τ' = bw_abs σ := bw_abs_ext (fun x _ => by rw [e0]) (fun x _ => by rw [e1]) (fun x _ _ => by rw [e2])
      have t0 : τ 0 = σ 0 := hk 0 (by decide) (by decide) (by decide)
      rw [t0, e52, e52] at g4
      rw [t0, e52] at g5
      have hb5 : ∀ x, bw_cl x → τ 5 x = bw_bgO (σ 0) x := fun x hx => (hb x (by omega) hx.2).2
      have hR : mw_R (bw_ps (σ 0) 1) (bw_bgO (σ 0)) (τ 5) := by
        refine ⟨fun k hk2 => hsτ 5 k hk2.1 (Or.inl hk2.2), fun k hk2 _ => by rw [hb5 k hk2]; exact Int.le_refl _, fun k hk2 hp2 => ?_⟩
        rw [hb5 k hk2] at hp2 ⊢
        refine ⟨?_, Or.inl (Int.le_refl _)⟩
        rcases Classical.em (bw_open (σ 0) k) with q | q
        · unfold bw_ps
          exact Or.inr ⟨by decide, ((bw_open_rec hk2).mp q).1⟩
        · rw [bw_bgO_0 q] at hp2; omega
      have hsol := mw_R_sol (g4 _ hR) g5
      have hS : mw_S τ' := by
        intro x hx
        rw [ha, e6, (hb x (by omega) hx.2).1]
        exact ⟨bw_sky_of (σ := σ) (bg := bw_bgO (σ 0)) hsol (fun _ _ => rfl) x hx, bw_open_cg hx (fun y hy => bw_abs_0 hy)⟩
      refine hQ _ _ ⟨⟨fun q => ?_, fun q => ?_, fun _ => hS⟩, e11, ha, ?_⟩
      · rw [e9] at q
        intro x hx; rw [e0, e2, e3, ha]; exact hI.1 q x hx
      · rw [e10] at q
        rw [e9]
        refine ⟨(hI.2.1 q).1, fun x hx => ?_⟩
        rw [e4, ha]; exact (hI.2.1 q).2 x hx
      · intro k q5 q6 q11 q12
        by_cases h4 : k = 4
        · subst h4; exact e4
        · rw [g1 k h4 q5 q12, hk k q5 q6 q11]
    | succ n ih =>
      intro c τ hc hc3 hsτ hk h11 hb
      have hcl : bw_cl c := by omega
      have e0 := hk 0 (by decide) (by decide) (by decide)
      have hrec := bw_open_rec (B := σ 0) hcl
      have k58 : ∀ v : Int, (v = 0 ∨ v = 1) → (v = 1 ↔ bw_open (σ 0) c) → jm_Ok D_M fi_M (jm_look L_M_findSky) k_M_findSky none Q 58 [some (.inr none), some (.inl c)] [.inl v, .inl c, .inr (some 6)] τ := by
        intro v hv01 hv
        have k79 : ∀ w : Int, w = bw_bgO (σ 0) c → (0 ≤ w ∧ w ≤ 15) → jm_Ok D_M fi_M (jm_look L_M_findSky) k_M_findSky none Q 79 [some (.inr none), some (.inl c)] [.inl w, .inl c, .inr (some 5)] (jm_up τ 6 c v) := by
          intro w hw hwr
          refine jm_Ok.go 60 [17] ?_
          refine ⟨by omega, by omega, by omega, ih (c + -1) _ (by omega) (by omega) ((hsτ.up ?_).up hwr) ?_ h11 ?_⟩
          · show (0 : Int) ≤ v ∧ v ≤ 1
            omega
          · intro k q5 q6 q11; rw [← hk k q5 q6 q11]; simp [jm_up, q5, q6]
          · intro x a b
            by_cases hxc : x = c
            · subst hxc
              simp [jm_up]
              exact ⟨hv, hw⟩
            · have := hb x (by omega) b
              simpa [jm_up, hxc] using this
        refine jm_Ok.go 60 [79] ?_
        refine ⟨by omega, by omega, by omega, fun u hu _ _ => ?_⟩
        have hu : u = v := by rw [hu]; simp [jm_up]
        refine ⟨fun hz => k79 0 ?_ (by omega), fun hz => k79 15 ?_ (by omega)⟩
        · rw [bw_bgO_0 (fun q => by have := hv.mpr q; omega)]
        · rw [bw_bgO_1 (hv.mp (by omega))]
      refine jm_Ok.go 60 [58] ?_
      refine ⟨fun _ => by omega, fun _ => ⟨hcl, ?_⟩⟩
      rintro r τ - ⟨hr, rfl⟩
      rw [e0] at hr
      refine ⟨fun h1 => k58 0 (Or.inl rfl) ⟨fun q => by omega, fun q => ?_⟩, fun h0 => ?_⟩
      · rcases hr with z | z
        · exact absurd z.2 (hrec.mp q).1
        · omega
      · have hnop : ¬ bw_op (σ 0 c) := by
          rcases hr with z | z
          · omega
          · exact z.2
        refine ⟨fun h320 => k58 1 (Or.inr rfl) ⟨fun _ => hrec.mpr ⟨hnop, Or.inl h320⟩, fun _ => rfl⟩, fun h320 => ⟨by omega, by omega, fun o ho _ _ => ?_⟩⟩
        have h6 := (hb (c + 64) (by omega) (by omega)).1
        refine ⟨fun hz => k58 0 (Or.inl rfl) ⟨fun q => by omega, fun q => ?_⟩, fun hz => k58 1 (Or.inr rfl) ⟨fun _ => hrec.mpr ⟨hnop, Or.inr (h6.mp (by omega))⟩, fun _ => rfl⟩⟩
        rcases (hrec.mp q).2 with z | z
        · omega
        · have := h6.mpr z; omega
  refine jm_Ok.go 60 [17] ?_
  refine fun v hv _ _ => ⟨fun h0 => ⟨by omega, ?_⟩, fun h1 => ?_⟩
  · refine init 384 383 _ (by omega) (by omega) (hs.up (by decide)) ?_ (by simp [jm_up]) (fun x a b => by omega)
    intro k a b c; simp [jm_up, c]
  · exact hQ _ _ ⟨hI, by omega, rfl, fun _ _ _ _ _ => rfl⟩
end
section
/-! the reference: become, put, fill, invert, fall -/
def sp_M_become : jm_K := (false, 2, true, fun as _ => (match as with
  | [c, b] => bw_cl c ∧ 0 ≤ b ∧ b < 10
  | _ => False), fun as σ _ σ' => (match as with
  | [c, b] => mw_I σ' ∧ bw_abs σ' = bw_st (bw_abs σ) c b ∧ σ' 13 = σ 13
  | _ => False))
def L_M_become : List (Nat × jm_K) := []
set_option maxHeartbeats 4000000 in
set_option maxRecDepth 100000 in
theorem con_M_become : jm_Con classes D_M 14 ks_M 1 y_M_become b_M_become 3 (jm_rt none) 0 sp_M_become := by
  refine jm_con2 (L := L_M_become) (code := k_M_become) CF_M rfl (by decide) ck_M_become trivial (by decide) ?_
  intro σ as hl hr hs hp Q hQ
  obtain ⟨c, b, rfl⟩ := jm_a2 hl
  obtain ⟨hc, hb⟩ := hp
  have fin : ∀ v : Int, (v = if b = 7 then 1 else 0) → jm_Ok D_M fi_M (jm_look L_M_become) k_M_become none Q 30 [some (.inr none), some (.inl c), some (.inl b)] [.inl v, .inl c, .inr (some 2)] (jm_up (jm_up σ 0 c b) 1 c 0) := by
    intro v hv
    refine jm_Ok.go 60 [] ?_
    refine ⟨by omega, by split at hv <;> omega, by omega, by omega, by omega, hQ _ _ ⟨⟨fun q => ?_, fun q => ?_, fun q => ?_⟩, ?_, ?_⟩⟩
    · simp [jm_up] at q
    · simp [jm_up] at q
    · simp [jm_up] at q
    · refine bw_abs_st hc (fun x _ => by simp [jm_up]) (fun x _ => by simp [jm_up]) (fun x _ hx _ => by simp [jm_up, hx]) (fun q => ?_)
      simp [jm_up, hv, q]
    · simp [jm_up]
  refine jm_Ok.go 60 [30] ?_
  refine ⟨by omega, by omega, by omega, by omega, ⟨fun h => fin 0 (by rw [if_neg h]), fun h => fin 1 (by rw [if_pos h])⟩⟩
def sp_M_put : jm_K := (false, 4, false, fun as σ => (match as with
  | [_, _, _, _] => mw_I σ
  | _ => False), fun as σ r σ' => (match as with
  | [x, y, z, b] => (bw_fit x y z b ∧ r = (bw_abs σ).1 (x + 8 * z + 64 * y) ∧ mw_I σ' ∧ bw_abs σ' = bw_st (bw_abs σ) (x + 8 * z + 64 * y) b ∧ σ' 13 = σ 13) ∨ (¬ bw_fit x y z b ∧ r = -1 ∧ σ' = σ)
  | _ => False))
def L_M_put : List (Nat × jm_K) := [(82, sp_M_isCell), (78, sp_M_among), (86, sp_M_number), (90, sp_M_become)]
set_option maxHeartbeats 4000000 in
set_option maxRecDepth 100000 in
theorem con_M_put : jm_Con classes D_M 14 ks_M 1 y_M_put b_M_put 7 (jm_rt (some false)) 2 sp_M_put := by
  refine jm_con2 (L := L_M_put) (code := k_M_put) CF_M rfl (by decide) ck_M_put ⟨⟨y_M_isCell, b_M_isCell, 4, jm_rt (some true), 1, by decide, con_M_isCell, lk_M_isCell _ _, rfl⟩, ⟨y_M_among, b_M_among, 3, jm_rt (some true), 0, by decide, con_M_among, lk_M_among _ _, rfl⟩, ⟨y_M_number, b_M_number, 4, jm_rt (some false), 0, by decide, con_M_number, lk_M_number _ _, rfl⟩, ⟨y_M_become, b_M_become, 3, jm_rt none, 0, by decide, con_M_become, lk_M_become _ _, rfl⟩, trivial⟩ (by decide) ?_
  intro σ as hl hr hs hp Q hQ
  obtain ⟨x, y, z, b, rfl⟩ := jm_a4 hl
  have hI : mw_I σ := hp
  refine jm_Ok.go 60 [] ?_
  refine ⟨trivial, ?_⟩
  rintro r σ - ⟨hr, rfl⟩
  refine ⟨fun h0 => hQ _ _ (Or.inr ⟨by unfold bw_fit; omega, rfl, rfl⟩), fun h1 => ⟨trivial, ?_⟩⟩
  rintro r2 σ - ⟨hr2, rfl⟩
  refine ⟨fun h2 => ?_, fun h2 => hQ _ _ (Or.inr ⟨by unfold bw_fit; omega, rfl, rfl⟩)⟩
  have hf : bw_fit x y z b := by unfold bw_fit; omega
  have hc : bw_cl (x + 8 * z + 64 * y) := by unfold bw_fit at hf; omega
  refine ⟨by omega, ?_⟩
  rintro c σ - ⟨rfl, rfl⟩
  refine ⟨by omega, fun old hold _ _ => ⟨⟨hc, by omega⟩, ?_⟩⟩
  rintro _ σ' hs' ⟨g1, g2, g3⟩
  exact hQ _ _ (Or.inl ⟨hf, by rw [bw_abs_0 hc]; exact hold, g1, g2, g3⟩)
def sp_M_fill : jm_K := (false, 7, false, fun as σ => (match as with
  | [_, _, _, _, _, _, _] => mw_I σ
  | _ => False), fun as σ r σ' => (match as with
  | [x, y, z, u, v, w, b] => ((bw_fit x y z b ∧ bw_fit u v w b ∧ x ≤ u ∧ y ≤ v ∧ z ≤ w) ∧ r = bw_cnt (fun c => bw_box x y z u v w c && decide ((bw_abs σ).1 c ≠ b)) 384 ∧ mw_I σ' ∧ bw_abs σ' = bw_fl (bw_box x y z u v w) b 384 (bw_abs σ) ∧ σ' 13 = σ 13) ∨ (¬ (bw_fit x y z b ∧ bw_fit u v w b ∧ x ≤ u ∧ y ≤ v ∧ z ≤ w) ∧ r = -1 ∧ σ' = σ)
  | _ => False))
def L_M_fill : List (Nat × jm_K) := [(82, sp_M_isCell), (78, sp_M_among), (90, sp_M_become)]
set_option maxHeartbeats 4000000 in
set_option maxRecDepth 100000 in
theorem con_M_fill : jm_Con classes D_M 14 ks_M 1 y_M_fill b_M_fill 11 (jm_rt (some false)) 2 sp_M_fill := by
  refine jm_con2 (L := L_M_fill) (code := k_M_fill) CF_M rfl (by decide) ck_M_fill ⟨⟨y_M_isCell, b_M_isCell, 4, jm_rt (some true), 1, by decide, con_M_isCell, lk_M_isCell _ _, rfl⟩, ⟨y_M_among, b_M_among, 3, jm_rt (some true), 0, by decide, con_M_among, lk_M_among _ _, rfl⟩, ⟨y_M_become, b_M_become, 3, jm_rt none, 0, by decide, con_M_become, lk_M_become _ _, rfl⟩, trivial⟩ (by decide) ?_
  intro σ as hl hr hs hp Q hQ
  obtain ⟨x, y, z, u, v, w, b, rfl⟩ := jm_a7 hl
  have hI : mw_I σ := hp
  have nofit : ¬ (bw_fit x y z b ∧ bw_fit u v w b ∧ x ≤ u ∧ y ≤ v ∧ z ≤ w) → ∀ l8 l9 l10 : Option jm_V, jm_Ok D_M fi_M (jm_look L_M_fill) k_M_fill (some false) Q 52 [some (.inr none), some (.inl x), some (.inl y), some (.inl z), some (.inl u), some (.inl v), some (.inl w), some (.inl b), l8, l9, l10] [] σ := by
    intro hn l8 l9 l10
    refine jm_Ok.go 60 [] ?_
    exact hQ _ _ (Or.inr ⟨hn, rfl, rfl⟩)
  have loop : (bw_fit x y z b ∧ bw_fit u v w b ∧ x ≤ u ∧ y ≤ v ∧ z ≤ w) → ∀ (n m : Nat) (many c : Int) (l10 : Option jm_V) (τ : jm_S), c = m → m + n = 384 → mw_I τ → bw_abs τ = bw_fl (bw_box x y z u v w) b m (bw_abs σ) → many = bw_cnt (fun c => bw_box x y z u v w c && decide ((bw_abs σ).1 c ≠ b)) m → τ 13 = σ 13 → jm_Ok D_M fi_M (jm_look L_M_fill) k_M_fill (some false) Q 60 [some (.inr none), some (.inl x), some (.inl y), some (.inl z), some (.inl u), some (.inl v), some (.inl w), some (.inl b), some (.inl many), some (.inl c), l10] [] τ := by
    intro hf n
    induction n with
    | zero =>
      intro m many c l10 τ hc hm hIτ ha hmany h13
      have hm : m = 384 := by omega
      subst hm
      refine jm_Ok.go 60 [] ?_
      exact ⟨fun _ => hQ _ _ (Or.inl ⟨hf, hmany, hIτ, ha, h13⟩), fun _ => by omega⟩
    | succ n ih =>
      intro m many c l10 τ hc hm hIτ ha hmany h13
      have hcl : bw_cl c := by omega
      have hmr := bw_cnt_rg (fun c => bw_box x y z u v w c && decide ((bw_abs σ).1 c ≠ b)) m
      have eb : τ 0 c = (bw_abs σ).1 c := by
        rw [← bw_abs_0 (σ := τ) hcl, ha, bw_fl_hi _ _ _ _ _ (by omega)]
      have k136 : ∀ i : Int, ((i = 1 ∧ bw_box x y z u v w c = true) ∨ (i = 0 ∧ bw_box x y z u v w c = false)) → jm_Ok D_M fi_M (jm_look L_M_fill) k_M_fill (some false) Q 136 [some (.inr none), some (.inl x), some (.inl y), some (.inl z), some (.inl u), some (.inl v), some (.inl w), some (.inl b), some (.inl many), some (.inl c), l10] [.inl i] τ := by
        intro i hi
        refine jm_Ok.go 60 [60, 161] ?_
        refine ⟨fun h1 => ?_, fun h0 => ?_⟩
        · have hb : bw_box x y z u v w c = true := by
            rcases hi with z | z
            · exact z.2
            · omega
          have go : ∀ (many' : Int), many' = bw_cnt (fun c => bw_box x y z u v w c && decide ((bw_abs σ).1 c ≠ b)) (m + 1) → jm_Ok D_M fi_M (jm_look L_M_fill) k_M_fill (some false) Q 161 [some (.inr none), some (.inl x), some (.inl y), some (.inl z), some (.inl u), some (.inl v), some (.inl w), some (.inl b), some (.inl many'), some (.inl c), some (.inl i)] [] τ := by
            intro many' hm'
            refine jm_Ok.go 60 [60] ?_
            refine ⟨⟨hcl, by unfold bw_fit at hf; omega⟩, ?_⟩
            rintro _ τ1 hs1 ⟨g1, g2, g3⟩
            refine ⟨by omega, ih (m + 1) many' (c + 1) _ τ1 (by omega) (by omega) g1 ?_ hm' (by rw [g3, h13])⟩
            rw [g2, ha]
            rw [hc] at hb ⊢
            simp [bw_fl, hb]
          refine ⟨by omega, fun o ho _ _ => ⟨fun heq => go many ?_, fun hne => ⟨by omega, go (many + 1) ?_⟩⟩⟩
          · have : (bw_abs σ).1 (m : Int) = b := by rw [← hc, ← eb, ← ho]; exact heq
            rw [hmany]; simp [bw_cnt, this]
          · have : ¬ (bw_abs σ).1 (m : Int) = b := by rw [← hc, ← eb, ← ho]; exact hne
            rw [hc] at hb
            rw [hmany]; simp [bw_cnt, this, hb]
        · have hb : bw_box x y z u v w c = false := by
            rcases hi with z | z
            · omega
            · exact z.2
          rw [hc] at hb
          refine ⟨by omega, ih (m + 1) many (c + 1) _ τ (by omega) (by omega) hIτ ?_ ?_ h13⟩
          · rw [ha]; simp [bw_fl, hb]
          · rw [hmany]; simp [bw_cnt, hb]
      have no : bw_box x y z u v w c = false → jm_Ok D_M fi_M (jm_look L_M_fill) k_M_fill (some false) Q 135 [some (.inr none), some (.inl x), some (.inl y), some (.inl z), some (.inl u), some (.inl v), some (.inl w), some (.inl b), some (.inl many), some (.inl c), l10] [] τ := by
        intro hb
        refine jm_Ok.go 60 [136] ?_
        exact k136 0 (Or.inr ⟨rfl, hb⟩)
      refine jm_Ok.go 60 [135, 136] ?_
      refine ⟨fun _ => by omega, fun _ => ⟨by omega, ?_⟩⟩
      refine ⟨fun h => no (by unfold bw_box; exact decide_eq_false (by omega)), fun h1 => ⟨by omega, ⟨fun h => no (by unfold bw_box; exact decide_eq_false (by omega)), fun h2 => ⟨by omega, by omega, ⟨fun h => no (by unfold bw_box; exact decide_eq_false (by omega)), fun h3 => ⟨by omega, by omega, ⟨fun h => no (by unfold bw_box; exact decide_eq_false (by omega)), fun h4 => ⟨by omega, ⟨fun h => no (by unfold bw_box; exact decide_eq_false (by omega)), fun h5 => ⟨by omega, ⟨fun h => no (by unfold bw_box; exact decide_eq_false (by omega)), fun h6 => ?_⟩⟩⟩⟩⟩⟩⟩⟩⟩⟩⟩
      exact k136 1 (Or.inl ⟨rfl, by unfold bw_box; exact decide_eq_true (by omega)⟩)
  refine jm_Ok.go 60 [52, 60] ?_
  refine ⟨trivial, ?_⟩
  rintro r1 σ - ⟨hr1, rfl⟩
  refine ⟨fun h => nofit (by unfold bw_fit; omega) _ _ _, fun h1 => ⟨trivial, ?_⟩⟩
  rintro r2 σ - ⟨hr2, rfl⟩
  refine ⟨fun h => nofit (by unfold bw_fit; omega) _ _ _, fun h2 => ⟨trivial, ?_⟩⟩
  rintro r3 σ - ⟨hr3, rfl⟩
  refine ⟨fun h => nofit (by unfold bw_fit; omega) _ _ _, fun h3 => ⟨fun h => nofit (by unfold bw_fit; omega) _ _ _, fun h4 => ⟨fun h => nofit (by unfold bw_fit; omega) _ _ _, fun h5 => ⟨fun h6 => ?_, fun h => nofit (by unfold bw_fit; omega) _ _ _⟩⟩⟩⟩
  exact loop (by unfold bw_fit; omega) 384 0 0 0 _ σ (by omega) (by omega) hI rfl rfl rfl
theorem bw_st_comm {a : bw_X} {c d b e : Int} (h : c ≠ d) : bw_st (bw_st a c b) d e = bw_st (bw_st a d e) c b := by
  have key : ∀ (f : Int → Int) (p q : Int), (fun x => if x = d then q else if x = c then p else f x) = (fun x => if x = c then p else if x = d then q else f x) := by
    intro f p q
    funext x
    by_cases hc : x = c
    · subst hc; rw [if_neg h, if_pos rfl, if_pos rfl]
    · by_cases hd : x = d
      · subst hd; rw [if_pos rfl, if_neg hc, if_pos rfl]
      · rw [if_neg hd, if_neg hc, if_neg hc, if_neg hd]
  exact Prod.ext (key _ _ _) (Prod.ext (key _ _ _) (key _ _ _))
def sp_M_fall : jm_K := (false, 0, false, fun as σ => (match as with
  | [] => mw_I σ ∧ σ 13 2 ≤ 2000000000
  | _ => False), fun as σ r σ' => (match as with
  | [] => r = (bw_ff (bw_abs σ)).2 ∧ mw_I σ' ∧ bw_abs σ' = (bw_ff (bw_abs σ)).1 ∧ ∀ j, σ' 13 j = if j = 2 then σ 13 2 + (bw_ff (bw_abs σ)).2 else σ 13 j
  | _ => False))
def L_M_fall : List (Nat × jm_K) := [(90, sp_M_become)]
set_option maxHeartbeats 4000000 in
set_option maxRecDepth 100000 in
theorem con_M_fall : jm_Con classes D_M 14 ks_M 1 y_M_fall b_M_fall 3 (jm_rt (some false)) 1 sp_M_fall := by
  refine jm_con2 (L := L_M_fall) (code := k_M_fall) CF_M rfl (by decide) ck_M_fall ⟨⟨y_M_become, b_M_become, 3, jm_rt none, 0, by decide, con_M_become, lk_M_become _ _, rfl⟩, trivial⟩ (by decide) ?_
  intro σ as hl hr hs hp Q hQ
  obtain rfl := jm_a0 hl
  obtain ⟨hI, hh⟩ : mw_I σ ∧ σ 13 2 ≤ 2000000000 := hp
  have h2 : 0 ≤ σ 13 2 := (hs 13 2 (by omega) (Or.inl (by show _ < (5 : Int); omega))).1
  have loop : ∀ (n m : Nat) (many c : Int) (τ : jm_S), c = 64 + m → m + n = 320 → mw_I τ → bw_abs τ = (bw_fa m (bw_abs σ)).1 → many = (bw_fa m (bw_abs σ)).2 → τ 13 = σ 13 → jm_Ok D_M fi_M (jm_look L_M_fall) k_M_fall (some false) Q 5 [some (.inr none), some (.inl many), some (.inl c)] [] τ := by
    intro n
    induction n with
    | zero =>
      intro m many c τ hc hm hIτ ha hmany h13
      have hm : m = 320 := by omega
      subst hm
      have hr := bw_fa_rg (bw_abs σ) 320
      refine jm_Ok.go 60 [] ?_
      refine ⟨fun _ => ⟨by omega, fun v hv _ _ => ?_⟩, fun _ => by omega⟩
      rw [h13] at hv
      refine ⟨by omega, by omega, by omega, hQ _ _ ⟨hmany, hIτ, ha, fun j => ?_⟩⟩
      by_cases hj : j = 2
      · rw [if_pos hj, hj]; simp [jm_up]; rw [hv, hmany]; rfl
      · rw [if_neg hj]; simp [jm_up, hj, h13]
    | succ n ih =>
      intro m many c τ hc hm hIτ ha hmany h13
      have hcl : bw_cl c := by omega
      have hcl2 : bw_cl (c - 64) := by omega
      have hmr := bw_fa_rg (bw_abs σ) m
      have e1 : τ 0 c = (bw_fa m (bw_abs σ)).1.1 (64 + (m : Int)) := by rw [← bw_abs_0 (σ := τ) hcl, ha, hc]
      have e2 : τ 0 (c - 64) = (bw_fa m (bw_abs σ)).1.1 (m : Int) := by rw [← bw_abs_0 (σ := τ) hcl2, ha, hc, show (64 + (m : Int) - 64) = m by omega]
      have skip : ¬ (τ 0 c = 4 ∧ τ 0 (c - 64) = 0) → jm_Ok D_M fi_M (jm_look L_M_fall) k_M_fall (some false) Q 55 [some (.inr none), some (.inl many), some (.inl c)] [] τ := by
        intro hn
        rw [e1, e2] at hn
        refine jm_Ok.go 60 [5] ?_
        refine ⟨by omega, ih (m + 1) many (c + 1) τ (by omega) (by omega) hIτ ?_ ?_ h13⟩
        · rw [ha]; conv => rhs; unfold bw_fa
          rw [if_neg hn]
        · rw [hmany]; conv => rhs; unfold bw_fa
          rw [if_neg hn]
      refine jm_Ok.go 60 [55] ?_
      refine ⟨fun _ => by omega, fun _ => ⟨by omega, fun b hb _ _ => ⟨fun h4 => skip (by omega), fun h4 => ?_⟩⟩⟩
      refine ⟨by omega, by omega, fun b2 hb2 _ _ => ⟨fun h0 => ?_, fun h0 => skip (by omega)⟩⟩
      have hy : (bw_fa m (bw_abs σ)).1.1 (64 + (m : Int)) = 4 ∧ (bw_fa m (bw_abs σ)).1.1 (m : Int) = 0 := by omega
      refine ⟨by omega, ⟨hcl2, by omega⟩, ?_⟩
      rintro _ τ1 hs1 ⟨g1, g2, g3⟩
      refine ⟨⟨hcl, by omega⟩, ?_⟩
      rintro _ τ2 hs2 ⟨g4, g5, g6⟩
      refine ⟨by omega, ?_⟩
      refine jm_Ok.go 60 [5] ?_
      refine ⟨by omega, ih (m + 1) (many + 1) (c + 1) τ2 (by omega) (by omega) g4 ?_ ?_ ?_⟩
      · rw [g5, g2, ha, bw_st_comm (by omega)]
        conv => rhs; unfold bw_fa
        rw [if_pos hy, hc, show (64 + (m : Int) - 64) = m by omega]
      · rw [hmany]; conv => rhs; unfold bw_fa
        rw [if_pos hy]
      · rw [g6, g3, h13]
  refine jm_Ok.go 60 [5] ?_
  exact loop 320 0 0 64 σ (by omega) (by omega) hI rfl rfl rfl
def sp_M_invert : jm_K := (false, 0, false, fun as σ => (match as with
  | [] => mw_I σ ∧ σ 13 1 ≤ 2000000000
  | _ => False), fun as σ r σ' => (match as with
  | [] => r = bw_in (bw_abs σ) ∧ mw_I σ' ∧ bw_abs σ' = bw_iv (bw_abs σ) ∧ ∀ j, σ' 13 j = if j = 1 then σ 13 1 + bw_in (bw_abs σ) else σ 13 j
  | _ => False))
theorem bw_d1_01 (a : bw_X) (x : Int) : bw_d1 a x = 0 ∨ bw_d1 a x = 1 := by unfold bw_d1; split <;> omega
theorem bw_d1_iff (a : bw_X) (x : Int) : bw_d1 a x = 1 ↔ bw_due a.1 (bw_on a) (bw_pow a) x := by
  unfold bw_d1
  split
  · rename_i q; exact ⟨fun _ => q, fun _ => rfl⟩
  · rename_i q; exact ⟨fun z => by omega, fun z => absurd z q⟩
theorem mw_quiet {τ : jm_S} (h : mw_P τ) {x : Int} (hx : bw_cl x) : (x - 64 < 0 ∨ (τ 0 (x - 64) ≠ 6 ∧ (τ 0 (x - 64) ≠ 5 ∨ τ 3 (x - 64) = 0) ∧ ((τ 0 (x - 64) ≠ 7 ∧ τ 0 (x - 64) ≠ 8) ∨ τ 2 (x - 64) = 0))) ↔ bw_due (bw_abs τ).1 (bw_on (bw_abs τ)) (bw_pow (bw_abs τ)) x := by
  unfold bw_due
  rcases Int.lt_or_le x 64 with q | q
  · constructor <;> (intro _; left; omega)
  · have hy : bw_cl (x - 64) := by omega
    obtain ⟨p1, p2⟩ := h (x - 64) hy
    rw [bw_abs_0 hy, ← p1]
    by_cases h7 : τ 0 (x - 64) = 7
    · rw [bw_on_7 (by rw [bw_abs_0 hy]; exact h7), bw_abs_2 hy h7]; omega
    · by_cases h8 : τ 0 (x - 64) = 8
      · rw [← p2 h8]; omega
      · rw [bw_on_0 (by rw [bw_abs_0 hy]; exact h7) (fun z => h8 (by rw [← bw_abs_0 (σ := τ) hy]; exact z.1))]; omega
def L_M_invert : List (Nat × jm_K) := [(59, sp_M_findPower), (100, sp_M_quiet)]
set_option maxHeartbeats 4000000 in
set_option maxRecDepth 100000 in
theorem con_M_invert : jm_Con classes D_M 14 ks_M 1 y_M_invert b_M_invert 3 (jm_rt (some false)) 4 sp_M_invert := by
  refine jm_con2 (L := L_M_invert) (code := k_M_invert) CF_M rfl (by decide) ck_M_invert ⟨⟨y_M_findPower, b_M_findPower, 4, jm_rt none, 3, by decide, con_M_findPower, lk_M_findPower _ _, rfl⟩, ⟨y_M_quiet, b_M_quiet, 3, jm_rt (some true), 0, by decide, con_M_quiet, lk_M_quiet _ _, rfl⟩, trivial⟩ (by decide) ?_
  intro σ as hl hr hs hp Q hQ
  obtain rfl := jm_a0 hl
  obtain ⟨hI, hh⟩ : mw_I σ ∧ σ 13 1 ≤ 2000000000 := hp
  have h1 : 0 ≤ σ 13 1 := (hs 13 1 (by omega) (Or.inl (by show _ < (5 : Int); omega))).1
  obtain ⟨a, hadef⟩ : ∃ a, a = bw_abs σ := ⟨_, rfl⟩
  have loop2 : ∀ ρ : jm_S, mw_I ρ → mw_P ρ → bw_abs ρ = a → ρ 13 = σ 13 → (∀ x, bw_cl x → ρ 7 x = bw_d1 a x) → ∀ (n m : Nat) (many c : Int) (τ : jm_S), c = m → m + n = 384 → jm_okS D_M τ → (∀ k, k ≠ 2 → τ k = ρ k) → many = bw_cnt (fun x => decide (a.1 x = 7 ∧ a.2.2 x ≠ bw_d1 a x)) m → (∀ x, bw_cl x → τ 2 x = if x < c ∧ ρ 0 x = 7 then bw_d1 a x else ρ 2 x) → jm_Ok D_M fi_M (jm_look L_M_invert) k_M_invert (some false) Q 37 [some (.inr none), some (.inl many), some (.inl c)] [] τ := by
    intro ρ hIρ hPρ haρ h13 h7 n
    induction n with
    | zero =>
      intro m many c τ hc hm hsτ hk hmany ho
      have hm : m = 384 := by omega
      subst hm
      have hmr := bw_cnt_rg (fun x => decide (a.1 x = 7 ∧ a.2.2 x ≠ bw_d1 a x)) 384
      have hmany : many = bw_in a := hmany
      have t13 : τ 13 = σ 13 := (hk 13 (by decide)).trans h13
      have e0 := hk 0 (by decide)
      have habs : bw_abs τ = bw_iv a := by
        have ea : (bw_abs τ).1 = (bw_iv a).1 := by
          show bw_rs (τ 0) = a.1
          rw [e0, ← haρ]; rfl
        have eb : (bw_abs τ).2.1 = (bw_iv a).2.1 := by
          show bw_rs (τ 1) = a.2.1
          rw [hk 1 (by decide), ← haρ]; rfl
        have ec : (bw_abs τ).2.2 = (bw_iv a).2.2 := by
          funext x
          show bw_rs (fun x => if τ 0 x = 7 then τ 2 x else 0) x = if bw_cl x ∧ a.1 x = 7 then bw_d1 a x else 0
          by_cases hx : bw_cl x
          · have hxc : x < c := by omega
            have e1 : a.1 x = ρ 0 x := by rw [← haρ]; exact bw_abs_0 hx
            rw [bw_rs_at hx, e0, e1]
            by_cases h7' : ρ 0 x = 7
            · rw [if_pos h7', if_pos ⟨hx, h7'⟩, ho x hx, if_pos ⟨hxc, h7'⟩]
            · rw [if_neg h7', if_neg (fun z => h7' z.2)]
          · unfold bw_rs
            rw [if_neg hx, if_neg (fun z => hx z.1)]
        exact Prod.ext ea (Prod.ext eb ec)
      have k108 : ∀ τ' : jm_S, mw_I τ' → bw_abs τ' = bw_iv a → τ' 13 = σ 13 → ∀ l2 : Option jm_V, jm_Ok D_M fi_M (jm_look L_M_invert) k_M_invert (some false) Q 108 [some (.inr none), some (.inl many), l2] [] τ' := by
        intro τ' q1 q2 q3 l2
        refine jm_Ok.go 60 [] ?_
        refine ⟨by omega, fun v hv _ _ => ?_⟩
        rw [q3] at hv
        have hin : bw_in a = bw_cnt (fun x => decide (a.1 x = 7 ∧ a.2.2 x ≠ bw_d1 a x)) 384 := rfl
        refine ⟨by omega, by omega, by omega, hQ _ _ ⟨by rw [hmany, hadef], q1, by rw [← hadef]; exact q2, fun j => ?_⟩⟩
        rw [← hadef]
        by_cases hj : j = 1
        · rw [if_pos hj, hj]; simp [jm_up]; omega
        · rw [if_neg hj]; simp [jm_up, hj, q3]
      refine jm_Ok.go 60 [108] ?_
      refine ⟨fun _ => ⟨fun hle => ?_, fun hgt => ⟨by omega, by omega, ?_⟩⟩, fun _ => by omega⟩
      · -- no inverter has changed
        refine k108 τ ?_ habs t13 _
        have hz : bw_cnt (fun x => decide (a.1 x = 7 ∧ a.2.2 x ≠ bw_d1 a x)) 384 = 0 := by
          have hin : bw_in a = bw_cnt (fun x => decide (a.1 x = 7 ∧ a.2.2 x ≠ bw_d1 a x)) 384 := rfl
          omega
        have hno := bw_cnt_0 hz
        have e2 : ∀ x, bw_cl x → τ 2 x = ρ 2 x := by
          intro x hx
          rw [ho x hx]
          by_cases q : x < c ∧ ρ 0 x = 7
          · rw [if_pos q]
            have h3 := of_decide_eq_false (hno x hx.1 hx.2)
            have e1 : a.1 x = ρ 0 x := by rw [← haρ]; exact bw_abs_0 hx
            have e2' : a.2.2 x = ρ 2 x := by rw [← haρ]; exact bw_abs_2 hx q.2
            rw [e1, e2'] at h3
            rcases Classical.em (ρ 2 x = bw_d1 a x) with z | z
            · exact z.symm
            · exact absurd ⟨q.2, z⟩ h3
          · rw [if_neg q]
        have ha2 : bw_abs τ = bw_abs ρ := bw_abs_ext (fun x _ => by rw [e0]) (fun x _ => by rw [hk 1 (by decide)]) (fun x hx _ => e2 x hx)
        refine ⟨fun q => ?_, fun q => ?_, fun q => ?_⟩
        · intro x hx; rw [hk 3 (by decide), e0, e2 x hx, ha2]; exact hPρ x hx
        · rw [hk 10 (by decide)] at q
          refine ⟨by rw [hk 9 (by decide)]; exact (hIρ.2.1 q).1, fun x hx => ?_⟩
          rw [hk 4 (by decide), ha2]; exact (hIρ.2.1 q).2 x hx
        · rw [hk 11 (by decide)] at q
          intro x hx; rw [hk 5 (by decide), hk 6 (by decide), ha2]; exact hIρ.2.2 q x hx
      · refine k108 (jm_up (jm_up τ 9 0 0) 10 0 0) ⟨fun q => ?_, fun q => ?_, fun q => ?_⟩ habs t13 _
        · simp [jm_up] at q
        · simp [jm_up] at q
        · have q : τ 11 0 = 1 := q
          rw [hk 11 (by decide)] at q
          intro x hx
          have hS := hIρ.2.2 q x hx
          show τ 5 x = bw_sky (bw_abs τ) x ∧ (τ 6 x = 1 ↔ bw_open (bw_abs τ).1 x)
          rw [hk 5 (by decide), hk 6 (by decide), habs, ← haρ]
          exact hS
    | succ n ih =>
      intro m many c τ hc hm hsτ hk hmany ho
      have hcl : bw_cl c := by omega
      have hmr := bw_cnt_rg (fun x => decide (a.1 x = 7 ∧ a.2.2 x ≠ bw_d1 a x)) m
      have e0 := hk 0 (by decide)
      have e7 := hk 7 (by decide)
      have e1 : a.1 (m : Int) = ρ 0 c := by rw [← hc, ← haρ]; exact bw_abs_0 hcl
      have hoc : τ 2 c = ρ 2 c := by rw [ho c hcl, if_neg (fun z => by omega)]
      have d01 := bw_d1_01 a c
      have skip : ¬ (ρ 0 c = 7 ∧ ρ 2 c ≠ bw_d1 a c) → jm_Ok D_M fi_M (jm_look L_M_invert) k_M_invert (some false) Q 88 [some (.inr none), some (.inl many), some (.inl c)] [] τ := by
        intro hn
        refine jm_Ok.go 60 [37] ?_
        refine ⟨by omega, ih (m + 1) many (c + 1) τ (by omega) (by omega) hsτ hk ?_ ?_⟩
        · rw [hmany]
          conv => rhs; unfold bw_cnt
          rw [if_neg]
          · exact (Int.add_zero _).symm
          · intro q
            have q := of_decide_eq_true q
            rw [e1] at q
            have h7' : ρ 0 c = 7 := q.1
            have e2 : a.2.2 (m : Int) = ρ 2 c := by rw [← hc, ← haρ]; exact bw_abs_2 hcl h7'
            rw [e2, ← hc] at q
            exact hn q
        · intro x hx
          rw [ho x hx]
          by_cases hxc : x = c
          · subst hxc
            rw [if_neg (fun z => by omega)]
            by_cases h7' : ρ 0 x = 7
            · rw [if_pos ⟨by omega, h7'⟩]
              rcases Classical.em (ρ 2 x = bw_d1 a x) with z | z
              · exact z
              · exact absurd ⟨h7', z⟩ hn
            · rw [if_neg (fun z => h7' z.2)]
          · have e : (x < c + 1 ∧ ρ 0 x = 7) = (x < c ∧ ρ 0 x = 7) := propext ⟨fun z => ⟨by omega, z.2⟩, fun z => ⟨by omega, z.2⟩⟩
            simp only [e]
      refine jm_Ok.go 60 [88] ?_
      refine ⟨fun _ => by omega, fun _ => ⟨by omega, fun b hb _ _ => ⟨fun hne => skip (fun z => by rw [e0] at hb; omega), fun he => ?_⟩⟩⟩
      rw [e0] at hb
      refine ⟨by omega, fun d hd _ _ => ⟨by omega, fun o ho1 _ _ => ?_⟩⟩
      rw [e7, h7 c hcl] at hd
      rw [hoc] at ho1
      refine ⟨fun hne => ?_, fun heq => skip (fun z => z.2 (by omega))⟩
      refine ⟨by omega, fun d2 hd2 _ _ => ?_⟩
      rw [e7, h7 c hcl] at hd2
      refine ⟨by omega, by omega, by omega, ?_⟩
      refine jm_Ok.go 60 [37] ?_
      refine ⟨by omega, ih (m + 1) (many + 1) (c + 1) _ (by omega) (by omega) (hsτ.up ?_) ?_ ?_ ?_⟩
      · show (0 : Int) ≤ d2 ∧ d2 ≤ 1
        omega
      · intro k q; rw [← hk k q]; simp [jm_up, q]
      · rw [hmany]
        conv => rhs; unfold bw_cnt
        rw [if_pos]
        refine decide_eq_true ⟨by rw [e1]; omega, ?_⟩
        have e2 : a.2.2 (m : Int) = ρ 2 c := by rw [← hc, ← haρ]; exact bw_abs_2 hcl (by omega)
        rw [e2, ← hc]; omega
      · intro x hx
        by_cases hxc : x = c
        · subst hxc
          rw [if_pos ⟨by omega, by omega⟩]
          simp [jm_up]; exact hd2
        · have e : (x < c + 1 ∧ ρ 0 x = 7) = (x < c ∧ ρ 0 x = 7) := propext ⟨fun z => ⟨by omega, z.2⟩, fun z => ⟨by omega, z.2⟩⟩
          simp only [e]
          rw [← ho x hx]; simp [jm_up, hxc]
  have loop1 : ∀ ρ : jm_S, mw_I ρ → mw_P ρ → bw_abs ρ = a → ρ 13 = σ 13 → ∀ (n : Nat) (c : Int) (τ : jm_S), 0 ≤ c → c + n = 384 → jm_okS D_M τ → (∀ k, k ≠ 7 → τ k = ρ k) → (∀ x, 0 ≤ x → x < c → τ 7 x = bw_d1 a x) → jm_Ok D_M fi_M (jm_look L_M_invert) k_M_invert (some false) Q 8 [some (.inr none), some (.inl 0), some (.inl c)] [] τ := by
    intro ρ hIρ hPρ haρ h13 n
    induction n with
    | zero =>
      intro c τ hc0 hn hsτ hk h7
      refine jm_Ok.go 60 [37] ?_
      refine ⟨fun _ => ?_, fun _ => by omega⟩
      have ha2 : bw_abs τ = bw_abs ρ := bw_abs_ext (fun x _ => by rw [hk 0 (by decide)]) (fun x _ => by rw [hk 1 (by decide)]) (fun x hx _ => by rw [hk 2 (by decide)])
      have hP2 : mw_P τ := fun x hx => by rw [hk 3 (by decide), hk 0 (by decide), hk 2 (by decide), ha2]; exact hPρ x hx
      refine loop2 τ ⟨fun _ => hP2, fun q => ?_, fun q => ?_⟩ hP2 (by rw [ha2, haρ]) (by rw [hk 13 (by decide), h13]) (fun x hx => h7 x hx.1 (by omega)) 384 0 0 0 τ rfl rfl hsτ (fun _ _ => rfl) rfl (fun x hx => by rw [if_neg (fun z => by omega)])
      · rw [hk 10 (by decide)] at q
        refine ⟨by rw [hk 9 (by decide)]; exact (hIρ.2.1 q).1, fun x hx => ?_⟩
        rw [hk 4 (by decide), ha2]; exact (hIρ.2.1 q).2 x hx
      · rw [hk 11 (by decide)] at q
        intro x hx; rw [hk 5 (by decide), hk 6 (by decide), ha2]; exact hIρ.2.2 q x hx
    | succ n ih =>
      intro c τ hc0 hn hsτ hk h7
      have hcl : bw_cl c := ⟨hc0, by omega⟩
      have d01 := bw_d1_01 a c
      refine jm_Ok.go 60 [8] ?_
      refine ⟨fun _ => by omega, fun _ => ⟨by omega, ⟨by show c - 64 < 384; omega, ?_⟩⟩⟩
      rintro r τ - ⟨hr, rfl⟩
      rw [hk 0 (by decide), hk 2 (by decide), hk 3 (by decide), mw_quiet hPρ hcl, haρ, ← bw_d1_iff a c] at hr
      have hrv : r = bw_d1 a c := by omega
      refine ⟨by omega, by omega, by omega, ih (c + 1) _ (by omega) (by omega) (hsτ.up ?_) ?_ ?_⟩
      · show (0 : Int) ≤ r ∧ r ≤ 1
        omega
      · intro k q; rw [← hk k q]; simp [jm_up, q]
      · intro x p q
        by_cases hxc : x = c
        · simp [jm_up, hxc, hrv]
        · simp [jm_up, hxc]; exact h7 x p (by omega)
  refine jm_Ok.go 60 [8] ?_
  refine ⟨hI, ?_⟩
  rintro _ ρ hsρ ⟨r1, r2, r3, r4⟩
  exact loop1 ρ r1 (r1.1 r2) (by rw [r3, hadef]) (r4 13 (by decide) (by decide) (by decide)) 384 0 ρ (by omega) (by omega) hsρ (fun _ _ => rfl) (fun x p q => by omega)
end
section
/-! the reference: grow, tick -/
theorem bw_h_ps {B B' : Int → Int} (hB : ∀ x, bw_cl x → B' x = B x ∨ (B x = 9 ∧ B' x = 0)) {f k : Int} (hk : bw_cl k) : bw_ps B f k ↔ bw_ps B' f k := by
  have := hB k hk
  unfold bw_ps; omega
theorem bw_h_drv {B B' O : Int → Int} (hB : ∀ x, bw_cl x → B' x = B x ∨ (B x = 9 ∧ B' x = 0)) {c : Int} (hc : bw_cl c) : bw_drv B O c ↔ bw_drv B' O c := by
  have key : ∀ d, (0 ≤ d ∧ d < 6) → (bw_mk B O c d ↔ bw_mk B' O c d) := by
    intro d hd
    unfold bw_mk
    by_cases h0 : 0 ≤ bw_nb c d
    · have hx : bw_cl (bw_nb c d) := ⟨h0, (bw_nb_rg hc hd).2⟩
      have := hB _ hx
      omega
    · simp [h0]
  constructor
  · rintro ⟨d, hd, q⟩; exact ⟨d, hd, (key d hd).mp q⟩
  · rintro ⟨d, hd, q⟩; exact ⟨d, hd, (key d hd).mpr q⟩
theorem bw_h_bgP {B B' O : Int → Int} (hB : ∀ x, bw_cl x → B' x = B x ∨ (B x = 9 ∧ B' x = 0)) {c : Int} (hc : bw_cl c) : bw_bgP B O c = bw_bgP B' O c := by
  have h := bw_h_drv (O := O) hB hc
  have h2 := hB c hc
  rcases Classical.em (B c = 5 ∧ bw_drv B O c) with q | q
  · rw [bw_bgP_1 q, bw_bgP_1 ⟨by omega, h.mp q.2⟩]
  · rw [bw_bgP_0 q, bw_bgP_0 (fun z => q ⟨by omega, h.mpr z.2⟩)]
theorem bw_h_fed {B B' O : Int → Int} (hB : ∀ x, bw_cl x → B' x = B x ∨ (B x = 9 ∧ B' x = 0)) {P P' : Int → Int} {c : Int} (hc : bw_cl c) (hP : ∀ x, bw_cl x → P' x = P x) : bw_fed B O P c ↔ bw_fed B' O P' c := by
  unfold bw_fed
  rw [bw_h_drv (O := O) hB hc]
  have h5 : B c ≠ 5 ↔ B' c ≠ 5 := by have := hB c hc; omega
  have : (∃ n, bw_adj c n ∧ B n = 5 ∧ 0 < P n) ↔ (∃ n, bw_adj c n ∧ B' n = 5 ∧ 0 < P' n) := by
    constructor
    · rintro ⟨n, hn, q1, q2⟩
      have h1 := bw_adj_cl hc hn
      have := hB n h1
      exact ⟨n, hn, by omega, by rw [hP n h1]; exact q2⟩
    · rintro ⟨n, hn, q1, q2⟩
      have h1 := bw_adj_cl hc hn
      have := hB n h1
      exact ⟨n, hn, by omega, by rw [← hP n h1]; exact q2⟩
  rw [this, h5]
theorem bw_h_open {B B' : Int → Int} (hB : ∀ x, bw_cl x → B' x = B x ∨ (B x = 9 ∧ B' x = 0)) {c : Int} (hc : bw_cl c) : bw_open B c ↔ bw_open B' c := by
  unfold bw_open
  constructor
  · intro h y h1 h2
    have := hB (64 * y + c % 64) (by omega)
    have := h y h1 h2
    omega
  · intro h y h1 h2
    have := hB (64 * y + c % 64) (by omega)
    have := h y h1 h2
    omega
theorem bw_h_all {a a' : bw_X} (hB : ∀ x, bw_cl x → a'.1 x = a.1 x ∨ (a.1 x = 9 ∧ a'.1 x = 0)) (hO : a'.2.2 = a.2.2) : ∀ x, bw_cl x → bw_pow a' x = bw_pow a x ∧ bw_on a' x = bw_on a x ∧ bw_lgt a' x = bw_lgt a x ∧ bw_sky a' x = bw_sky a x := by
  have hp : ∀ x, bw_cl x → bw_pow a' x = bw_pow a x := by
    intro x hx
    unfold bw_pow
    rw [hO]
    exact (bw_the_congr (fun k hk => bw_h_ps hB hk) (fun k hk _ => bw_h_bgP hB hk) x hx).symm
  have ho : ∀ x, bw_cl x → bw_on a' x = bw_on a x := by
    intro x hx
    have h1 := hB x hx
    by_cases h7 : a.1 x = 7
    · rw [bw_on_7 h7, bw_on_7 (by omega), hO]
    · by_cases h8 : a.1 x = 8 ∧ bw_fed a.1 a.2.2 (bw_pow a) x
      · rw [bw_on_8 h8.1 h8.2, bw_on_8 (by omega)]
        rw [hO, ← bw_h_fed hB hx hp]; exact h8.2
      · rw [bw_on_0 h7 h8, bw_on_0 (by omega)]
        intro z
        apply h8
        rw [hO, ← bw_h_fed hB hx hp] at z
        exact ⟨by omega, z.2⟩
  intro x hx
  refine ⟨hp x hx, ho x hx, ?_, ?_⟩
  · refine (bw_the_congr (fun k hk => bw_h_ps hB hk) (fun k hk _ => ?_) x hx).symm
    unfold bw_shn
    rw [ho k hk]
    rcases hB k hk with z | z
    · rw [z]
    · rw [z.1, z.2]; rfl
  · refine (bw_the_congr (fun k hk => bw_h_ps hB hk) (fun k hk _ => ?_) x hx).symm
    have e := bw_h_open hB hk
    rcases Classical.em (bw_open a.1 k) with q | q
    · rw [bw_bgO_1 q, bw_bgO_1 (e.mp q)]
    · rw [bw_bgO_0 q, bw_bgO_0 (fun z => q (e.mpr z))]
theorem bw_gw_B (a : bw_X) : ∀ x, bw_cl x → (bw_gw a).1 x = a.1 x ∨ (a.1 x = 9 ∧ (bw_gw a).1 x = 0) := by
  intro x hx
  show (if bw_cl x ∧ bw_b0 a x = true then 0 else a.1 x) = a.1 x ∨ (a.1 x = 9 ∧ (if bw_cl x ∧ bw_b0 a x = true then 0 else a.1 x) = 0)
  by_cases q : bw_b0 a x = true
  · right; exact ⟨(bw_b0_iff.mp q).1, if_pos ⟨hx, q⟩⟩
  · left; exact if_neg (fun z => q z.2)
def sp_M_grow : jm_K := (false, 0, false, fun as σ => (match as with
  | [] => mw_I σ ∧ σ 13 3 ≤ 2000000000 ∧ σ 13 4 ≤ 2000000000
  | _ => False), fun as σ r σ' => (match as with
  | [] => r = bw_n3 (bw_abs σ) + bw_n4 (bw_abs σ) ∧ mw_I σ' ∧ bw_abs σ' = bw_gw (bw_abs σ) ∧ ∀ j, σ' 13 j = if j = 3 then σ 13 3 + bw_n3 (bw_abs σ) else if j = 4 then σ 13 4 + bw_n4 (bw_abs σ) else σ 13 j
  | _ => False))
def L_M_grow : List (Nat × jm_K) := [(94, sp_M_findLight), (97, sp_M_findSky)]
set_option maxHeartbeats 4000000 in
set_option maxRecDepth 100000 in
theorem con_M_grow : jm_Con classes D_M 14 ks_M 1 y_M_grow b_M_grow 4 (jm_rt (some false)) 5 sp_M_grow := by
  refine jm_con2 (L := L_M_grow) (code := k_M_grow) CF_M rfl (by decide) ck_M_grow ⟨⟨y_M_findLight, b_M_findLight, 2, jm_rt none, 4, by decide, con_M_findLight, lk_M_findLight _ _, rfl⟩, ⟨y_M_findSky, b_M_findSky, 2, jm_rt none, 3, by decide, con_M_findSky, lk_M_findSky _ _, rfl⟩, trivial⟩ (by decide) ?_
  intro σ as hl hr hs hp Q hQ
  obtain rfl := jm_a0 hl
  obtain ⟨hI, hh3, hh4⟩ : mw_I σ ∧ σ 13 3 ≤ 2000000000 ∧ σ 13 4 ≤ 2000000000 := hp
  have h13 : ∀ j, 0 ≤ j → j < 5 → 0 ≤ σ 13 j := fun j a b => (hs 13 j a (Or.inl b)).1
  have z3 := h13 3 (by omega) (by omega)
  have z4 := h13 4 (by omega) (by omega)
  obtain ⟨a, hadef⟩ : ∃ a, a = bw_abs σ := ⟨_, rfl⟩
  have n3 : bw_n3 a = bw_cnt (bw_b1 a) 384 := rfl
  have n4 : bw_n4 a = bw_cnt (bw_b0 a) 384 := rfl
  have r3 := bw_cnt_rg (bw_b1 a) 384
  have r4 := bw_cnt_rg (bw_b0 a) 384
  have loop : ∀ ρ : jm_S, jm_okS D_M ρ → mw_I ρ → ρ 9 0 = 1 → ρ 10 0 = 1 → ρ 11 0 = 1 → bw_abs ρ = a → ρ 13 = σ 13 → ∀ (n : Nat) (many c : Int) (l3 : Option jm_V) (τ : jm_S), c = (n : Int) - 1 → n ≤ 384 → (∀ k, k ≠ 0 → k ≠ 1 → k ≠ 13 → τ k = ρ k) → (∀ x, bw_cl x → τ 0 x = if c < x ∧ bw_b0 a x = true then 0 else ρ 0 x) → (∀ x, bw_cl x → τ 1 x = if c < x ∧ bw_b0 a x = true then 0 else if c < x ∧ bw_b1 a x = true then ρ 1 x + 1 else ρ 1 x) → (∀ j, τ 13 j = if j = 3 then σ 13 3 + (bw_n3 a - bw_cnt (bw_b1 a) n) else if j = 4 then σ 13 4 + (bw_n4 a - bw_cnt (bw_b0 a) n) else σ 13 j) → many = (bw_n3 a - bw_cnt (bw_b1 a) n) + (bw_n4 a - bw_cnt (bw_b0 a) n) → jm_Ok D_M fi_M (jm_look L_M_grow) k_M_grow (some false) Q 14 [some (.inr none), some (.inl many), some (.inl c), l3] [] τ := by
    intro ρ hsρ hIρ f9 f10 f11 haρ hρ13 n
    have hP := hIρ.1 f9
    have hL := (hIρ.2.1 f10).2
    have hS := hIρ.2.2 f11
    have a0 : ∀ x, bw_cl x → a.1 x = ρ 0 x := fun x hx => by rw [← haρ]; exact bw_abs_0 hx
    have a1 : ∀ x, bw_cl x → a.2.1 x = ρ 1 x := fun x hx => by rw [← haρ]; exact bw_abs_1 hx
    induction n with
    | zero =>
      intro many c l3 τ hc hn hk hb hst hh hm
      refine jm_Ok.go 60 [] ?_
      refine ⟨fun _ => hQ _ _ ?_, fun _ => by omega⟩
      have hab : bw_abs τ = bw_gw a := by
        have ea : (bw_abs τ).1 = (bw_gw a).1 := by
          funext x
          show bw_rs _ x = if bw_cl x ∧ bw_b0 a x = true then 0 else a.1 x
          by_cases hx : bw_cl x
          · have hxc : c < x := by omega
            rw [bw_rs_at hx, hb x hx, a0 x hx]
            by_cases q : bw_b0 a x = true <;> simp [q, hxc, hx.1, hx.2]
          · rw [if_neg (fun z => hx z.1), hadef]
            unfold bw_abs bw_rs
            rw [if_neg hx]; simp [hx]
        have eb : (bw_abs τ).2.1 = (bw_gw a).2.1 := by
          funext x
          show bw_rs _ x = if bw_cl x ∧ bw_b0 a x = true then 0 else if bw_cl x ∧ bw_b1 a x = true then a.2.1 x + 1 else a.2.1 x
          by_cases hx : bw_cl x
          · have hxc : c < x := by omega
            rw [bw_rs_at hx, hst x hx, a1 x hx]
            by_cases q : bw_b0 a x = true <;> by_cases q2 : bw_b1 a x = true <;> simp [q, q2, hxc, hx.1, hx.2]
          · rw [if_neg (fun z => hx z.1), if_neg (fun z => hx z.1), hadef]
            unfold bw_abs bw_rs
            rw [if_neg hx]; simp [hx]
        have ec : (bw_abs τ).2.2 = (bw_gw a).2.2 := by
          show _ = a.2.2
          rw [← haρ]
          refine bw_rs_ext fun x hx => ?_
          show (if τ 0 x = 7 then τ 2 x else 0) = if ρ 0 x = 7 then ρ 2 x else 0
          have hxc : c < x := by omega
          rw [hb x hx, hk 2 (by decide) (by decide) (by decide)]
          by_cases q : bw_b0 a x = true
          · have := (bw_b0_iff.mp q).1
            rw [a0 x hx] at this
            simp [q, hxc, this]
          · simp [q]
        exact Prod.ext ea (Prod.ext eb ec)
      have hall := bw_h_all (a := a) (a' := bw_gw a) (bw_gw_B a) rfl
      have hop : ∀ x, bw_cl x → (bw_open a.1 x ↔ bw_open (bw_gw a).1 x) := fun x hx => bw_h_open (bw_gw_B a) hx
      refine ⟨?_, ⟨fun _ x hx => ?_, fun _ => ⟨?_, fun x hx => ?_⟩, fun _ x hx => ?_⟩, by rw [hab, hadef], fun j => ?_⟩
      · rw [hm, hadef]; simp [bw_cnt]
      · obtain ⟨p1, p2⟩ := hP x hx
        obtain ⟨g1, g2, g3, g4⟩ := hall x hx
        rw [hab, g1, g2, hk 3 (by decide) (by decide) (by decide), hk 2 (by decide) (by decide) (by decide), ← haρ]
        refine ⟨p1, fun h8 => p2 ?_⟩
        have := bw_gw_B a x hx
        rw [← hab, bw_abs_0 hx, a0 x hx] at this
        omega
      · rw [hk 9 (by decide) (by decide) (by decide)]; exact f9
      · obtain ⟨g1, g2, g3, g4⟩ := hall x hx
        rw [hab, g3, hk 4 (by decide) (by decide) (by decide), ← haρ]
        exact hL x hx
      · obtain ⟨g1, g2, g3, g4⟩ := hall x hx
        rw [hab, g4, ← hop x hx, hk 5 (by decide) (by decide) (by decide), hk 6 (by decide) (by decide) (by decide), ← haρ]
        exact hS x hx
      · rw [hh j, ← hadef]
        simp [bw_cnt]
    | succ n ih =>
      intro many c l3 τ hc hn hk hb hst hh hm
      have hcl : bw_cl c := by omega
      have en : ((n : Nat) : Int) = c := by omega
      have hc3 := bw_cnt_rg (bw_b1 a) n
      have hc4 := bw_cnt_rg (bw_b0 a) n
      have m3 := bw_cnt_mono (bw_b1 a) (n + 1) 384 hn
      have m4 := bw_cnt_mono (bw_b0 a) (n + 1) 384 hn
      have s3 : bw_cnt (bw_b1 a) (n + 1) = bw_cnt (bw_b1 a) n + (if bw_b1 a c = true then 1 else 0) := by rw [← en]; rfl
      have s4 : bw_cnt (bw_b0 a) (n + 1) = bw_cnt (bw_b0 a) n + (if bw_b0 a c = true then 1 else 0) := by rw [← en]; rfl
      have e0 : ∀ x, bw_cl x → x ≤ c → τ 0 x = ρ 0 x := fun x hx q => by rw [hb x hx, if_neg (fun z => by omega)]
      have e1 : τ 1 c = ρ 1 c := by rw [hst c hcl, if_neg (fun z => by omega), if_neg (fun z => by omega)]
      have hheld : bw_held a c ↔ (64 ≤ c ∧ (ρ 0 (c - 64) = 1 ∨ ρ 0 (c - 64) = 4)) := by
        unfold bw_held
        rcases Int.lt_or_le c 64 with q | q
        · constructor <;> (intro z; omega)
        · rw [a0 (c - 64) (by omega)]
      have hg0 : bw_b0 a c = true ↔ (ρ 0 c = 9 ∧ ¬ (64 ≤ c ∧ (ρ 0 (c - 64) = 1 ∨ ρ 0 (c - 64) = 4))) := by
        rw [bw_b0_iff, ← hheld]; unfold bw_g0; rw [a0 c hcl]
      have hg1 : bw_b1 a c = true ↔ (ρ 0 c = 9 ∧ (64 ≤ c ∧ (ρ 0 (c - 64) = 1 ∨ ρ 0 (c - 64) = 4)) ∧ ρ 1 c ≠ 7 ∧ (9 ≤ ρ 4 c ∨ 9 ≤ ρ 5 c)) := by
        rw [bw_b1_iff, ← hheld]; unfold bw_g1; rw [a0 c hcl, a1 c hcl, hL c hcl, (hS c hcl).1, haρ]
      have hst7 := hsρ 1 c hcl.1 (Or.inl hcl.2)
      have hst7b : ρ 1 c ≤ 7 := hst7.2
      have skip : ∀ l3 : Option jm_V, ¬ bw_b0 a c = true → ¬ bw_b1 a c = true → jm_Ok D_M fi_M (jm_look L_M_grow) k_M_grow (some false) Q 160 [some (.inr none), some (.inl many), some (.inl c), l3] [] τ := by
        intro l3 q0 q1
        rw [if_neg q1] at s3
        rw [if_neg q0] at s4
        refine jm_Ok.go 60 [14] ?_
        refine ⟨by omega, ih many (c - 1) l3 τ (by omega) (by omega) hk ?_ ?_ ?_ (by omega)⟩
        · intro x hx
          rw [hb x hx]
          have e : (c < x ∧ bw_b0 a x = true) = (c - 1 < x ∧ bw_b0 a x = true) := by
            refine propext ⟨fun z => ⟨by omega, z.2⟩, fun z => ⟨?_, z.2⟩⟩
            by_cases hxc : x = c
            · rw [hxc] at z; exact absurd z.2 q0
            · omega
          simp only [e]
        · intro x hx
          rw [hst x hx]
          have e : (c < x ∧ bw_b0 a x = true) = (c - 1 < x ∧ bw_b0 a x = true) := by
            refine propext ⟨fun z => ⟨by omega, z.2⟩, fun z => ⟨?_, z.2⟩⟩
            by_cases hxc : x = c
            · rw [hxc] at z; exact absurd z.2 q0
            · omega
          have e' : (c < x ∧ bw_b1 a x = true) = (c - 1 < x ∧ bw_b1 a x = true) := by
            refine propext ⟨fun z => ⟨by omega, z.2⟩, fun z => ⟨?_, z.2⟩⟩
            by_cases hxc : x = c
            · rw [hxc] at z; exact absurd z.2 q1
            · omega
          simp only [e, e']
        · intro j
          rw [hh j, s3, s4]; simp
      have k69 : ∀ h : Int, ((h = 1 ∧ (64 ≤ c ∧ (ρ 0 (c - 64) = 1 ∨ ρ 0 (c - 64) = 4))) ∨ (h = 0 ∧ ¬ (64 ≤ c ∧ (ρ 0 (c - 64) = 1 ∨ ρ 0 (c - 64) = 4)))) → ρ 0 c = 9 → jm_Ok D_M fi_M (jm_look L_M_grow) k_M_grow (some false) Q 69 [some (.inr none), some (.inl many), some (.inl c), l3] [.inl h] τ := by
        intro h hh1 h9
        refine jm_Ok.go 60 [104, 160] ?_
        refine ⟨fun hne => ?_, fun he => ?_⟩
        · -- it stands
          have hd : (64 ≤ c ∧ (ρ 0 (c - 64) = 1 ∨ ρ 0 (c - 64) = 4)) := by omega
          have q0 : ¬ bw_b0 a c = true := fun z => (hg0.mp z).2 hd
          have k126 : (9 ≤ ρ 4 c ∨ 9 ≤ ρ 5 c) → jm_Ok D_M fi_M (jm_look L_M_grow) k_M_grow (some false) Q 126 [some (.inr none), some (.inl many), some (.inl c), some (.inl h)] [] τ := by
            intro hl
            refine jm_Ok.go 60 [160] ?_
            refine ⟨by omega, fun st hst1 _ _ => ⟨fun hge => skip _ q0 (fun z => by have := (hg1.mp z).2.2.1; omega), fun hlt => ?_⟩⟩
            have q1 : bw_b1 a c = true := hg1.mpr ⟨h9, hd, by omega, hl⟩
            rw [if_pos q1] at s3
            rw [if_neg q0] at s4
            refine ⟨by omega, fun st2 hst2 _ _ => ?_⟩
            refine ⟨by omega, by omega, by omega, by omega, fun v hv _ _ => ?_⟩
            have hv : v = τ 13 3 := hv
            rw [hh 3, if_pos rfl] at hv
            refine ⟨by omega, by omega, by omega, by omega, ?_⟩
            refine jm_Ok.go 60 [14] ?_
            refine ⟨by omega, ih (many + 1) (c - 1) _ _ (by omega) (by omega) ?_ ?_ ?_ ?_ (by omega)⟩
            · intro k h0 h1 h13; rw [← hk k h0 h1 h13]; simp [jm_up, h1, h13]
            · intro x hx
              show τ 0 x = _
              rw [hb x hx]
              have e : (c < x ∧ bw_b0 a x = true) = (c - 1 < x ∧ bw_b0 a x = true) := by
                refine propext ⟨fun z => ⟨by omega, z.2⟩, fun z => ⟨?_, z.2⟩⟩
                by_cases hxc : x = c
                · rw [hxc] at z; exact absurd z.2 q0
                · omega
              simp only [e]
            · intro x hx
              by_cases hxc : x = c
              · rw [hxc, if_neg (fun z => q0 z.2), if_pos ⟨by omega, q1⟩]
                simp [jm_up]; omega
              · have e : (c < x ∧ bw_b0 a x = true) = (c - 1 < x ∧ bw_b0 a x = true) := propext ⟨fun z => ⟨by omega, z.2⟩, fun z => ⟨by omega, z.2⟩⟩
                have e' : (c < x ∧ bw_b1 a x = true) = (c - 1 < x ∧ bw_b1 a x = true) := propext ⟨fun z => ⟨by omega, z.2⟩, fun z => ⟨by omega, z.2⟩⟩
                have hv' := hst x hx; simp only [e, e'] at hv'; rw [← hv']; simp [jm_up, hxc]
            · intro j
              by_cases hj : j = 3
              · subst hj; simp [jm_up]; omega
              · have e : jm_up (jm_up τ 1 c (st2 + 1)) 13 3 (v + 1) 13 j = τ 13 j := by simp [jm_up, hj]
                rw [e, hh j, s4]; simp [hj]
          refine jm_Ok.go 60 [126, 160] ?_
          refine ⟨by omega, fun l hl _ _ => ⟨fun hgt => k126 (Or.inl ?_), fun hle => ⟨by omega, fun s hs1 _ _ => ⟨fun hle2 => skip _ q0 (fun z => ?_), fun hgt => k126 (Or.inr ?_)⟩⟩⟩⟩
          · have hl : l = ρ 4 c := by rw [← hk 4 (by decide) (by decide) (by decide)]; exact hl
            omega
          · have hl : l = ρ 4 c := by rw [← hk 4 (by decide) (by decide) (by decide)]; exact hl
            have hs1 : s = ρ 5 c := by rw [← hk 5 (by decide) (by decide) (by decide)]; exact hs1
            have := (hg1.mp z).2.2.2
            omega
          · have hs1 : s = ρ 5 c := by rw [← hk 5 (by decide) (by decide) (by decide)]; exact hs1
            omega
        · have hd : ¬ (64 ≤ c ∧ (ρ 0 (c - 64) = 1 ∨ ρ 0 (c - 64) = 4)) := by omega
          have q0 : bw_b0 a c = true := hg0.mpr ⟨h9, hd⟩
          have q1 : ¬ bw_b1 a c = true := fun z => hd (hg1.mp z).2.1
          rw [if_neg q1] at s3
          rw [if_pos q0] at s4
          refine ⟨by omega, fun v hv _ _ => ?_⟩
          rw [hh 4, if_neg (by decide), if_pos rfl] at hv
          refine ⟨by omega, by omega, by omega, by omega, by omega, by omega, by omega, by omega, ?_⟩
          refine jm_Ok.go 60 [14] ?_
          refine ⟨by omega, ih (many + 1) (c - 1) _ _ (by omega) (by omega) ?_ ?_ ?_ ?_ (by omega)⟩
          · intro k h0 h1 h13; rw [← hk k h0 h1 h13]; simp [jm_up, h0, h1, h13]
          · intro x hx
            by_cases hxc : x = c
            · rw [hxc, if_pos ⟨by omega, q0⟩]; simp [jm_up]
            · have e : (c < x ∧ bw_b0 a x = true) = (c - 1 < x ∧ bw_b0 a x = true) := propext ⟨fun z => ⟨by omega, z.2⟩, fun z => ⟨by omega, z.2⟩⟩
              have hv' := hb x hx; simp only [e] at hv'; rw [← hv']; simp [jm_up, hxc]
          · intro x hx
            by_cases hxc : x = c
            · rw [hxc, if_pos ⟨by omega, q0⟩]; simp [jm_up]
            · have e : (c < x ∧ bw_b0 a x = true) = (c - 1 < x ∧ bw_b0 a x = true) := propext ⟨fun z => ⟨by omega, z.2⟩, fun z => ⟨by omega, z.2⟩⟩
              have e' : (c < x ∧ bw_b1 a x = true) = (c - 1 < x ∧ bw_b1 a x = true) := propext ⟨fun z => ⟨by omega, z.2⟩, fun z => ⟨by omega, z.2⟩⟩
              have hv' := hst x hx; simp only [e, e'] at hv'; rw [← hv']; simp [jm_up, hxc]
          · intro j
            by_cases hj : j = 4
            · subst hj; simp [jm_up]; omega
            · have e : jm_up (jm_up (jm_up τ 13 4 (v + 1)) 0 c 0) 1 c 0 13 j = τ 13 j := by simp [jm_up, hj]
              rw [e, hh j, s3]; simp [hj]
      refine jm_Ok.go 60 [69, 160] ?_
      refine ⟨fun _ => by omega, fun _ => ⟨by omega, fun b hb1 _ _ => ?_⟩⟩
      rw [e0 c hcl (by omega)] at hb1
      refine ⟨fun h9 => ?_, fun h9 => skip _ (fun z => by have := (hg0.mp z).1; omega) (fun z => by have := (hg1.mp z).1; omega)⟩
      have h9 : ρ 0 c = 9 := by omega
      refine ⟨fun hlt => k69 0 (Or.inr ⟨rfl, by omega⟩) h9, fun hge => ⟨by omega, by omega, fun b1 hb2 _ _ => ?_⟩⟩
      rw [e0 (c - 64) (by omega) (by omega)] at hb2
      refine ⟨fun h1 => k69 1 (Or.inl ⟨rfl, by omega⟩) h9, fun h1 => ⟨by omega, by omega, fun b2 hb3 _ _ => ?_⟩⟩
      rw [e0 (c - 64) (by omega) (by omega)] at hb3
      exact ⟨fun h4 => k69 0 (Or.inr ⟨rfl, by omega⟩) h9, fun h4 => k69 1 (Or.inl ⟨rfl, by omega⟩) h9⟩
  refine jm_Ok.go 60 [14] ?_
  refine ⟨hI, ?_⟩
  rintro _ ρ1 hs1 ⟨f1, f2, f3, f4, f5⟩
  refine ⟨f1, ?_⟩
  rintro _ ρ hs2 ⟨g1, g2, g3, g4⟩
  refine loop ρ hs2 g1 (by rw [g4 9 (by decide) (by decide) (by decide) (by decide)]; exact f2) (by rw [g4 10 (by decide) (by decide) (by decide) (by decide)]; exact f3) g2 (by rw [g3, f4, hadef]) (by rw [g4 13 (by decide) (by decide) (by decide) (by decide), f5 13 (by decide) (by decide) (by decide) (by decide) (by decide) (by decide)]) 384 0 383 _ ρ (by omega) (by omega) (fun _ _ _ _ => rfl) (fun x hx => by rw [if_neg (fun z => by omega)]) (fun x hx => by rw [if_neg (fun z => by omega), if_neg (fun z => by omega)]) (fun j => ?_) (by omega)
  rw [g4 13 (by decide) (by decide) (by decide) (by decide), f5 13 (by decide) (by decide) (by decide) (by decide) (by decide) (by decide), n3, n4, Int.sub_self, Int.sub_self, Int.add_zero, Int.add_zero]
  by_cases h3 : j = 3
  · rw [if_pos h3, h3]
  · rw [if_neg h3]
    by_cases h4 : j = 4
    · rw [if_pos h4, h4]
    · rw [if_neg h4]
def sp_M_tick : jm_K := (false, 1, false, fun as σ => (match as with
  | [_] => mw_I σ ∧ ∀ j, 0 ≤ j → j < 5 → σ 13 j ≤ 400000000
  | _ => False), fun as σ r σ' => (match as with
  | [n] => ((1 ≤ n ∧ n ≤ 50) ∧ r = (bw_tk n.toNat (bw_abs σ)).1 ∧ mw_I σ' ∧ bw_abs σ' = (bw_tk n.toNat (bw_abs σ)).2.1 ∧ σ' 13 0 = σ 13 0 + (bw_tk n.toNat (bw_abs σ)).1 ∧ σ' 13 1 = σ 13 1 + (bw_tk n.toNat (bw_abs σ)).2.2.1 ∧ σ' 13 2 = σ 13 2 + (bw_tk n.toNat (bw_abs σ)).2.2.2.1 ∧ σ' 13 3 = σ 13 3 + (bw_tk n.toNat (bw_abs σ)).2.2.2.2.1 ∧ σ' 13 4 = σ 13 4 + (bw_tk n.toNat (bw_abs σ)).2.2.2.2.2) ∨ (¬ (1 ≤ n ∧ n ≤ 50) ∧ r = -1 ∧ σ' = σ)
  | _ => False))
def L_M_tick : List (Nat × jm_K) := [(103, sp_M_invert), (107, sp_M_fall), (110, sp_M_grow)]
set_option maxHeartbeats 4000000 in
set_option maxRecDepth 100000 in
theorem con_M_tick : jm_Con classes D_M 14 ks_M 1 y_M_tick b_M_tick 5 (jm_rt (some false)) 6 sp_M_tick := by
  refine jm_con2 (L := L_M_tick) (code := k_M_tick) CF_M rfl (by decide) ck_M_tick ⟨⟨y_M_invert, b_M_invert, 3, jm_rt (some false), 4, by decide, con_M_invert, lk_M_invert _ _, rfl⟩, ⟨y_M_fall, b_M_fall, 3, jm_rt (some false), 1, by decide, con_M_fall, lk_M_fall _ _, rfl⟩, ⟨y_M_grow, b_M_grow, 4, jm_rt (some false), 5, by decide, con_M_grow, lk_M_grow _ _, rfl⟩, trivial⟩ (by decide) ?_
  intro σ as hl hr hs hp Q hQ
  obtain ⟨n, rfl⟩ := jm_a1 hl
  obtain ⟨hK, hh⟩ : mw_I σ ∧ ∀ j, 0 ≤ j → j < 5 → σ 13 j ≤ 400000000 := hp
  have loop : n ≤ 50 → ∀ (k : Nat) (made : Int) (l4 : Option jm_V) (τ : jm_S), 0 ≤ made → n = made + k → jm_okS D_M τ → mw_I τ → (∀ j, 0 ≤ j → j < 5 → τ 13 j ≤ 400000000 + 384 * made) → (∀ r u, r = made + (bw_tk k (bw_abs τ)).1 ∧ mw_I u ∧ bw_abs u = (bw_tk k (bw_abs τ)).2.1 ∧ u 13 0 = τ 13 0 + (bw_tk k (bw_abs τ)).1 ∧ u 13 1 = τ 13 1 + (bw_tk k (bw_abs τ)).2.2.1 ∧ u 13 2 = τ 13 2 + (bw_tk k (bw_abs τ)).2.2.2.1 ∧ u 13 3 = τ 13 3 + (bw_tk k (bw_abs τ)).2.2.2.2.1 ∧ u 13 4 = τ 13 4 + (bw_tk k (bw_abs τ)).2.2.2.2.2 → Q r u) → jm_Ok D_M fi_M (jm_look L_M_tick) k_M_tick (some false) Q 17 [some (.inr none), some (.inl n), some (.inl made), some (.inl 1), l4] [] τ := by
    intro hn50 k
    induction k with
    | zero =>
      intro made l4 τ hm0 hmn hsτ hKτ hhτ hfin
      refine jm_Ok.go 60 [] ?_
      refine ⟨fun q => by omega, fun _ => ⟨fun _ => hfin _ _ ⟨by simp [bw_tk], hKτ, rfl, by simp [bw_tk], by simp [bw_tk], by simp [bw_tk], by simp [bw_tk], by simp [bw_tk]⟩, fun q => by omega⟩⟩
    | succ k ih =>
      intro made l4 τ hm0 hmn hsτ hKτ hhτ hfin
      have n0 : ∀ j, 0 ≤ j → j < 5 → 0 ≤ τ 13 j := fun j a b => (hsτ 13 j a (Or.inl b)).1
      have b0 := hhτ 0 (by omega) (by omega)
      have b1 := hhτ 1 (by omega) (by omega)
      have b2 := hhτ 2 (by omega) (by omega)
      have b3 := hhτ 3 (by omega) (by omega)
      have b4 := hhτ 4 (by omega) (by omega)
      have z0 := n0 0 (by omega) (by omega)
      have z1 := n0 1 (by omega) (by omega)
      have z2 := n0 2 (by omega) (by omega)
      have z3 := n0 3 (by omega) (by omega)
      have z4 := n0 4 (by omega) (by omega)
      have hT := bw_tp_rg (bw_abs τ)
      have e1 : (bw_tp (bw_abs τ)).1 = bw_gw (bw_ff (bw_iv (bw_abs τ))).1 := rfl
      have e2 : (bw_tp (bw_abs τ)).2.1 = bw_in (bw_abs τ) := rfl
      have e3 : (bw_tp (bw_abs τ)).2.2.1 = (bw_ff (bw_iv (bw_abs τ))).2 := rfl
      have e4 : (bw_tp (bw_abs τ)).2.2.2.1 = bw_n3 (bw_ff (bw_iv (bw_abs τ))).1 := rfl
      have e5 : (bw_tp (bw_abs τ)).2.2.2.2 = bw_n4 (bw_ff (bw_iv (bw_abs τ))).1 := rfl
      -- behind a tick: the state ρ, whether there is more
      have k73 : ∀ (mo : Int) (l3 l4 : Option jm_V) (ρ : jm_S), jm_okS D_M ρ → mw_I ρ → bw_abs ρ = (bw_tp (bw_abs τ)).1 → ρ 13 0 = τ 13 0 + 1 → ρ 13 1 = τ 13 1 + (bw_tp (bw_abs τ)).2.1 → ρ 13 2 = τ 13 2 + (bw_tp (bw_abs τ)).2.2.1 → ρ 13 3 = τ 13 3 + (bw_tp (bw_abs τ)).2.2.2.1 → ρ 13 4 = τ 13 4 + (bw_tp (bw_abs τ)).2.2.2.2 → ((mo = 0 ∧ (bw_tp (bw_abs τ)).2.1 + (bw_tp (bw_abs τ)).2.2.1 + (bw_tp (bw_abs τ)).2.2.2.1 + (bw_tp (bw_abs τ)).2.2.2.2 = 0) ∨ (mo = 1 ∧ (bw_tp (bw_abs τ)).2.1 + (bw_tp (bw_abs τ)).2.2.1 + (bw_tp (bw_abs τ)).2.2.2.1 + (bw_tp (bw_abs τ)).2.2.2.2 ≠ 0)) → jm_Ok D_M fi_M (jm_look L_M_tick) k_M_tick (some false) Q 73 [some (.inr none), some (.inl n), some (.inl (made + 1)), l3, l4] [.inl mo] ρ := by
        intro mo l3 l4 ρ hsρ hKρ ha h0 h1 h2 h3 h4 hmo
        rcases hmo with ⟨rfl, hz⟩ | ⟨rfl, hz⟩
        · refine jm_Ok.go 60 [] ?_
          refine ⟨fun _ => hfin _ _ ?_, fun q => absurd rfl q⟩
          have e : bw_tk (k + 1) (bw_abs τ) = (1, bw_tp (bw_abs τ)) := by
            conv => lhs; unfold bw_tk
            rw [if_pos hz]
          rw [e]
          exact ⟨rfl, hKρ, ha, h0, h1, h2, h3, h4⟩
        · refine jm_Ok.go 60 [17] ?_
          refine ih (made + 1) _ ρ (by omega) (by omega) hsρ hKρ ?_ ?_
          · intro j a b
            have : j = 0 ∨ j = 1 ∨ j = 2 ∨ j = 3 ∨ j = 4 := by omega
            rcases this with rfl | rfl | rfl | rfl | rfl <;> omega
          · intro r u q
            apply hfin
            have e : bw_tk (k + 1) (bw_abs τ) = ((bw_tk k (bw_tp (bw_abs τ)).1).1 + 1, (bw_tk k (bw_tp (bw_abs τ)).1).2.1, (bw_tk k (bw_tp (bw_abs τ)).1).2.2.1 + (bw_tp (bw_abs τ)).2.1, (bw_tk k (bw_tp (bw_abs τ)).1).2.2.2.1 + (bw_tp (bw_abs τ)).2.2.1, (bw_tk k (bw_tp (bw_abs τ)).1).2.2.2.2.1 + (bw_tp (bw_abs τ)).2.2.2.1, (bw_tk k (bw_tp (bw_abs τ)).1).2.2.2.2.2 + (bw_tp (bw_abs τ)).2.2.2.2) := by
              conv => lhs; unfold bw_tk
              rw [if_neg hz]
            rw [e]
            rw [ha] at q
            obtain ⟨q1, q2, q3, q4, q5, q6, q7, q8⟩ := q
            exact ⟨by dsimp only; omega, q2, q3, by dsimp only; omega, by dsimp only; omega, by dsimp only; omega, by dsimp only; omega, by dsimp only; omega⟩
      refine jm_Ok.go 120 [73] ?_
      refine ⟨fun q => by omega, fun _ => ⟨fun q => by omega, fun _ => ?_⟩⟩
      refine ⟨by omega, by omega, fun v0 ev0 _ _ => ⟨by omega, by omega, by omega, ⟨hKτ, ?_⟩, ?_⟩⟩
      · show jm_up τ 13 0 (v0 + 1) 13 1 ≤ 2000000000
        simp [jm_up]; omega
      rintro i τ1 hs1 ⟨i1, i2, i3, i4⟩
      have i1 : i = (bw_tp (bw_abs τ)).2.1 := i1
      have i3 : bw_abs τ1 = bw_iv (bw_abs τ) := i3
      have i4 : ∀ j, τ1 13 j = if j = 1 then τ 13 1 + (bw_tp (bw_abs τ)).2.1 else if j = 0 then τ 13 0 + 1 else τ 13 j := by
        intro j
        rw [i4 j]
        show (if j = 1 then jm_up τ 13 0 (v0 + 1) 13 1 + (bw_tp (bw_abs τ)).2.1 else jm_up τ 13 0 (v0 + 1) 13 j) = _
        by_cases h1 : j = 1
        · simp [h1, jm_up]
        · by_cases h0 : j = 0
          · simp [h0, jm_up]; exact ev0
          · simp [h1, h0, jm_up]
      have t2 : τ1 13 2 = τ 13 2 := by rw [i4 2]; simp
      refine ⟨⟨i2, by omega⟩, ?_⟩
      rintro f τ2 hs2 ⟨f1, f2, f3, f4⟩
      have f1 : f = (bw_tp (bw_abs τ)).2.2.1 := by rw [e3, ← i3]; exact f1
      have f3 : bw_abs τ2 = (bw_ff (bw_iv (bw_abs τ))).1 := by rw [← i3]; exact f3
      rw [i3, ← e3] at f4
      have s3 : τ2 13 3 = τ 13 3 := by rw [f4 3]; simp [i4]
      have s4 : τ2 13 4 = τ 13 4 := by rw [f4 4]; simp [i4]
      refine ⟨by omega, ⟨f2, by omega, by omega⟩, ?_⟩
      rintro g τ3 hs3 ⟨g0, g1, g2, g3⟩
      have g2 : bw_abs τ3 = (bw_tp (bw_abs τ)).1 := by rw [e1, ← f3]; exact g2
      rw [f3, ← e4, ← e5] at g3
      rw [f3, ← e4, ← e5] at g0
      have t0 : τ3 13 0 = τ 13 0 + 1 := by rw [g3 0]; simp [f4, i4]
      have t1 : τ3 13 1 = τ 13 1 + (bw_tp (bw_abs τ)).2.1 := by rw [g3 1]; simp [f4, i4]
      have t2 : τ3 13 2 = τ 13 2 + (bw_tp (bw_abs τ)).2.2.1 := by rw [g3 2]; simp [f4, i4]
      have t3 : τ3 13 3 = τ 13 3 + (bw_tp (bw_abs τ)).2.2.2.1 := by rw [g3 3]; simp; exact s3
      have t4 : τ3 13 4 = τ 13 4 + (bw_tp (bw_abs τ)).2.2.2.2 := by rw [g3 4]; simp; exact s4
      refine ⟨by omega, ?_⟩
      exact ⟨fun hle => k73 0 _ _ τ3 hs3 g1 g2 t0 t1 t2 t3 t4 (Or.inl ⟨rfl, by omega⟩), fun hgt => k73 1 _ _ τ3 hs3 g1 g2 t0 t1 t2 t3 t4 (Or.inr ⟨rfl, by omega⟩)⟩
  refine jm_Ok.go 60 [17] ?_
  refine ⟨fun h => hQ _ _ (Or.inr ⟨by omega, rfl, rfl⟩), fun h1 => ⟨fun h50 => ?_, fun h => hQ _ _ (Or.inr ⟨by omega, rfl, rfl⟩)⟩⟩
  refine loop (by omega) n.toNat 0 _ σ (by omega) (by omega) hs hK (fun j a b => by have := hh j a b; omega) ?_
  intro r u q
  refine hQ _ _ (Or.inl ⟨by omega, ?_⟩)
  obtain ⟨q1, q2⟩ := q
  exact ⟨by omega, q2⟩
end
section
/-! the reference's answers -/
def mw_Kp (σ σ' : jm_S) : Prop := mw_I σ' ∧ bw_abs σ' = bw_abs σ ∧ σ' 13 = σ 13
theorem mw_Kp.rf {σ : jm_S} (h : mw_I σ) : mw_Kp σ σ := ⟨h, rfl, rfl⟩
def sp_M_block : jm_K := (false, 1, false, fun as σ => (match as with
  | [_] => mw_I σ
  | _ => False), fun as σ r σ' => (match as with
  | [c] => r = (if bw_cl c then (bw_abs σ).1 c else -1) ∧ mw_Kp σ σ'
  | _ => False))
def L_M_block : List (Nat × jm_K) := [(78, sp_M_among)]
set_option maxHeartbeats 4000000 in
set_option maxRecDepth 100000 in
theorem con_M_block : jm_Con classes D_M 14 ks_M 1 y_M_block b_M_block 2 (jm_rt (some false)) 1 sp_M_block := by
  refine jm_con2 (L := L_M_block) (code := k_M_block) CF_M rfl (by decide) ck_M_block ⟨⟨y_M_among, b_M_among, 3, jm_rt (some true), 0, by decide, con_M_among, lk_M_among _ _, rfl⟩, trivial⟩ (by decide) ?_
  intro σ as hl hr hs hp Q hQ
  obtain ⟨c, rfl⟩ := jm_a1 hl
  have hK : mw_I σ := hp
  refine jm_Ok.go 60 [] ?_
  refine ⟨trivial, ?_⟩
  rintro r σ - ⟨hr, rfl⟩
  refine ⟨fun h0 => hQ _ _ ⟨?_, mw_Kp.rf hK⟩, fun h1 => ⟨by omega, fun v hv _ _ => hQ _ _ ⟨?_, mw_Kp.rf hK⟩⟩⟩
  · rw [if_neg (by omega)]
  · rw [if_pos (by omega), bw_abs_0 (by omega)]; exact hv
def sp_M_light : jm_K := (false, 1, false, fun as σ => (match as with
  | [_] => mw_I σ
  | _ => False), fun as σ r σ' => (match as with
  | [c] => r = (if bw_cl c then bw_lgt (bw_abs σ) c else -1) ∧ mw_Kp σ σ'
  | _ => False))
def L_M_light : List (Nat × jm_K) := [(78, sp_M_among), (94, sp_M_findLight)]
set_option maxHeartbeats 4000000 in
set_option maxRecDepth 100000 in
theorem con_M_light : jm_Con classes D_M 14 ks_M 1 y_M_light b_M_light 2 (jm_rt (some false)) 5 sp_M_light := by
  refine jm_con2 (L := L_M_light) (code := k_M_light) CF_M rfl (by decide) ck_M_light ⟨⟨y_M_among, b_M_among, 3, jm_rt (some true), 0, by decide, con_M_among, lk_M_among _ _, rfl⟩, ⟨y_M_findLight, b_M_findLight, 2, jm_rt none, 4, by decide, con_M_findLight, lk_M_findLight _ _, rfl⟩, trivial⟩ (by decide) ?_
  intro σ as hl hr hs hp Q hQ
  obtain ⟨c, rfl⟩ := jm_a1 hl
  have hK : mw_I σ := hp
  refine jm_Ok.go 60 [] ?_
  refine ⟨trivial, ?_⟩
  rintro r σ - ⟨hr, rfl⟩
  refine ⟨fun h1 => ⟨hK, ?_⟩, fun h0 => hQ _ _ ⟨?_, mw_Kp.rf hK⟩⟩
  rotate_left
  · rw [if_neg (by omega)]
  · rintro _ τ hsτ ⟨f1, f2, f3, f4, f5⟩
    refine ⟨by omega, fun v hv _ _ => hQ _ _ ⟨?_, f1, f4, f5 13 (by decide) (by decide) (by decide) (by decide) (by decide) (by decide)⟩⟩
    rw [if_pos (by omega), ← f4, ← (f1.2.1 f3).2 c (by omega)]; exact hv
def sp_M_sky : jm_K := (false, 1, false, fun as σ => (match as with
  | [_] => mw_I σ
  | _ => False), fun as σ r σ' => (match as with
  | [c] => r = (if bw_cl c then bw_sky (bw_abs σ) c else -1) ∧ mw_Kp σ σ'
  | _ => False))
def L_M_sky : List (Nat × jm_K) := [(78, sp_M_among), (97, sp_M_findSky)]
set_option maxHeartbeats 4000000 in
set_option maxRecDepth 100000 in
theorem con_M_sky : jm_Con classes D_M 14 ks_M 1 y_M_sky b_M_sky 2 (jm_rt (some false)) 4 sp_M_sky := by
  refine jm_con2 (L := L_M_sky) (code := k_M_sky) CF_M rfl (by decide) ck_M_sky ⟨⟨y_M_among, b_M_among, 3, jm_rt (some true), 0, by decide, con_M_among, lk_M_among _ _, rfl⟩, ⟨y_M_findSky, b_M_findSky, 2, jm_rt none, 3, by decide, con_M_findSky, lk_M_findSky _ _, rfl⟩, trivial⟩ (by decide) ?_
  intro σ as hl hr hs hp Q hQ
  obtain ⟨c, rfl⟩ := jm_a1 hl
  have hK : mw_I σ := hp
  refine jm_Ok.go 60 [] ?_
  refine ⟨trivial, ?_⟩
  rintro r σ - ⟨hr, rfl⟩
  refine ⟨fun h1 => ⟨hK, ?_⟩, fun h0 => hQ _ _ ⟨?_, mw_Kp.rf hK⟩⟩
  rotate_left
  · rw [if_neg (by omega)]
  · rintro _ τ hsτ ⟨f1, f2, f3, f4⟩
    refine ⟨by omega, fun v hv _ _ => hQ _ _ ⟨?_, f1, f3, f4 13 (by decide) (by decide) (by decide) (by decide)⟩⟩
    rw [if_pos (by omega), ← f3, ← (f1.2.2 f2 c (by omega)).1]; exact hv
def sp_M_power : jm_K := (false, 1, false, fun as σ => (match as with
  | [_] => mw_I σ
  | _ => False), fun as σ r σ' => (match as with
  | [c] => r = bw_qpow (bw_abs σ) c ∧ mw_Kp σ σ'
  | _ => False))
def L_M_power : List (Nat × jm_K) := [(78, sp_M_among), (59, sp_M_findPower)]
set_option maxHeartbeats 4000000 in
set_option maxRecDepth 100000 in
theorem con_M_power : jm_Con classes D_M 14 ks_M 1 y_M_power b_M_power 3 (jm_rt (some false)) 4 sp_M_power := by
  refine jm_con2 (L := L_M_power) (code := k_M_power) CF_M rfl (by decide) ck_M_power ⟨⟨y_M_among, b_M_among, 3, jm_rt (some true), 0, by decide, con_M_among, lk_M_among _ _, rfl⟩, ⟨y_M_findPower, b_M_findPower, 4, jm_rt none, 3, by decide, con_M_findPower, lk_M_findPower _ _, rfl⟩, trivial⟩ (by decide) ?_
  intro σ as hl hr hs hp Q hQ
  obtain ⟨c, rfl⟩ := jm_a1 hl
  have hK : mw_I σ := hp
  refine jm_Ok.go 60 [17] ?_
  refine ⟨trivial, ?_⟩
  rintro r σ - ⟨hr, rfl⟩
  refine ⟨fun h1 => ⟨hK, ?_⟩, fun h0 => hQ _ _ ⟨?_, mw_Kp.rf hK⟩⟩
  rotate_left
  · unfold bw_qpow
    rw [if_neg (by omega)]
  · rintro _ τ hsτ ⟨f1, f2, f3, f4⟩
    have hc : bw_cl c := by omega
    have hKp : mw_Kp σ τ := ⟨f1, f3, f4 13 (by decide) (by decide) (by decide)⟩
    have hP := f1.1 f2 c hc
    have e : bw_qpow (bw_abs σ) c = if τ 0 c = 5 then τ 3 c else if τ 0 c = 7 ∨ τ 0 c = 8 then τ 2 c else if τ 0 c = 9 then τ 1 c else if τ 0 c = 6 then 15 else 0 := by
      unfold bw_qpow
      rw [← f3, if_pos hc, bw_abs_0 hc, bw_abs_1 hc, ← hP.1]
      by_cases h7 : τ 0 c = 7
      · rw [bw_on_7 (by rw [bw_abs_0 hc]; exact h7), bw_abs_2 hc h7]
      · by_cases h8 : τ 0 c = 8
        · rw [hP.2 h8]
        · simp [h7, h8]
    have p50 : (τ 0 c = 7 ∨ τ 0 c = 8) → ∀ l2 : Option jm_V, jm_Ok D_M fi_M (jm_look L_M_power) k_M_power (some false) Q 50 [some (.inr none), some (.inl c), l2] [] τ := by
      intro h l2
      refine jm_Ok.go 60 [] ?_
      refine ⟨by omega, fun v hv _ _ => ⟨fun hz => hQ _ _ ⟨?_, hKp⟩, fun hz => hQ _ _ ⟨?_, hKp⟩⟩⟩
      · rw [e, if_neg (by omega), if_pos h]; omega
      · rw [e, if_neg (by omega), if_pos h]; omega
    refine jm_Ok.go 60 [50] ?_
    refine ⟨by omega, fun b hb _ _ => ⟨fun h5 => ⟨fun h7 => p50 (by omega) _, fun h7 => ⟨fun h8 => ⟨fun h9 => ⟨fun h6 => hQ _ _ ⟨?_, hKp⟩, fun h6 => hQ _ _ ⟨?_, hKp⟩⟩, fun h9 => ⟨by omega, fun v hv _ _ => hQ _ _ ⟨?_, hKp⟩⟩⟩, fun h8 => p50 (by omega) _⟩⟩, fun h5 => ⟨by omega, fun v hv _ _ => hQ _ _ ⟨?_, hKp⟩⟩⟩⟩
    · rw [e, if_neg (by omega), if_neg (by omega), if_neg (by omega), if_neg (by omega)]
    · rw [e, if_neg (by omega), if_neg (by omega), if_neg (by omega), if_pos (by omega)]
    · rw [e, if_neg (by omega), if_neg (by omega), if_pos (by omega)]; exact hv
    · rw [e, if_pos (by omega)]; exact hv
def sp_M_fed : jm_K := (false, 1, false, fun as σ => (match as with
  | [_] => mw_I σ
  | _ => False), fun as σ r σ' => (match as with
  | [c] => ((r = 1 ∧ bw_cl c ∧ bw_fed (bw_abs σ).1 (bw_abs σ).2.2 (bw_pow (bw_abs σ)) c) ∨ (r = 0 ∧ ¬ (bw_cl c ∧ bw_fed (bw_abs σ).1 (bw_abs σ).2.2 (bw_pow (bw_abs σ)) c))) ∧ mw_Kp σ σ'
  | _ => False))
def L_M_fed : List (Nat × jm_K) := [(78, sp_M_among), (59, sp_M_findPower), (56, sp_M_feeds)]
set_option maxHeartbeats 4000000 in
set_option maxRecDepth 100000 in
theorem con_M_fed : jm_Con classes D_M 14 ks_M 1 y_M_fed b_M_fed 2 (jm_rt (some true)) 4 sp_M_fed := by
  refine jm_con2 (L := L_M_fed) (code := k_M_fed) CF_M rfl (by decide) ck_M_fed ⟨⟨y_M_among, b_M_among, 3, jm_rt (some true), 0, by decide, con_M_among, lk_M_among _ _, rfl⟩, ⟨y_M_findPower, b_M_findPower, 4, jm_rt none, 3, by decide, con_M_findPower, lk_M_findPower _ _, rfl⟩, ⟨y_M_feeds, b_M_feeds, 4, jm_rt (some true), 2, by decide, con_M_feeds, lk_M_feeds _ _, rfl⟩, trivial⟩ (by decide) ?_
  intro σ as hl hr hs hp Q hQ
  obtain ⟨c, rfl⟩ := jm_a1 hl
  have hK : mw_I σ := hp
  refine jm_Ok.go 60 [] ?_
  refine ⟨trivial, ?_⟩
  rintro r σ - ⟨hr, rfl⟩
  refine ⟨fun h1 => ⟨hK, ?_⟩, fun h0 => ⟨by omega, hQ _ _ ⟨Or.inr ⟨rfl, fun q => ?_⟩, mw_Kp.rf hK⟩⟩⟩
  rotate_left
  · rcases hr with z | z
    · omega
    · exact z.2 q.1
  · rintro _ τ hsτ ⟨f1, f2, f3, f4⟩
    have hc : bw_cl c := by
      rcases hr with z | z
      · exact z.2
      · omega
    have hKp : mw_Kp σ τ := ⟨f1, f3, f4 13 (by decide) (by decide) (by decide)⟩
    refine ⟨hc, ?_⟩
    rintro f τ - ⟨hf, rfl⟩
    rw [bw_fed_of (fun k hk => (f1.1 f2 k hk).1) hc, f3] at hf
    refine ⟨by omega, hQ _ _ ⟨?_, hKp⟩⟩
    rcases hf with z | z
    · exact Or.inl ⟨z.1, hc, z.2⟩
    · exact Or.inr ⟨z.1, fun q => z.2 q.2⟩
def sp_M_since : jm_K := (false, 1, false, fun as σ => (match as with
  | [_] => mw_I σ
  | _ => False), fun as σ r σ' => (match as with
  | [w] => r = (if 0 ≤ w ∧ w < 5 then σ 13 w else -1) ∧ mw_Kp σ σ'
  | _ => False))
def L_M_since : List (Nat × jm_K) := [(78, sp_M_among)]
set_option maxHeartbeats 4000000 in
set_option maxRecDepth 100000 in
theorem con_M_since : jm_Con classes D_M 14 ks_M 1 y_M_since b_M_since 2 (jm_rt (some false)) 1 sp_M_since := by
  refine jm_con2 (L := L_M_since) (code := k_M_since) CF_M rfl (by decide) ck_M_since ⟨⟨y_M_among, b_M_among, 3, jm_rt (some true), 0, by decide, con_M_among, lk_M_among _ _, rfl⟩, trivial⟩ (by decide) ?_
  intro σ as hl hr hs hp Q hQ
  obtain ⟨w, rfl⟩ := jm_a1 hl
  have hK : mw_I σ := hp
  refine jm_Ok.go 60 [] ?_
  refine ⟨trivial, ?_⟩
  rintro r σ - ⟨hr, rfl⟩
  refine ⟨fun h0 => hQ _ _ ⟨?_, mw_Kp.rf hK⟩, fun h1 => ⟨by omega, fun v hv _ _ => hQ _ _ ⟨?_, mw_Kp.rf hK⟩⟩⟩
  · rw [if_neg (by omega)]
  · rw [if_pos (by omega)]; exact hv
/-- what count adds at a cell -/
def mw_g (τ : jm_S) (w x : Int) : Int := if w < 10 then (if τ 0 x = w then 1 else 0) else if w = 10 then (if τ 0 x = 8 ∧ τ 2 x = 1 then 1 else 0) else if w = 11 then (if τ 0 x = 7 ∧ τ 2 x = 1 then 1 else 0)
  else if w = 12 then (if τ 0 x = 5 ∧ 0 < τ 3 x then 1 else 0) else if w = 13 then τ 4 x else if w = 14 then τ 5 x else (if τ 6 x = 1 then 1 else 0)
theorem mw_g_rg {τ : jm_S} (hs : jm_okS D_M τ) (w : Int) {x : Int} (hx : bw_cl x) : 0 ≤ mw_g τ w x ∧ mw_g τ w x ≤ 15 := by
  have h4 : 0 ≤ τ 4 x ∧ τ 4 x ≤ 15 := hs 4 x hx.1 (Or.inl hx.2)
  have h5 : 0 ≤ τ 5 x ∧ τ 5 x ≤ 15 := hs 5 x hx.1 (Or.inl hx.2)
  unfold mw_g
  repeat' split
  all_goals omega
theorem bw_cnt_sum (p : Int → Bool) : ∀ n : Nat, bw_cnt p n = bw_sum (fun x => if p x = true then 1 else 0) n
  | 0 => rfl
  | n + 1 => by unfold bw_cnt bw_sum; rw [bw_cnt_sum p n]
theorem bw_pow_5 (a : bw_X) {x : Int} (hx : bw_cl x) (h : 0 < bw_pow a x) : a.1 x = 5 := by
  unfold bw_pow bw_the at h
  split at h
  · rename_i hex
    have h2 := (Classical.choose_spec hex).2.2 x hx
    have h3 := (h2.2 h).1
    unfold bw_ps at h3
    omega
  · simp at h
theorem mw_qcnt {τ : jm_S} {w : Int} (hI : mw_I τ) (h9 : τ 9 0 = 1) (h10 : w = 13 → τ 10 0 = 1) (h11 : 13 < w → τ 11 0 = 1) (hw : 0 ≤ w ∧ w < 16) : bw_sum (mw_g τ w) 384 = bw_qcnt (bw_abs τ) w := by
  have hP := hI.1 h9
  unfold bw_qcnt
  by_cases h1 : w < 10
  · rw [if_pos ⟨hw.1, h1⟩, bw_cnt_sum]
    refine bw_sum_congr 384 fun i a b => ?_
    unfold mw_g
    rw [if_pos h1, bw_abs_0 ⟨a, b⟩]; simp
  · rw [if_neg (by omega)]
    by_cases h2 : w = 10
    · rw [if_pos h2, bw_cnt_sum]
      refine bw_sum_congr 384 fun i a b => ?_
      unfold mw_g
      rw [if_neg h1, if_pos h2, bw_abs_0 ⟨a, b⟩]
      by_cases h8 : τ 0 i = 8
      · rw [← (hP i ⟨a, b⟩).2 h8]; simp
      · simp [h8]
    · rw [if_neg h2]
      by_cases h3 : w = 11
      · rw [if_pos h3, bw_cnt_sum]
        refine bw_sum_congr 384 fun i a b => ?_
        unfold mw_g
        rw [if_neg h1, if_neg h2, if_pos h3, bw_abs_0 ⟨a, b⟩]
        by_cases h7 : τ 0 i = 7
        · rw [bw_on_7 (by rw [bw_abs_0 ⟨a, b⟩]; exact h7), bw_abs_2 ⟨a, b⟩ h7]; simp
        · simp [h7]
      · rw [if_neg h3]
        by_cases h4 : w = 12
        · rw [if_pos h4, bw_cnt_sum]
          refine bw_sum_congr 384 fun i a b => ?_
          unfold mw_g
          rw [if_neg h1, if_neg h2, if_neg h3, if_pos h4, (hP i ⟨a, b⟩).1]
          have h5 := bw_pow_5 (bw_abs τ) (x := i) ⟨a, b⟩
          rw [bw_abs_0 ⟨a, b⟩] at h5
          by_cases hp : 0 < bw_pow (bw_abs τ) i
          · simp [hp, h5 hp]
          · simp [hp]
        · rw [if_neg h4]
          by_cases h5 : w = 13
          · rw [if_pos h5]
            refine bw_sum_congr 384 fun i a b => ?_
            unfold mw_g
            rw [if_neg h1, if_neg h2, if_neg h3, if_neg h4, if_pos h5]
            exact (hI.2.1 (h10 h5)).2 i ⟨a, b⟩
          · rw [if_neg h5]
            have hS := hI.2.2 (h11 (by omega))
            by_cases h6 : w = 14
            · rw [if_pos h6]
              refine bw_sum_congr 384 fun i a b => ?_
              unfold mw_g
              rw [if_neg h1, if_neg h2, if_neg h3, if_neg h4, if_neg h5, if_pos h6]
              exact (hS i ⟨a, b⟩).1
            · rw [if_neg h6, if_pos (by omega), bw_cnt_sum]
              refine bw_sum_congr 384 fun i a b => ?_
              unfold mw_g
              rw [if_neg h1, if_neg h2, if_neg h3, if_neg h4, if_neg h5, if_neg h6]
              have e := (hS i ⟨a, b⟩).2
              rw [← bw_ob_iff] at e
              by_cases q : τ 6 i = 1
              · rw [if_pos q, if_pos (e.mp q)]
              · rw [if_neg q, if_neg (fun z => q (e.mpr z))]
def sp_M_count : jm_K := (false, 1, false, fun as σ => (match as with
  | [_] => mw_I σ
  | _ => False), fun as σ r σ' => (match as with
  | [w] => r = bw_qcnt (bw_abs σ) w ∧ mw_Kp σ σ'
  | _ => False))
def L_M_count : List (Nat × jm_K) := [(59, sp_M_findPower), (94, sp_M_findLight), (97, sp_M_findSky), (78, sp_M_among)]
set_option maxHeartbeats 4000000 in
set_option maxRecDepth 100000 in
theorem con_M_count : jm_Con classes D_M 14 ks_M 1 y_M_count b_M_count 5 (jm_rt (some false)) 5 sp_M_count := by
  refine jm_con2 (L := L_M_count) (code := k_M_count) CF_M rfl (by decide) ck_M_count ⟨⟨y_M_findPower, b_M_findPower, 4, jm_rt none, 3, by decide, con_M_findPower, lk_M_findPower _ _, rfl⟩, ⟨y_M_findLight, b_M_findLight, 2, jm_rt none, 4, by decide, con_M_findLight, lk_M_findLight _ _, rfl⟩, ⟨y_M_findSky, b_M_findSky, 2, jm_rt none, 3, by decide, con_M_findSky, lk_M_findSky _ _, rfl⟩, ⟨y_M_among, b_M_among, 3, jm_rt (some true), 0, by decide, con_M_among, lk_M_among _ _, rfl⟩, trivial⟩ (by decide) ?_
  intro σ as hl hr hs hp Q hQ
  obtain ⟨w, rfl⟩ := jm_a1 hl
  have hK : mw_I σ := hp
  have loop : ∀ τ : jm_S, jm_okS D_M τ → mw_Kp σ τ → τ 9 0 = 1 → (w = 13 → τ 10 0 = 1) → (13 < w → τ 11 0 = 1) → ∀ (n m : Nat) (many c : Int) (l4 : Option jm_V), c = m → m + n = 384 → many = bw_sum (mw_g τ w) m → jm_Ok D_M fi_M (jm_look L_M_count) k_M_count (some false) Q 28 [some (.inr none), some (.inl w), some (.inl many), some (.inl c), l4] [] τ := by
    intro τ hsτ hKp h9 h10 h11 n
    induction n with
    | zero =>
      intro m many c l4 hc hm hmany
      have hm : m = 384 := by omega
      subst hm
      refine jm_Ok.go 60 [] ?_
      refine ⟨fun _ => ⟨trivial, ?_⟩, fun _ => by omega⟩
      rintro r τ - ⟨hr, rfl⟩
      refine ⟨fun h0 => hQ _ _ ⟨?_, hKp⟩, fun h1 => hQ _ _ ⟨?_, hKp⟩⟩
      · unfold bw_qcnt
        rw [if_neg (by omega), if_neg (by omega), if_neg (by omega), if_neg (by omega), if_neg (by omega), if_neg (by omega), if_neg (by omega)]
      · rw [hmany, mw_qcnt hKp.1 h9 h10 h11 (by omega), hKp.2.1]
    | succ n ih =>
      intro m many c l4 hc hm hmany
      have hcl : bw_cl c := by omega
      have hmr := bw_sum_rg (f := mw_g τ w) (M := 15) (by omega) m (fun i a b => mw_g_rg hsτ w ⟨a, by omega⟩)
      have hgr := mw_g_rg hsτ w hcl
      have k195 : ∀ (many' : Int) (l4 : Option jm_V), many' = many + mw_g τ w c → jm_Ok D_M fi_M (jm_look L_M_count) k_M_count (some false) Q 195 [some (.inr none), some (.inl w), some (.inl many'), some (.inl c), l4] [] τ := by
        intro many' l4 hm'
        refine jm_Ok.go 60 [28] ?_
        refine ⟨by omega, ih (m + 1) many' (c + 1) l4 (by omega) (by omega) ?_⟩
        rw [hm', hmany, hc]; rfl
      have k61 : ∀ (v : Int) (l4 : Option jm_V), v = mw_g τ w c → jm_Ok D_M fi_M (jm_look L_M_count) k_M_count (some false) Q 61 [some (.inr none), some (.inl w), some (.inl many), some (.inl c), l4] [.inl v, .inl many] τ := by
        intro v l4 hv
        refine jm_Ok.go 60 [195] ?_
        exact ⟨by omega, k195 _ _ (by omega)⟩
      have k111 : ∀ (v : Int) (l4 : Option jm_V), v = mw_g τ w c → jm_Ok D_M fi_M (jm_look L_M_count) k_M_count (some false) Q 111 [some (.inr none), some (.inl w), some (.inl many), some (.inl c), l4] [.inl v, .inl many] τ := by
        intro v l4 hv
        refine jm_Ok.go 60 [195] ?_
        exact ⟨by omega, k195 _ _ (by omega)⟩
      have k143 : ∀ (v : Int) (l4 : Option jm_V), v = mw_g τ w c → jm_Ok D_M fi_M (jm_look L_M_count) k_M_count (some false) Q 143 [some (.inr none), some (.inl w), some (.inl many), some (.inl c), l4] [.inl v, .inl many] τ := by
        intro v l4 hv
        refine jm_Ok.go 60 [195] ?_
        exact ⟨by omega, k195 _ _ (by omega)⟩
      have k193 : ∀ (v : Int) (l4 : Option jm_V), v = mw_g τ w c → jm_Ok D_M fi_M (jm_look L_M_count) k_M_count (some false) Q 193 [some (.inr none), some (.inl w), some (.inl many), some (.inl c), l4] [.inl v, .inl many] τ := by
        intro v l4 hv
        refine jm_Ok.go 60 [195] ?_
        exact ⟨by omega, k195 _ _ (by omega)⟩
      have k94 : ∀ (d : Int) (l4 : Int), (w = 10 ∧ d = 8) ∨ (w = 11 ∧ d = 7) → l4 = τ 0 c → jm_Ok D_M fi_M (jm_look L_M_count) k_M_count (some false) Q 94 [some (.inr none), some (.inl w), some (.inl many), some (.inl c), some (.inl l4)] [.inl d, .inl l4, .inl many] τ := by
        intro d l4 hd hl4
        have eg : mw_g τ w c = if τ 0 c = d ∧ τ 2 c = 1 then 1 else 0 := by
          unfold mw_g
          rcases hd with ⟨z1, z2⟩ | ⟨z1, z2⟩
          · rw [if_neg (by omega), if_pos z1, z2]
          · rw [if_neg (by omega), if_neg (by omega), if_pos z1, z2]
        refine jm_Ok.go 60 [111] ?_
        refine ⟨fun hne => k111 0 _ ?_, fun he => ⟨by omega, fun v hv _ _ => ⟨fun hz => k111 0 _ ?_, fun hz => k111 1 _ ?_⟩⟩⟩
        · rw [eg, if_neg (by omega)]
        · rw [eg, if_neg (by omega)]
        · rw [eg, if_pos (by omega)]
      have k78 : ∀ (l4 : Int), (w = 10 ∨ w = 11) → l4 = τ 0 c → jm_Ok D_M fi_M (jm_look L_M_count) k_M_count (some false) Q 78 [some (.inr none), some (.inl w), some (.inl many), some (.inl c), some (.inl l4)] [] τ := by
        intro l4 hw hl4
        refine jm_Ok.go 60 [94] ?_
        exact ⟨fun hne => k94 7 _ (Or.inr ⟨by omega, rfl⟩) hl4, fun he => k94 8 _ (Or.inl ⟨he, rfl⟩) hl4⟩
      refine jm_Ok.go 60 [61, 78, 143, 193] ?_
      refine ⟨fun _ => by omega, fun _ => ⟨by omega, fun b hb _ _ => ?_⟩⟩
      refine ⟨fun h10' => ⟨fun heq => k78 _ (Or.inl heq) hb, fun hne => ⟨fun h12 => ?_, fun h11' => k78 _ (Or.inr h11') hb⟩⟩, fun hlt => ?_⟩
      · refine ⟨fun h13 => ⟨fun h14 => ⟨fun h15 => ⟨by omega, fun v hv _ _ => ⟨fun hz => k193 0 _ ?_, fun hz => k193 1 _ ?_⟩⟩, fun h15 => ⟨by omega, fun v hv _ _ => k193 v _ ?_⟩⟩, fun h14 => ⟨by omega, fun v hv _ _ => k193 v _ ?_⟩⟩, fun h13 => ⟨fun h5 => k143 0 _ ?_, fun h5 => ⟨by omega, fun v hv _ _ => ⟨fun hz => k143 0 _ ?_, fun hz => k143 1 _ ?_⟩⟩⟩⟩
        · unfold mw_g; rw [if_neg (by omega), if_neg (by omega), if_neg (by omega), if_neg (by omega), if_neg (by omega), if_neg (by omega), if_neg (by omega)]
        · unfold mw_g; rw [if_neg (by omega), if_neg (by omega), if_neg (by omega), if_neg (by omega), if_neg (by omega), if_neg (by omega), if_pos (by omega)]
        · unfold mw_g; rw [if_neg (by omega), if_neg (by omega), if_neg (by omega), if_neg (by omega), if_neg (by omega), if_pos (by omega)]; exact hv
        · unfold mw_g; rw [if_neg (by omega), if_neg (by omega), if_neg (by omega), if_neg (by omega), if_pos (by omega)]; exact hv
        · unfold mw_g; rw [if_neg (by omega), if_neg (by omega), if_neg (by omega), if_pos (by omega), if_neg (by omega)]
        · unfold mw_g; rw [if_neg (by omega), if_neg (by omega), if_neg (by omega), if_pos (by omega), if_neg (by omega)]
        · unfold mw_g; rw [if_neg (by omega), if_neg (by omega), if_neg (by omega), if_pos (by omega), if_pos (by omega)]
      · refine ⟨fun hz => k61 0 _ ?_, fun hz => k61 1 _ ?_⟩
        · unfold mw_g; rw [if_pos (by omega), if_neg (by omega)]
        · unfold mw_g; rw [if_pos (by omega), if_pos (by omega)]
  have k24 : ∀ (l2 l3 l4 : Option jm_V) (τ : jm_S), jm_okS D_M τ → mw_Kp σ τ → τ 9 0 = 1 → (w = 13 → τ 10 0 = 1) → (13 < w → τ 11 0 = 1) → jm_Ok D_M fi_M (jm_look L_M_count) k_M_count (some false) Q 24 [some (.inr none), some (.inl w), l2, l3, l4] [] τ := by
    intro l2 l3 l4 τ h1 h2 h3 h4 h5
    refine jm_Ok.go 60 [28] ?_
    exact loop τ h1 h2 h3 h4 h5 384 0 0 0 _ rfl rfl rfl
  have k14 : ∀ (l2 l3 l4 : Option jm_V) (τ : jm_S), jm_okS D_M τ → mw_Kp σ τ → τ 9 0 = 1 → (w = 13 → τ 10 0 = 1) → jm_Ok D_M fi_M (jm_look L_M_count) k_M_count (some false) Q 14 [some (.inr none), some (.inl w), l2, l3, l4] [] τ := by
    intro l2 l3 l4 τ h1 h2 h3 h4
    refine jm_Ok.go 60 [24] ?_
    refine ⟨fun hle => k24 _ _ _ τ h1 h2 h3 h4 (fun q => by omega), fun hgt => ⟨h2.1, ?_⟩⟩
    rintro _ ρ hsρ ⟨f1, f2, f3, f4⟩
    exact k24 _ _ _ ρ hsρ ⟨f1, by rw [f3, h2.2.1], by rw [f4 13 (by decide) (by decide) (by decide) (by decide), h2.2.2]⟩ (by rw [f4 9 (by decide) (by decide) (by decide) (by decide)]; exact h3) (fun q => by omega) (fun _ => f2)
  refine jm_Ok.go 60 [14] ?_
  refine ⟨hK, ?_⟩
  rintro _ τ hsτ ⟨f1, f2, f3, f4⟩
  have hKp : mw_Kp σ τ := ⟨f1, f3, f4 13 (by decide) (by decide) (by decide)⟩
  refine ⟨fun hne => k14 _ _ _ τ hsτ hKp f2 (fun q => absurd q hne), fun he => ⟨f1, ?_⟩⟩
  rintro _ ρ hsρ ⟨g1, g2, g3, g4, g5⟩
  exact k14 _ _ _ ρ hsρ ⟨g1, by rw [g4, f3], by rw [g5 13 (by decide) (by decide) (by decide) (by decide) (by decide) (by decide), hKp.2.2]⟩ g2 (fun _ => g3)
def sp_M_dark : jm_K := (false, 2, false, fun as σ => (match as with
  | [_, _] => mw_I σ
  | _ => False), fun as σ r σ' => (match as with
  | [k, most] => bw_dkR (bw_dp (bw_abs σ) most (bw_lgt (bw_abs σ)) (bw_sky (bw_abs σ))) k r ∧ mw_Kp σ σ'
  | _ => False))
def L_M_dark : List (Nat × jm_K) := [(94, sp_M_findLight), (97, sp_M_findSky), (72, sp_M_opaque)]
set_option maxHeartbeats 4000000 in
set_option maxRecDepth 100000 in
theorem con_M_dark : jm_Con classes D_M 14 ks_M 1 y_M_dark b_M_dark 5 (jm_rt (some false)) 5 sp_M_dark := by
  refine jm_con2 (L := L_M_dark) (code := k_M_dark) CF_M rfl (by decide) ck_M_dark ⟨⟨y_M_findLight, b_M_findLight, 2, jm_rt none, 4, by decide, con_M_findLight, lk_M_findLight _ _, rfl⟩, ⟨y_M_findSky, b_M_findSky, 2, jm_rt none, 3, by decide, con_M_findSky, lk_M_findSky _ _, rfl⟩, ⟨y_M_opaque, b_M_opaque, 2, jm_rt (some true), 0, by decide, con_M_opaque, lk_M_opaque _ _, rfl⟩, trivial⟩ (by decide) ?_
  intro σ as hl hr hs hp Q hQ
  obtain ⟨k, most, rfl⟩ := jm_a2 hl
  have hK : mw_I σ := hp
  have hkr := hr k (by simp)
  obtain ⟨p, hpd⟩ : ∃ p, p = bw_dp (bw_abs σ) most (bw_lgt (bw_abs σ)) (bw_sky (bw_abs σ)) := ⟨_, rfl⟩
  have loop : ∀ τ : jm_S, mw_Kp σ τ → τ 10 0 = 1 → τ 11 0 = 1 → ∀ (n m : Nat) (left c : Int), c = m → 64 ≤ m → m + n = 384 → left = k - bw_cnt p m → (0 ≤ k → bw_cnt p m ≤ k) → (∀ i : Nat, i < m → p (i : Int) = true → bw_cnt p i ≠ k) → jm_Ok D_M fi_M (jm_look L_M_dark) k_M_dark (some false) Q 14 [some (.inr none), some (.inl k), some (.inl most), some (.inl left), some (.inl c)] [] τ := by
    intro τ hKp h10 h11 n
    have hpc : ∀ c, bw_cl c → 64 ≤ c → (p c = true ↔ (τ 0 c = 0 ∧ bw_op (τ 0 (c - 64)) ∧ τ 4 c ≤ most ∧ τ 5 c ≤ most)) := by
      intro c hc h64
      rw [hpd, ← hKp.2.1]
      unfold bw_dp
      rw [decide_eq_true_eq, bw_abs_0 hc, bw_abs_0 (show bw_cl (c - 64) by omega), ← (hKp.1.2.1 h10).2 c hc, ← (hKp.1.2.2 h11 c hc).1]
      exact ⟨fun q => q.2, fun q => ⟨h64, q⟩⟩
    induction n with
    | zero =>
      intro m left c hc h64 hm hj hle hno
      have hm : m = 384 := by omega
      subst hm
      refine jm_Ok.go 60 [] ?_
      refine ⟨fun _ => hQ _ _ ⟨Or.inr ⟨rfl, ?_⟩, hKp⟩, fun _ => by omega⟩
      rw [← hpd]; exact hno
    | succ n ih =>
      intro m left c hc h64 hm hj hle hno
      have hcl : bw_cl c := by omega
      have hjr := bw_cnt_rg p m
      have hp2 := hpc c hcl (by omega)
      refine jm_Ok.go 60 [83] ?_
      refine ⟨fun _ => by omega, fun _ => ⟨fun hk => hQ _ _ ⟨Or.inr ⟨rfl, fun i _ _ => ?_⟩, hKp⟩, fun hk => ?_⟩⟩
      · have h1 := (bw_cnt_rg (bw_dp (bw_abs σ) most (bw_lgt (bw_abs σ)) (bw_sky (bw_abs σ))) i).1
        rcases Int.lt_or_le k 0 with q | q
        · omega
        · have := hle q; omega
      have skip : ¬ (τ 0 c = 0 ∧ bw_op (τ 0 (c - 64)) ∧ τ 4 c ≤ most ∧ τ 5 c ≤ most) → jm_Ok D_M fi_M (jm_look L_M_dark) k_M_dark (some false) Q 83 [some (.inr none), some (.inl k), some (.inl most), some (.inl left), some (.inl c)] [] τ := by
        intro q
        have hpf : p (m : Int) = false := by
          rw [← hc]
          cases hb : p c
          · rfl
          · exact absurd (hp2.mp hb) q
        refine jm_Ok.go 60 [14] ?_
        refine ⟨by omega, ih (m + 1) left (c + 1) (by omega) (by omega) (by omega) ?_ ?_ ?_⟩
        · rw [hj]; simp [bw_cnt, hpf]
        · intro z; have := hle z; simp [bw_cnt, hpf]; exact this
        · intro i hi hpi
          by_cases him : i = m
          · subst him; rw [hpf] at hpi; cases hpi
          · exact hno i (by omega) hpi
      refine ⟨by omega, fun b hb _ _ => ⟨fun h0 => skip (by omega), fun h0 => ⟨by omega, ⟨show bw_cl (c - 64) by omega, ?_⟩⟩⟩⟩
      rintro r τ - ⟨hr, rfl⟩
      refine ⟨fun h => skip (fun q => by omega), fun h => ⟨by omega, fun l hl _ _ => ⟨fun h2 => skip (by omega), fun h2 => ⟨by omega, fun s hs1 _ _ => ⟨fun h3 => ?_, fun h3 => skip (by omega)⟩⟩⟩⟩⟩
      have hpt : p (m : Int) = true := by
        rw [← hc]
        exact hp2.mpr ⟨by omega, by omega, by omega, by omega⟩
      refine ⟨fun hne => ⟨by omega, ?_⟩, fun heq => hQ _ _ ⟨Or.inl ⟨m, by omega, by omega, by rw [← hpd]; exact hpt, by rw [← hpd]; omega⟩, hKp⟩⟩
      refine jm_Ok.go 60 [14] ?_
      refine ⟨by omega, ih (m + 1) (left - 1) (c + 1) (by omega) (by omega) (by omega) ?_ ?_ ?_⟩
      · rw [hj]; simp [bw_cnt, hpt]; omega
      · intro z; have := hle z; simp [bw_cnt, hpt]; omega
      · intro i hi hpi
        by_cases him : i = m
        · subst him; omega
        · exact hno i (by omega) hpi
  have h64 : bw_cnt p 64 = 0 := by
    refine bw_cnt_none 64 fun i a b => ?_
    rw [hpd]
    unfold bw_dp
    exact decide_eq_false (fun q => by omega)
  refine jm_Ok.go 60 [14] ?_
  refine ⟨hK, ?_⟩
  rintro _ τ hsτ ⟨f1, f2, f3, f4, f5⟩
  refine ⟨f1, ?_⟩
  rintro _ ρ hsρ ⟨g1, g2, g3, g4⟩
  refine loop ρ ⟨g1, by rw [g3, f4], by rw [g4 13 (by decide) (by decide) (by decide) (by decide), f5 13 (by decide) (by decide) (by decide) (by decide) (by decide) (by decide)]⟩ (by rw [g4 10 (by decide) (by decide) (by decide) (by decide)]; exact f3) g2 320 64 k 64 rfl (by omega) (by omega) (by rw [h64]; omega) (fun q => by rw [h64]; exact q) ?_
  intro i hi hpi
  rw [hpd] at hpi
  unfold bw_dp at hpi
  have := (of_decide_eq_true hpi).1
  omega
def sp_M_lit : jm_K := (false, 2, false, fun as σ => (match as with
  | [_, _] => mw_I σ
  | _ => False), fun as σ r σ' => (match as with
  | [c, least] => bw_ltR (bw_lq (bw_abs σ) (bw_lgt (bw_abs σ)) least) c r ∧ mw_Kp σ σ'
  | _ => False))
def mw_LI (ρ τ : jm_S) (q : Int → Prop) (cell n : Int) : Prop :=
  (∀ k, k ≠ 8 → τ k = ρ k) ∧ n = bw_cnt (fun x => decide (τ 8 x = 1)) 384 ∧ τ 8 cell = 1 ∧
  (∀ N : Int → Prop, N cell → (∀ x, bw_cl x → N x → ∀ m, bw_adj x m → q m → N m) → ∀ x, bw_cl x → τ 8 x = 1 → N x)
theorem mw_I_of {τ ρ : jm_S} (h : ∀ k, k ≠ 8 → τ k = ρ k) (hI : mw_I ρ) : mw_I τ ∧ bw_abs τ = bw_abs ρ := by
  have e : bw_abs τ = bw_abs ρ := bw_abs_ext (fun x _ => by rw [h 0 (by decide)]) (fun x _ => by rw [h 1 (by decide)]) (fun x _ _ => by rw [h 2 (by decide)])
  refine ⟨?_, e⟩
  unfold mw_I mw_P mw_L mw_S
  rw [e, h 0 (by decide), h 2 (by decide), h 3 (by decide), h 4 (by decide), h 5 (by decide), h 6 (by decide), h 9 (by decide), h 10 (by decide), h 11 (by decide)]
  exact hI
def L_M_lit : List (Nat × jm_K) := [(78, sp_M_among), (94, sp_M_findLight), (72, sp_M_opaque), (113, sp_M_touches)]
set_option maxHeartbeats 4000000 in
set_option maxRecDepth 100000 in
theorem con_M_lit : jm_Con classes D_M 14 ks_M 1 y_M_lit b_M_lit 6 (jm_rt (some false)) 5 sp_M_lit := by
  refine jm_con2 (L := L_M_lit) (code := k_M_lit) CF_M rfl (by decide) ck_M_lit ⟨⟨y_M_among, b_M_among, 3, jm_rt (some true), 0, by decide, con_M_among, lk_M_among _ _, rfl⟩, ⟨y_M_findLight, b_M_findLight, 2, jm_rt none, 4, by decide, con_M_findLight, lk_M_findLight _ _, rfl⟩, ⟨y_M_opaque, b_M_opaque, 2, jm_rt (some true), 0, by decide, con_M_opaque, lk_M_opaque _ _, rfl⟩, ⟨y_M_touches, b_M_touches, 4, jm_rt (some true), 1, by decide, con_M_touches, lk_M_touches _ _, rfl⟩, trivial⟩ (by decide) ?_
  intro σ as hl hr hs hp Q hQ
  obtain ⟨cell, least, rfl⟩ := jm_a2 hl
  have hK : mw_I σ := hp
  obtain ⟨q, hqd⟩ : ∃ q, q = bw_lq (bw_abs σ) (bw_lgt (bw_abs σ)) least := ⟨_, rfl⟩
  have main : bw_cl cell → q cell → ∀ ρ : jm_S, mw_Kp σ ρ → (∀ x, bw_cl x → (q x ↔ (¬ bw_op (ρ 0 x) ∧ least ≤ ρ 4 x))) → ∀ (m : Nat) (n : Int) (l5 : Option jm_V) (τ : jm_S), 385 ≤ n + m → jm_okS D_M τ → mw_LI ρ τ q cell n → jm_Ok D_M fi_M (jm_look L_M_lit) k_M_lit (some false) Q 73 [some (.inr none), some (.inl cell), some (.inl least), some (.inl n), some (.inl 1), l5] [] τ := by
    intro hcell hqc ρ hKp hq m
    induction m with
    | zero =>
      intro n l5 τ hm hsτ hL
      have h2 := (bw_cnt_rg (fun x => decide (τ 8 x = 1)) 384).2
      have h3 := hL.2.1
      omega
    | succ m ih =>
      intro n l5 τ hm hsτ hL
      have inner : ∀ (j : Nat) (c n' more : Int) (υ : jm_S), 0 ≤ c → c + j = 384 → jm_okS D_M υ → mw_LI ρ υ q cell n' → ((more = 1 ∧ n < n') ∨ (more = 0 ∧ υ = τ ∧ n' = n ∧ ∀ x, 0 ≤ x → x < c → q x → (∃ y, bw_adj x y ∧ υ 8 y = 1) → υ 8 x = 1)) → jm_Ok D_M fi_M (jm_look L_M_lit) k_M_lit (some false) Q 84 [some (.inr none), some (.inl cell), some (.inl least), some (.inl n'), some (.inl more), some (.inl c)] [] υ := by
        intro j
        induction j with
        | zero =>
          intro c n' more υ h0 hj hsυ hL' hmo
          rcases hmo with ⟨rfl, hlt⟩ | ⟨rfl, rfl, rfl, hcl⟩
          · refine jm_Ok.go 60 [73] ?_
            exact ⟨fun _ => ih n' _ υ (by omega) hsυ hL', fun _ => by omega⟩
          · refine jm_Ok.go 60 [] ?_
            refine ⟨fun _ => ⟨fun _ => hQ _ _ ?_, fun z => absurd rfl z⟩, fun _ => by omega⟩
            obtain ⟨L1, L2, L3, L4⟩ := hL'
            obtain ⟨g1, g2⟩ := mw_I_of L1 hKp.1
            refine ⟨Or.inr ⟨⟨hcell, by rw [← hqd]; exact hqc⟩, fun x => decide (υ 8 x = 1), by simp [L3], ?_, ?_, L2⟩, g1, by rw [g2, hKp.2.1], by rw [L1 13 (by decide), hKp.2.2]⟩
            · intro x hx hM y hy hqy
              rw [← hqd] at hqy
              have hyc := bw_adj_cl hx hy
              exact decide_eq_true (hcl y hyc.1 (by omega) hqy ⟨x, bw_adj_sym hx hy, of_decide_eq_true hM⟩)
            · intro N hN hcl2 x hx hM
              rw [← hqd] at hcl2
              exact L4 N hN hcl2 x hx (of_decide_eq_true hM)
        | succ j ihj =>
          intro c n' more υ h0 hj hsυ hL' hmo
          have hc : bw_cl c := by omega
          have hnr := bw_cnt_rg (fun x => decide (υ 8 x = 1)) 384
          have hL2 := hL'
          obtain ⟨L1, L2, L3, L4⟩ := hL'
          have skip : (q c → (∃ y, bw_adj c y ∧ υ 8 y = 1) → υ 8 c = 1) → jm_Ok D_M fi_M (jm_look L_M_lit) k_M_lit (some false) Q 148 [some (.inr none), some (.inl cell), some (.inl least), some (.inl n'), some (.inl more), some (.inl c)] [] υ := by
            intro hz
            refine jm_Ok.go 60 [84] ?_
            refine ⟨by omega, ihj (c + 1) n' more υ (by omega) (by omega) hsυ hL2 ?_⟩
            rcases hmo with z | ⟨z1, z2, z3, z4⟩
            · exact Or.inl z
            · refine Or.inr ⟨z1, z2, z3, fun x a b hqx hy => ?_⟩
              by_cases hxc : x = c
              · subst hxc; exact hz hqx hy
              · exact z4 x a (by omega) hqx hy
          refine jm_Ok.go 60 [148] ?_
          refine ⟨fun _ => by omega, fun _ => ⟨by omega, fun v hv _ _ => ⟨fun h1 => skip (fun _ _ => by omega), fun hz => ⟨hc, ?_⟩⟩⟩⟩
          rintro r υ - ⟨hr1, rfl⟩
          refine ⟨fun hop => skip (fun hqc2 => ?_), fun hop => ⟨by omega, fun l hl _ _ => ⟨fun hlt => skip (fun hqc2 => ?_), fun hge => ⟨hc, ?_⟩⟩⟩⟩
          · rw [hq c hc, ← L1 0 (by decide)] at hqc2
            omega
          · rw [hq c hc, ← L1 4 (by decide)] at hqc2
            omega
          rintro r2 υ - ⟨hr2, rfl⟩
          refine ⟨fun ht => ?_, fun ht => skip (fun _ hy => ?_)⟩
          · have hqc2 : q c := by
              rw [hq c hc, ← L1 0 (by decide), ← L1 4 (by decide)]
              clear hr2
              omega
            have hy : ∃ y, bw_adj c y ∧ υ 8 y = 1 := by
              rcases hr2 with z | z
              · exact z.2
              · omega
            have hlt := bw_cnt_lt (p := fun x => decide (υ 8 x = 1)) (n := 384) hc.1 hc.2 (by simp; omega)
            refine ⟨by omega, by omega, by omega, ?_⟩
            refine jm_Ok.go 60 [84] ?_
            refine ⟨by omega, ihj (c + 1) (n' + 1) 1 _ (by omega) (by omega) (hsυ.up (by decide)) ⟨?_, ?_, ?_, ?_⟩ (Or.inl ⟨rfl, ?_⟩)⟩
            · intro k a; rw [← L1 k a]; simp [jm_up, a]
            · have e1 := bw_cnt_set (p := fun x => decide (υ 8 x = 1)) (q := fun x => decide (jm_up υ 8 c 1 8 x = 1)) (c := c) 384 (fun i _ _ hi => by simp [jm_up, hi]) hc.1 hc.2
              rw [if_pos (by simp [jm_up]), if_neg (by simp; omega)] at e1
              omega
            · by_cases hcc : cell = c
              · simp [jm_up, hcc]
              · simp [jm_up, hcc]; exact L3
            · intro N hN hcl x hx hx1
              by_cases hxc : x = c
              · obtain ⟨y, hy1, hy2⟩ := hy
                have hyc := bw_adj_cl hc hy1
                rw [hxc]
                exact hcl y hyc (L4 N hN hcl y hyc hy2) c (bw_adj_sym hc hy1) hqc2
              · exact L4 N hN hcl x hx (by simpa [jm_up, hxc] using hx1)
            · rcases hmo with z | z <;> omega
          · rcases hr2 with z | z
            · omega
            · exact absurd hy z.2
      refine jm_Ok.go 60 [84] ?_
      refine ⟨fun z => by omega, fun _ => inner 384 0 n 0 τ (by omega) (by omega) hsτ hL (Or.inr ⟨rfl, rfl, rfl, fun x a b => by omega⟩)⟩
  have start : bw_cl cell → q cell → ∀ ρ : jm_S, mw_Kp σ ρ → (∀ x, bw_cl x → (q x ↔ (¬ bw_op (ρ 0 x) ∧ least ≤ ρ 4 x))) → ∀ (j : Nat) (c : Int) (l4 l5 : Option jm_V) (τ : jm_S), 0 ≤ c → c + j = 384 → jm_okS D_M τ → (∀ k, k ≠ 8 → τ k = ρ k) → (∀ x, 0 ≤ x → x < c → τ 8 x = if x = cell then 1 else 0) → jm_Ok D_M fi_M (jm_look L_M_lit) k_M_lit (some false) Q 39 [some (.inr none), some (.inl cell), some (.inl least), some (.inl c), l4, l5] [] τ := by
    intro hcell hqc ρ hKp hq j
    induction j with
    | zero =>
      intro c l4 l5 τ h0 hj hsτ hk h8
      refine jm_Ok.go 60 [73] ?_
      refine ⟨fun _ => main hcell hqc ρ hKp hq 385 1 _ τ (by omega) hsτ ⟨hk, ?_, by rw [h8 cell hcell.1 (by omega), if_pos rfl], ?_⟩, fun _ => by omega⟩
      · have e1 := bw_cnt_set (p := fun _ => false) (q := fun x => decide (τ 8 x = 1)) (c := cell) 384 (fun i a b hi => by
          have := h8 i a (by omega)
          rw [if_neg hi] at this
          simp [this]) hcell.1 hcell.2
        rw [bw_cnt_none 384 (p := fun _ => false) (fun _ _ _ => rfl), if_pos (by have := h8 cell hcell.1 (by omega); simp [this])] at e1
        rw [e1]; rfl
      · intro N hN _ x hx hx1
        have := h8 x hx.1 (by omega)
        by_cases hxc : x = cell
        · rw [hxc]; exact hN
        · rw [if_neg hxc] at this; omega
    | succ j ihj =>
      intro c l4 l5 τ h0 hj hsτ hk h8
      refine jm_Ok.go 60 [39] ?_
      refine ⟨fun _ => by omega, fun _ => ⟨fun hne => ⟨by omega, by omega, by omega, ihj (c + 1) _ _ _ (by omega) (by omega) (hsτ.up (by decide)) ?_ ?_⟩, fun he => ⟨by omega, by omega, by omega, ihj (c + 1) _ _ _ (by omega) (by omega) (hsτ.up (by decide)) ?_ ?_⟩⟩⟩
      · intro k a; rw [← hk k a]; simp [jm_up, a]
      · intro x a b
        by_cases hxc : x = c
        · rw [if_neg (by omega), hxc]; simp [jm_up]
        · rw [← h8 x a (by omega)]; simp [jm_up, hxc]
      · intro k a; rw [← hk k a]; simp [jm_up, a]
      · intro x a b
        by_cases hxc : x = c
        · rw [if_pos (by omega), hxc]; simp [jm_up]
        · rw [← h8 x a (by omega)]; simp [jm_up, hxc]
  refine jm_Ok.go 60 [35, 39] ?_
  refine ⟨trivial, ?_⟩
  rintro r σ - ⟨hr1, rfl⟩
  refine ⟨fun h1 => ⟨hK, ?_⟩, fun h0 => hQ _ _ ⟨Or.inl ⟨fun z => ?_, rfl⟩, mw_Kp.rf hK⟩⟩
  rotate_left
  · have := z.1; omega
  rintro _ τ hsτ ⟨f1, f2, f3, f4, f5⟩
  have hc : bw_cl cell := by omega
  have hKp : mw_Kp σ τ := ⟨f1, f4, f5 13 (by decide) (by decide) (by decide) (by decide) (by decide) (by decide)⟩
  have hq : ∀ x, bw_cl x → (q x ↔ (¬ bw_op (τ 0 x) ∧ least ≤ τ 4 x)) := by
    intro x hx
    rw [hqd]; unfold bw_lq
    rw [← f4, bw_abs_0 hx, ← (f1.2.1 f3).2 x hx]
  have none0 : ¬ q cell → ∀ l3 l4 l5 : Option jm_V, jm_Ok D_M fi_M (jm_look L_M_lit) k_M_lit (some false) Q 35 [some (.inr none), some (.inl cell), some (.inl least), l3, l4, l5] [] τ := by
    intro hn l3 l4 l5
    refine jm_Ok.go 60 [] ?_
    exact hQ _ _ ⟨Or.inl ⟨by rw [← hqd]; exact fun z => hn z.2, rfl⟩, hKp⟩
  refine ⟨hc, ?_⟩
  rintro r2 τ - ⟨hr2, rfl⟩
  refine ⟨fun hop => none0 (fun z => ?_) _ _ _, fun hop => ⟨by omega, fun l hl _ _ => ⟨fun hge => ?_, fun hlt => none0 (fun z => ?_) _ _ _⟩⟩⟩
  · rw [hq cell hc] at z; omega
  · exact start hc (by rw [hq cell hc]; omega) τ hKp hq 384 0 _ _ τ (by omega) (by omega) hsτ (fun _ _ => rfl) (fun x a b => by omega)
  · rw [hq cell hc] at z; omega
end
section
/-! constructors -/
theorem jc_0 : Value.int (Int32.ofInt 0) = Value.int 0 := by rw [ji_0]
section JCT
variable {p : Program} {l : Launch} {e : Env} {R : Room} {s : State} {m : MethodId} {args : Array Value} {below : List Frame} {meth : Method} {c : Code} {H : Heap} {locs : List Loc} {cells slots : Nat} {Q : State → Prop}
variable {G : va_G} {cl : List vw_C} {C : String} {T : u_T} {N : Nat} {ty0 : Nat → FieldType} {D : Nat → jm_F} {fi : Nat → Option Nat} {ks : List Nat} {ci : Nat} {o : Nat} {A : Nat → Prop}
variable {cc : ByteArray} {pc : Nat} {ls : Array Slot} {rest : List Value} {tys : List (ClassId × FieldType)} {ws : va_W} {fs : List Value}
theorem jc_step (hx : p.tables.exec = Jvm.exec) (hb : c.code = cc) (hts : ∀ w ∈ lw_g, w.before args s = true) (hCF : jm_CF cl C T N ty0 D fi ks ci) (hown : s.vm.findClass C = some m.cls) (hin : meth.name = "<init>") (hA : ∀ q, s.heap.size ≤ q → A q)
    (k i n : Nat) {atype : ArrayType} {et : FieldType} (hety : newarray.typeOf atype = et) (harr : Cond.arrayClass (newarray.typeOf atype) ∈ lw_g) (hdef : defaultValue et = .int 0) (hfi : fi i = some k) (hty : parseFieldDescriptor (T k).2.2.1 = some (.array et)) (hn : n ≤ 4096) (hcb : componentBytes et ≤ 8) (hl : k < fs.length)
    (hcells : cells + 1 ≤ R.cells) (hslots : slots + n ≤ R.slots) (hd1 : decode cc pc = .ok (.newarray atype, 2)) (hd2 : decode cc (pc + 2) = .ok (.putfield i, 3))
    (hK : va_K G cl tys s) (hP : va_P G cl ((o, .inr (ci, fs)) :: ws) H) (hD : va_D A ((o, .inr (ci, fs)) :: ws)) (hS : va_S A s.heap H locs)
    (kk : ∀ (q : Nat) (cA : ClassId) (H1 : Heap) (locs1 : List Loc), va_K G cl (tys ++ [(cA, et)]) s → va_P G cl ((o, .inr (ci, fs.set k (.ref q))) :: (ws ++ [(q, .inl (cA, n, .inl fun _ => Int32.ofInt 0))])) H1 → va_D A ((o, .inr (ci, fs.set k (.ref q))) :: (ws ++ [(q, .inl (cA, n, .inl fun _ => Int32.ofInt 0))])) → va_S A s.heap H1 locs1 →
      W p l e R s m args below meth c H1 locs1 (cells + 1) (slots + n) Q (F0 m (pc + 5) ls rest)) :
    W p l e R s m args below meth c H locs cells slots Q (F0 m pc ls (.int (nI n) :: .ref o :: rest)) := by
  obtain ⟨hCin, hCty, hCnm, hCc, hCfi, hCT, hCks, hCa, hCb, hCp, hCr⟩ := hCF
  have hnb : n * componentBytes et ≤ 536870912 := by
    have := Nat.mul_le_mul hn hcb
    omega
  refine va_newa (a0 := (n, .inl fun _ => Int32.ofInt 0)) hx hb (hts _ harr) hety hK hP hD hS hA (fun cA => by rw [vp_cell_i, hdef, jc_0]) (nI_pos (by omega)) (nI_clamp (by omega)) hnb hcells hslots hd1 (fun q cA H1 hK hP hD hS => ?_)
  have hk := hCfi i k hfi
  have hlk : (Cond.fieldLink C i (T k).1 (T k).2.1 (T k).2.2.1).before args s = true := hts _ (by rw [hCT k hk.1]; exact hk.2)
  cases hfin : (T k).2.2.2 with
  | true =>
    refine va_putF (ci := ci) (v := .ref q) (ty := .array et) (C := C) (T := T) (N := N) hx hb hts hCin ty0 hCty hCnm hown hK hP hD hS 0 rfl hCc k hk.1 hlk (fun _ h9 => h9) hfin hin (hCT k hk.1) hty rfl rfl hl hd2 (fun H locs hP hD hS => ?_)
    exact kk q cA H locs hK hP hD hS
  | false =>
    refine va_put (ci := ci) (v := .ref q) (ty := .array et) (C := C) (T := T) (N := N) hx hb hts hCin ty0 hCty hCnm hown hK hP hD hS 0 rfl hCc k hk.1 hlk (fun _ h9 => h9) hfin hty rfl rfl hl hd2 (fun H locs hP hD hS => ?_)
    exact kk q cA H locs hK hP hD hS
end JCT
theorem jc_oi_B : Cond.methodLink R_B 1 objectInit ∈ lw_g := lw_in (by decide +kernel) rfl
theorem jc_oi_M : Cond.methodLink R_M 1 objectInit ∈ lw_g := lw_in (by decide +kernel) rfl
theorem jc_o1 : Cond.instanceMethod objectInit ∈ lw_g := lw_in (by decide +kernel) rfl
theorem jc_o2 : Cond.code objectInit ⟨#[0xb1]⟩ 1 none ∈ lw_g := lw_in (by decide +kernel) rfl
theorem jc_a_byte : Cond.arrayClass (newarray.typeOf .byte) ∈ lw_g := lw_in (by decide +kernel) rfl
theorem jc_a_boolean : Cond.arrayClass (newarray.typeOf .boolean) ∈ lw_g := lw_in (by decide +kernel) rfl
theorem jc_a_short : Cond.arrayClass (newarray.typeOf .short) ∈ lw_g := lw_in (by decide +kernel) rfl
theorem jc_a_int : Cond.arrayClass (newarray.typeOf .int) ∈ lw_g := lw_in (by decide +kernel) rfl
/-- a new object's world: all zero -/
def jc_z : jm_S := fun _ _ => 0
def jc_Q (G : va_G) (D : Nat → jm_F) (N : Nat) (ks : List Nat) (ci o : Nat) (A : Nat → Prop) (P : jm_S → Prop) : Array Value → State → Outcome → State → Prop := fun _ st oc t =>
  (oc = .returned none ∧ ∃ (ad : Nat → Nat) (cA : Nat → ClassId) (σ : jm_S), (jm_okS D σ ∧ P σ) ∧ va_P G classes (jm_pic D N ks ci o ad cA σ) t.heap ∧ va_K G classes (jm_tys D ks cA) t ∧ va_D A (jm_pic D N ks ci o ad cA σ)) ∧ va_F A st t
def bw_a0 : bw_X := (fun _ => 0, fun _ => 0, fun _ => 0)
theorem bw_abs_z {σ : jm_S} (h0 : ∀ x, bw_cl x → σ 0 x = 0) (h1 : ∀ x, bw_cl x → σ 1 x = 0) : bw_abs σ = bw_a0 := by
  have e0 : bw_rs (σ 0) = fun _ => 0 := by
    funext x; unfold bw_rs; split
    · rename_i q; exact h0 x q
    · rfl
  have e1 : bw_rs (σ 1) = fun _ => 0 := by
    funext x; unfold bw_rs; split
    · rename_i q; exact h1 x q
    · rfl
  have e2 : bw_rs (fun x => if σ 0 x = 7 then σ 2 x else 0) = fun _ => 0 := by
    funext x; unfold bw_rs; split
    · rename_i q
      show (if σ 0 x = 7 then σ 2 x else 0) = 0
      rw [h0 x q]; rfl
    · rfl
  unfold bw_abs bw_a0
  rw [e0, e1, e2]
theorem d_B_init_0 : decode b_B_init 0 = .ok (.aload_n 0, 1) := by decide +kernel
theorem d_B_init_1 : decode b_B_init 1 = .ok (.invokespecial 1, 3) := by decide +kernel
theorem d_B_init_4 : decode b_B_init 4 = .ok (.aload_n 0, 1) := by decide +kernel
theorem d_B_init_5 : decode b_B_init 5 = .ok (.sipush 384, 3) := by decide +kernel
theorem d_B_init_8 : decode b_B_init 8 = .ok (.newarray .byte, 2) := by decide +kernel
theorem d_B_init_10 : decode b_B_init 10 = .ok (.putfield 7, 3) := by decide +kernel
theorem d_B_init_13 : decode b_B_init 13 = .ok (.aload_n 0, 1) := by decide +kernel
theorem d_B_init_14 : decode b_B_init 14 = .ok (.sipush 384, 3) := by decide +kernel
theorem d_B_init_17 : decode b_B_init 17 = .ok (.newarray .byte, 2) := by decide +kernel
theorem d_B_init_19 : decode b_B_init 19 = .ok (.putfield 13, 3) := by decide +kernel
theorem d_B_init_22 : decode b_B_init 22 = .ok (.aload_n 0, 1) := by decide +kernel
theorem d_B_init_23 : decode b_B_init 23 = .ok (.sipush 384, 3) := by decide +kernel
theorem d_B_init_26 : decode b_B_init 26 = .ok (.newarray .boolean, 2) := by decide +kernel
theorem d_B_init_28 : decode b_B_init 28 = .ok (.putfield 16, 3) := by decide +kernel
theorem d_B_init_31 : decode b_B_init 31 = .ok (.aload_n 0, 1) := by decide +kernel
theorem d_B_init_32 : decode b_B_init 32 = .ok (.sipush 384, 3) := by decide +kernel
theorem d_B_init_35 : decode b_B_init 35 = .ok (.newarray .boolean, 2) := by decide +kernel
theorem d_B_init_37 : decode b_B_init 37 = .ok (.putfield 20, 3) := by decide +kernel
theorem d_B_init_40 : decode b_B_init 40 = .ok (.aload_n 0, 1) := by decide +kernel
theorem d_B_init_41 : decode b_B_init 41 = .ok (.sipush 1152, 3) := by decide +kernel
theorem d_B_init_44 : decode b_B_init 44 = .ok (.newarray .byte, 2) := by decide +kernel
theorem d_B_init_46 : decode b_B_init 46 = .ok (.putfield 23, 3) := by decide +kernel
theorem d_B_init_49 : decode b_B_init 49 = .ok (.aload_n 0, 1) := by decide +kernel
theorem d_B_init_50 : decode b_B_init 50 = .ok (.sipush 384, 3) := by decide +kernel
theorem d_B_init_53 : decode b_B_init 53 = .ok (.newarray .boolean, 2) := by decide +kernel
theorem d_B_init_55 : decode b_B_init 55 = .ok (.putfield 26, 3) := by decide +kernel
theorem d_B_init_58 : decode b_B_init 58 = .ok (.aload_n 0, 1) := by decide +kernel
theorem d_B_init_59 : decode b_B_init 59 = .ok (.sipush 384, 3) := by decide +kernel
theorem d_B_init_62 : decode b_B_init 62 = .ok (.newarray .short, 2) := by decide +kernel
theorem d_B_init_64 : decode b_B_init 64 = .ok (.putfield 29, 3) := by decide +kernel
theorem d_B_init_67 : decode b_B_init 67 = .ok (.aload_n 0, 1) := by decide +kernel
theorem d_B_init_68 : decode b_B_init 68 = .ok (.sipush 384, 3) := by decide +kernel
theorem d_B_init_71 : decode b_B_init 71 = .ok (.newarray .byte, 2) := by decide +kernel
theorem d_B_init_73 : decode b_B_init 73 = .ok (.putfield 33, 3) := by decide +kernel
theorem d_B_init_76 : decode b_B_init 76 = .ok (.aload_n 0, 1) := by decide +kernel
theorem d_B_init_77 : decode b_B_init 77 = .ok (.sipush 384, 3) := by decide +kernel
theorem d_B_init_80 : decode b_B_init 80 = .ok (.newarray .boolean, 2) := by decide +kernel
theorem d_B_init_82 : decode b_B_init 82 = .ok (.putfield 36, 3) := by decide +kernel
theorem d_B_init_85 : decode b_B_init 85 = .ok (.aload_n 0, 1) := by decide +kernel
theorem d_B_init_86 : decode b_B_init 86 = .ok (.bipush 64, 2) := by decide +kernel
theorem d_B_init_88 : decode b_B_init 88 = .ok (.newarray .byte, 2) := by decide +kernel
theorem d_B_init_90 : decode b_B_init 90 = .ok (.putfield 39, 3) := by decide +kernel
theorem d_B_init_93 : decode b_B_init 93 = .ok (.aload_n 0, 1) := by decide +kernel
theorem d_B_init_94 : decode b_B_init 94 = .ok (.bipush 10, 2) := by decide +kernel
theorem d_B_init_96 : decode b_B_init 96 = .ok (.newarray .short, 2) := by decide +kernel
theorem d_B_init_98 : decode b_B_init 98 = .ok (.putfield 42, 3) := by decide +kernel
theorem d_B_init_101 : decode b_B_init 101 = .ok (.aload_n 0, 1) := by decide +kernel
theorem d_B_init_102 : decode b_B_init 102 = .ok (.sipush 384, 3) := by decide +kernel
theorem d_B_init_105 : decode b_B_init 105 = .ok (.newarray .short, 2) := by decide +kernel
theorem d_B_init_107 : decode b_B_init 107 = .ok (.putfield 45, 3) := by decide +kernel
theorem d_B_init_110 : decode b_B_init 110 = .ok (.aload_n 0, 1) := by decide +kernel
theorem d_B_init_111 : decode b_B_init 111 = .ok (.iconst 5, 1) := by decide +kernel
theorem d_B_init_112 : decode b_B_init 112 = .ok (.newarray .int, 2) := by decide +kernel
theorem d_B_init_114 : decode b_B_init 114 = .ok (.putfield 48, 3) := by decide +kernel
theorem d_B_init_117 : decode b_B_init 117 = .ok (.aload_n 0, 1) := by decide +kernel
theorem d_B_init_118 : decode b_B_init 118 = .ok (.sipush 384, 3) := by decide +kernel
theorem d_B_init_121 : decode b_B_init 121 = .ok (.newarray .boolean, 2) := by decide +kernel
theorem d_B_init_123 : decode b_B_init 123 = .ok (.putfield 52, 3) := by decide +kernel
theorem d_B_init_126 : decode b_B_init 126 = .ok (.aload_n 0, 1) := by decide +kernel
theorem d_B_init_127 : decode b_B_init 127 = .ok (.sipush 384, 3) := by decide +kernel
theorem d_B_init_130 : decode b_B_init 130 = .ok (.newarray .boolean, 2) := by decide +kernel
theorem d_B_init_132 : decode b_B_init 132 = .ok (.putfield 55, 3) := by decide +kernel
def fs_B : List Value := [.null, .null, .null, .null, .null, .null, .null, .null, .int (Int32.ofInt 0), .null, .int (Int32.ofInt 0), .null, .null, .null, .null, .null, .null]
def jc_PB (σ : jm_S) : Prop := bw_K σ ∧ bw_abs σ = bw_a0 ∧ ∀ j, 0 ≤ j → j < 5 → σ 14 j = 0
theorem jc_z_B : jm_okS D_B jc_z := by
  intro k i _ _
  unfold D_B jc_z
  split <;> decide
def jc_k_B : List jm_I := [
  (135, .aload_n 0, 136, []),
  (136, .getfield 42, 139, []),
  (139, .iconst 0, 140, []),
  (140, .sipush 384, 143, []),
  (143, .sastore, 144, []),
  (144, .iconst 0, 145, []),
  (145, .istore_n 1, 146, []),
  (146, .iload_n 1, 147, []),
  (147, .sipush 384, 150, []),
  (150, .if_icmp .ge 21, 153, [171]),
  (153, .aload_n 0, 154, []),
  (154, .getfield 23, 157, []),
  (157, .sipush 384, 160, []),
  (160, .iload_n 1, 161, []),
  (161, .iadd, 162, []),
  (162, .bipush 15, 164, []),
  (164, .bastore, 165, []),
  (165, .iinc 1 1, 168, []),
  (168, .goto (-22), 171, [146]),
  (171, .return_, 172, [])]
theorem jc_ck_B : jm_chk b_B_init jc_k_B = true := by decide +kernel
theorem jc_K {σ : jm_S} (hk : ∀ k, k ≠ 4 → k ≠ 12 → σ k = fun _ => 0) (h4 : ∀ x, 0 ≤ x → x < 1152 → σ 4 x = if 384 ≤ x ∧ x < 768 then 15 else 0) (h12 : ∀ j, 0 ≤ j → j < 10 → σ 12 j = if j = 0 then 384 else 0) : jc_PB σ := by
  have z : ∀ k, k ≠ 4 → k ≠ 12 → ∀ x, σ k x = 0 := fun k a b x => by rw [hk k a b]
  have z0 := z 0 (by decide) (by decide)
  have z1 := z 1 (by decide) (by decide)
  have z2 := z 2 (by decide) (by decide)
  have z8 := z 8 (by decide) (by decide)
  have z9 := z 9 (by decide) (by decide)
  have z10 := z 10 (by decide) (by decide)
  have z11 := z 11 (by decide) (by decide)
  have f0 : ∀ x, bw_cl x → bw_F σ 0 x = 0 := fun x hx => by
    show σ 4 (384 * 0 + x) = 0
    rw [h4 _ (by omega) (by omega), if_neg (by omega)]
  have f1 : ∀ x, bw_cl x → bw_F σ 1 x = 15 := fun x hx => by
    show σ 4 (384 * 1 + x) = 15
    rw [h4 _ (by omega) (by omega), if_pos (by omega)]
  have f2 : ∀ x, bw_cl x → bw_F σ 2 x = 0 := fun x hx => by
    show σ 4 (384 * 2 + x) = 0
    rw [h4 _ (by omega) (by omega), if_neg (by omega)]
  refine ⟨⟨⟨⟨z8 0, ?_, ?_, ?_, ?_, ?_, ?_, ?_⟩, ?_⟩, z10 0⟩, bw_abs_z (fun x _ => z0 x) (fun x _ => z1 x), fun j _ _ => z 14 (by decide) (by decide) j⟩
  · intro f hf
    have : f = 0 ∨ f = 1 ∨ f = 2 := by omega
    rcases this with rfl | rfl | rfl
    · refine ⟨fun k hk _ n hn => ?_, fun k hk => ⟨fun _ => ?_, fun q => ?_⟩⟩
      · rw [f0 k hk, f0 n (bw_adj_cl hk hn)]; decide
      · rw [f0 k hk]; unfold bw_bg bw_shn; simp [z0]
      · rw [f0 k hk] at q; omega
    · refine ⟨fun k hk _ n hn => ?_, fun k hk => ⟨fun _ => ?_, fun q => ⟨?_, Or.inl ?_⟩⟩⟩
      · rw [f1 k hk, f1 n (bw_adj_cl hk hn)]; decide
      · rw [f1 k hk]; exact (bw_bg_rg _ _ _ _ _).2
      · unfold bw_ps; simp [z0]
      · rw [f1 k hk]; unfold bw_bg bw_bgS
        rw [if_neg (by decide), if_pos rfl, z11, if_pos (by omega)]
        decide
    · refine ⟨fun k hk _ n hn => ?_, fun k hk => ⟨fun q => ?_, fun q => ?_⟩⟩
      · rw [f2 k hk, f2 n (bw_adj_cl hk hn)]; decide
      · unfold bw_ps at q; simp [z0] at q
      · rw [f2 k hk] at q; omega
  · intro x hx q; rw [z2] at q; omega
  · intro x hx q; rw [z0] at q; omega
  · intro x hx q; rw [z0] at q; omega
  · intro b hb
    rw [h12 b hb.1 hb.2]
    by_cases hb0 : b = 0
    · rw [if_pos hb0, bw_cnt_congr 384 (q := fun _ => true) (fun i _ _ => by rw [z0 i, hb0]; rfl), bw_cnt_all]
      rfl
    · rw [if_neg hb0, bw_cnt_none 384 (fun i _ _ => by rw [z0 i]; exact decide_eq_false (fun q => hb0 q.symm))]
  · intro x hx
    refine ⟨fun y _ _ => ?_, fun q => ?_⟩
    · rw [z0]; decide
    · rw [z11] at q; omega
  · intro x hx _; exact z1 x
  · intro x hx q; rw [z9] at q; omega
set_option maxHeartbeats 4000000 in
theorem jc_ok_B : jm_Ok D_B fi_B (jm_look []) jc_k_B none (fun _ σ => jc_PB σ) 135 [some (.inr none), none] [] jc_z := by
  have loop : ∀ (n : Nat) (c : Int) (τ : jm_S), 0 ≤ c → c + n = 384 → (∀ k, k ≠ 4 → k ≠ 12 → τ k = fun _ => 0) → (∀ x, 0 ≤ x → x < 1152 → τ 4 x = if 384 ≤ x ∧ x < 384 + c then 15 else 0) → (∀ j, 0 ≤ j → j < 10 → τ 12 j = if j = 0 then 384 else 0) → jm_Ok D_B fi_B (jm_look []) jc_k_B none (fun _ σ => jc_PB σ) 146 [some (.inr none), some (.inl c)] [] τ := by
    intro n
    induction n with
    | zero =>
      intro c τ h0 hn hk h4 h12
      have hc : c = 384 := by omega
      subst hc
      refine jm_Ok.go 60 [] ?_
      exact ⟨fun _ => jc_K hk h4 h12, fun _ => by omega⟩
    | succ n ih =>
      intro c τ h0 hn hk h4 h12
      refine jm_Ok.go 60 [146] ?_
      refine ⟨fun _ => by omega, fun _ => ⟨by omega, by omega, by omega, by omega, ih (c + 1) _ (by omega) (by omega) ?_ ?_ ?_⟩⟩
      · intro k a b; rw [← hk k a b]; simp [jm_up, a]
      · intro x a b
        by_cases hx : x = 384 + c
        · rw [if_pos (by omega), hx]; simp [jm_up]
        · have e : (384 ≤ x ∧ x < 384 + (c + 1)) = (384 ≤ x ∧ x < 384 + c) := propext ⟨fun z => ⟨z.1, by omega⟩, fun z => ⟨z.1, by omega⟩⟩
          simp only [e]
          rw [← h4 x a b]; simp [jm_up, hx]
      · intro j a b; rw [← h12 j a b]; simp [jm_up]
  refine jm_Ok.go 60 [146] ?_
  refine ⟨by omega, by omega, loop 384 0 _ (by omega) (by omega) ?_ ?_ ?_⟩
  · intro k a b; funext x; simp [jm_up, b, jc_z]
  · intro x a b; rw [if_neg (by omega)]; simp [jm_up, jc_z]
  · intro j a b
    by_cases hj : j = 0
    · rw [if_pos hj, hj]; simp [jm_up]
    · rw [if_neg hj]; simp [jm_up, hj, jc_z]
set_option maxHeartbeats 8000000 in
set_option maxRecDepth 100000 in
theorem con_B_init (l : Launch) (G : va_G) (o sz : Nat) : Met l y_B_init (.code y_B_init b_B_init 2 none :: lw_g) ({ frames := 1, cells := 15, slots := 5455, locals := 40 }) (va_Pc [.ref o] (fun U => U.heap.size = sz ∧ va_P G classes [(o, .inr (0, fs_B))] U.heap ∧ va_K G classes [] U ∧ va_D (fun _ => True) [(o, .inr (0, fs_B))])) (jc_Q G D_B 17 ks_B 0 o (va_A [(o, .inr (0, fs_B))] sz) jc_PB) 15 5455 (va_A [(o, .inr (0, fs_B))] sz) := by
  refine Met.ofW (cc := b_B_init) (maxL := 2) (ret := none) (by decide) rfl ?_
  intro p e s m args below meth c s₁ B hml hv
  obtain ⟨rfl, hsz, hP, hK, hD0⟩ := hv
  have hx := B.exec
  have hb := B.bytes
  have hr := B.returns
  have hts0 := atoms_spec (ws := .code y_B_init b_B_init 2 none :: lw_g) B.pre
  have hts : ∀ w ∈ lw_g, w.before ([.ref o] : List Value).toArray s = true := fun w hw => hts0 w (List.mem_cons_of_mem _ hw)
  have hown : s.vm.findClass R_B = some m.cls := findClass_of_methodNamed B.named
  have hlocks := B.notSynchronized
  have hin : meth.name = "<init>" := (name_of_methodNamed B.named B.method).1
  subst hsz
  have hD := hD0.self (sz := s.heap.size)
  generalize hAe : va_A [(o, .inr (0, fs_B))] s.heap.size = A at hD ⊢
  have hA : ∀ q : Nat, s.heap.size ≤ q → A q := fun q h => by rw [← hAe]; exact Or.inr h
  have hS : va_S A s.heap s.heap [] := va_S.rf
  have hl := lv_entry ([.ref o]) (n := 2) (Nat.le_of_ble_eq_true rfl)
  rw [lg_entry_eq]
  generalize (lg_sl ([.ref o]) ++ List.replicate (2 - (lg_sl ([.ref o])).length) Slot.unset).toArray = ls at hl ⊢
  have hl : lv_has ls 2 [(0, .ref o)] := hl
  refine lv_aload_n hx hb d_B_init_0 rfl (lv_at hl 0 rfl) ?_
  refine W.objInit hx hb hown (hts _ jc_oi_B) (hts _ jc_o1) (hts _ jc_o2) rfl (by rw [hml]; exact hl.1) rfl d_B_init_1 (Nat.le_of_ble_eq_true rfl) (Nat.le_of_ble_eq_true rfl) ?_
  refine W.eq (g2 := F0 m 4 ls []) rfl ?_
  refine lv_aload_n hx hb d_B_init_4 rfl (lv_at hl 0 rfl) ?_
  refine lv_sipush (v := nI 384) hx hb d_B_init_5 (by decide) ?_
  refine jc_step (et := .byte) hx hb hts CF_B hown hin hA 0 7 384 rfl jc_a_byte rfl rfl (by decide +kernel) (by decide) (by decide) (Nat.le_of_ble_eq_true rfl) (show 0 + 1 ≤ 15 by decide) (show 0 + 384 ≤ 5455 by decide) d_B_init_8 d_B_init_10 hK hP hD hS (fun q0 c0 H locs hK hP hD hS => ?_)
  have hP : va_P G classes [(o, .inr (0, [.ref q0, .null, .null, .null, .null, .null, .null, .null, .int (Int32.ofInt 0), .null, .int (Int32.ofInt 0), .null, .null, .null, .null, .null, .null])), (q0, .inl (c0, 384, .inl fun _ => Int32.ofInt 0))] H := hP
  have hD : va_D A [(o, .inr (0, [.ref q0, .null, .null, .null, .null, .null, .null, .null, .int (Int32.ofInt 0), .null, .int (Int32.ofInt 0), .null, .null, .null, .null, .null, .null])), (q0, .inl (c0, 384, .inl fun _ => Int32.ofInt 0))] := hD
  have hK : va_K G classes [(c0, .byte)] s := hK
  refine W.widen (k := 1) (n := 384) (by omega) (by omega) ?_
  refine lv_aload_n hx hb d_B_init_13 rfl (lv_at hl 0 rfl) ?_
  refine lv_sipush (v := nI 384) hx hb d_B_init_14 (by decide) ?_
  refine jc_step (et := .byte) hx hb hts CF_B hown hin hA 1 13 384 rfl jc_a_byte rfl rfl (by decide +kernel) (by decide) (by decide) (Nat.le_of_ble_eq_true rfl) (show 1 + 1 ≤ 15 by decide) (show 384 + 384 ≤ 5455 by decide) d_B_init_17 d_B_init_19 hK hP hD hS (fun q1 c1 H locs hK hP hD hS => ?_)
  have hP : va_P G classes [(o, .inr (0, [.ref q0, .ref q1, .null, .null, .null, .null, .null, .null, .int (Int32.ofInt 0), .null, .int (Int32.ofInt 0), .null, .null, .null, .null, .null, .null])), (q0, .inl (c0, 384, .inl fun _ => Int32.ofInt 0)), (q1, .inl (c1, 384, .inl fun _ => Int32.ofInt 0))] H := hP
  have hD : va_D A [(o, .inr (0, [.ref q0, .ref q1, .null, .null, .null, .null, .null, .null, .int (Int32.ofInt 0), .null, .int (Int32.ofInt 0), .null, .null, .null, .null, .null, .null])), (q0, .inl (c0, 384, .inl fun _ => Int32.ofInt 0)), (q1, .inl (c1, 384, .inl fun _ => Int32.ofInt 0))] := hD
  have hK : va_K G classes [(c0, .byte), (c1, .byte)] s := hK
  refine W.widen (k := 2) (n := 768) (by omega) (by omega) ?_
  refine lv_aload_n hx hb d_B_init_22 rfl (lv_at hl 0 rfl) ?_
  refine lv_sipush (v := nI 384) hx hb d_B_init_23 (by decide) ?_
  refine jc_step (et := .boolean) hx hb hts CF_B hown hin hA 2 16 384 rfl jc_a_boolean rfl rfl (by decide +kernel) (by decide) (by decide) (Nat.le_of_ble_eq_true rfl) (show 2 + 1 ≤ 15 by decide) (show 768 + 384 ≤ 5455 by decide) d_B_init_26 d_B_init_28 hK hP hD hS (fun q2 c2 H locs hK hP hD hS => ?_)
  have hP : va_P G classes [(o, .inr (0, [.ref q0, .ref q1, .ref q2, .null, .null, .null, .null, .null, .int (Int32.ofInt 0), .null, .int (Int32.ofInt 0), .null, .null, .null, .null, .null, .null])), (q0, .inl (c0, 384, .inl fun _ => Int32.ofInt 0)), (q1, .inl (c1, 384, .inl fun _ => Int32.ofInt 0)), (q2, .inl (c2, 384, .inl fun _ => Int32.ofInt 0))] H := hP
  have hD : va_D A [(o, .inr (0, [.ref q0, .ref q1, .ref q2, .null, .null, .null, .null, .null, .int (Int32.ofInt 0), .null, .int (Int32.ofInt 0), .null, .null, .null, .null, .null, .null])), (q0, .inl (c0, 384, .inl fun _ => Int32.ofInt 0)), (q1, .inl (c1, 384, .inl fun _ => Int32.ofInt 0)), (q2, .inl (c2, 384, .inl fun _ => Int32.ofInt 0))] := hD
  have hK : va_K G classes [(c0, .byte), (c1, .byte), (c2, .boolean)] s := hK
  refine W.widen (k := 3) (n := 1152) (by omega) (by omega) ?_
  refine lv_aload_n hx hb d_B_init_31 rfl (lv_at hl 0 rfl) ?_
  refine lv_sipush (v := nI 384) hx hb d_B_init_32 (by decide) ?_
  refine jc_step (et := .boolean) hx hb hts CF_B hown hin hA 3 20 384 rfl jc_a_boolean rfl rfl (by decide +kernel) (by decide) (by decide) (Nat.le_of_ble_eq_true rfl) (show 3 + 1 ≤ 15 by decide) (show 1152 + 384 ≤ 5455 by decide) d_B_init_35 d_B_init_37 hK hP hD hS (fun q3 c3 H locs hK hP hD hS => ?_)
  have hP : va_P G classes [(o, .inr (0, [.ref q0, .ref q1, .ref q2, .ref q3, .null, .null, .null, .null, .int (Int32.ofInt 0), .null, .int (Int32.ofInt 0), .null, .null, .null, .null, .null, .null])), (q0, .inl (c0, 384, .inl fun _ => Int32.ofInt 0)), (q1, .inl (c1, 384, .inl fun _ => Int32.ofInt 0)), (q2, .inl (c2, 384, .inl fun _ => Int32.ofInt 0)), (q3, .inl (c3, 384, .inl fun _ => Int32.ofInt 0))] H := hP
  have hD : va_D A [(o, .inr (0, [.ref q0, .ref q1, .ref q2, .ref q3, .null, .null, .null, .null, .int (Int32.ofInt 0), .null, .int (Int32.ofInt 0), .null, .null, .null, .null, .null, .null])), (q0, .inl (c0, 384, .inl fun _ => Int32.ofInt 0)), (q1, .inl (c1, 384, .inl fun _ => Int32.ofInt 0)), (q2, .inl (c2, 384, .inl fun _ => Int32.ofInt 0)), (q3, .inl (c3, 384, .inl fun _ => Int32.ofInt 0))] := hD
  have hK : va_K G classes [(c0, .byte), (c1, .byte), (c2, .boolean), (c3, .boolean)] s := hK
  refine W.widen (k := 4) (n := 1536) (by omega) (by omega) ?_
  refine lv_aload_n hx hb d_B_init_40 rfl (lv_at hl 0 rfl) ?_
  refine lv_sipush (v := nI 1152) hx hb d_B_init_41 (by decide) ?_
  refine jc_step (et := .byte) hx hb hts CF_B hown hin hA 4 23 1152 rfl jc_a_byte rfl rfl (by decide +kernel) (by decide) (by decide) (Nat.le_of_ble_eq_true rfl) (show 4 + 1 ≤ 15 by decide) (show 1536 + 1152 ≤ 5455 by decide) d_B_init_44 d_B_init_46 hK hP hD hS (fun q4 c4 H locs hK hP hD hS => ?_)
  have hP : va_P G classes [(o, .inr (0, [.ref q0, .ref q1, .ref q2, .ref q3, .ref q4, .null, .null, .null, .int (Int32.ofInt 0), .null, .int (Int32.ofInt 0), .null, .null, .null, .null, .null, .null])), (q0, .inl (c0, 384, .inl fun _ => Int32.ofInt 0)), (q1, .inl (c1, 384, .inl fun _ => Int32.ofInt 0)), (q2, .inl (c2, 384, .inl fun _ => Int32.ofInt 0)), (q3, .inl (c3, 384, .inl fun _ => Int32.ofInt 0)), (q4, .inl (c4, 1152, .inl fun _ => Int32.ofInt 0))] H := hP
  have hD : va_D A [(o, .inr (0, [.ref q0, .ref q1, .ref q2, .ref q3, .ref q4, .null, .null, .null, .int (Int32.ofInt 0), .null, .int (Int32.ofInt 0), .null, .null, .null, .null, .null, .null])), (q0, .inl (c0, 384, .inl fun _ => Int32.ofInt 0)), (q1, .inl (c1, 384, .inl fun _ => Int32.ofInt 0)), (q2, .inl (c2, 384, .inl fun _ => Int32.ofInt 0)), (q3, .inl (c3, 384, .inl fun _ => Int32.ofInt 0)), (q4, .inl (c4, 1152, .inl fun _ => Int32.ofInt 0))] := hD
  have hK : va_K G classes [(c0, .byte), (c1, .byte), (c2, .boolean), (c3, .boolean), (c4, .byte)] s := hK
  refine W.widen (k := 5) (n := 2688) (by omega) (by omega) ?_
  refine lv_aload_n hx hb d_B_init_49 rfl (lv_at hl 0 rfl) ?_
  refine lv_sipush (v := nI 384) hx hb d_B_init_50 (by decide) ?_
  refine jc_step (et := .boolean) hx hb hts CF_B hown hin hA 5 26 384 rfl jc_a_boolean rfl rfl (by decide +kernel) (by decide) (by decide) (Nat.le_of_ble_eq_true rfl) (show 5 + 1 ≤ 15 by decide) (show 2688 + 384 ≤ 5455 by decide) d_B_init_53 d_B_init_55 hK hP hD hS (fun q5 c5 H locs hK hP hD hS => ?_)
  have hP : va_P G classes [(o, .inr (0, [.ref q0, .ref q1, .ref q2, .ref q3, .ref q4, .ref q5, .null, .null, .int (Int32.ofInt 0), .null, .int (Int32.ofInt 0), .null, .null, .null, .null, .null, .null])), (q0, .inl (c0, 384, .inl fun _ => Int32.ofInt 0)), (q1, .inl (c1, 384, .inl fun _ => Int32.ofInt 0)), (q2, .inl (c2, 384, .inl fun _ => Int32.ofInt 0)), (q3, .inl (c3, 384, .inl fun _ => Int32.ofInt 0)), (q4, .inl (c4, 1152, .inl fun _ => Int32.ofInt 0)), (q5, .inl (c5, 384, .inl fun _ => Int32.ofInt 0))] H := hP
  have hD : va_D A [(o, .inr (0, [.ref q0, .ref q1, .ref q2, .ref q3, .ref q4, .ref q5, .null, .null, .int (Int32.ofInt 0), .null, .int (Int32.ofInt 0), .null, .null, .null, .null, .null, .null])), (q0, .inl (c0, 384, .inl fun _ => Int32.ofInt 0)), (q1, .inl (c1, 384, .inl fun _ => Int32.ofInt 0)), (q2, .inl (c2, 384, .inl fun _ => Int32.ofInt 0)), (q3, .inl (c3, 384, .inl fun _ => Int32.ofInt 0)), (q4, .inl (c4, 1152, .inl fun _ => Int32.ofInt 0)), (q5, .inl (c5, 384, .inl fun _ => Int32.ofInt 0))] := hD
  have hK : va_K G classes [(c0, .byte), (c1, .byte), (c2, .boolean), (c3, .boolean), (c4, .byte), (c5, .boolean)] s := hK
  refine W.widen (k := 6) (n := 3072) (by omega) (by omega) ?_
  refine lv_aload_n hx hb d_B_init_58 rfl (lv_at hl 0 rfl) ?_
  refine lv_sipush (v := nI 384) hx hb d_B_init_59 (by decide) ?_
  refine jc_step (et := .short) hx hb hts CF_B hown hin hA 6 29 384 rfl jc_a_short rfl rfl (by decide +kernel) (by decide) (by decide) (Nat.le_of_ble_eq_true rfl) (show 6 + 1 ≤ 15 by decide) (show 3072 + 384 ≤ 5455 by decide) d_B_init_62 d_B_init_64 hK hP hD hS (fun q6 c6 H locs hK hP hD hS => ?_)
  have hP : va_P G classes [(o, .inr (0, [.ref q0, .ref q1, .ref q2, .ref q3, .ref q4, .ref q5, .ref q6, .null, .int (Int32.ofInt 0), .null, .int (Int32.ofInt 0), .null, .null, .null, .null, .null, .null])), (q0, .inl (c0, 384, .inl fun _ => Int32.ofInt 0)), (q1, .inl (c1, 384, .inl fun _ => Int32.ofInt 0)), (q2, .inl (c2, 384, .inl fun _ => Int32.ofInt 0)), (q3, .inl (c3, 384, .inl fun _ => Int32.ofInt 0)), (q4, .inl (c4, 1152, .inl fun _ => Int32.ofInt 0)), (q5, .inl (c5, 384, .inl fun _ => Int32.ofInt 0)), (q6, .inl (c6, 384, .inl fun _ => Int32.ofInt 0))] H := hP
  have hD : va_D A [(o, .inr (0, [.ref q0, .ref q1, .ref q2, .ref q3, .ref q4, .ref q5, .ref q6, .null, .int (Int32.ofInt 0), .null, .int (Int32.ofInt 0), .null, .null, .null, .null, .null, .null])), (q0, .inl (c0, 384, .inl fun _ => Int32.ofInt 0)), (q1, .inl (c1, 384, .inl fun _ => Int32.ofInt 0)), (q2, .inl (c2, 384, .inl fun _ => Int32.ofInt 0)), (q3, .inl (c3, 384, .inl fun _ => Int32.ofInt 0)), (q4, .inl (c4, 1152, .inl fun _ => Int32.ofInt 0)), (q5, .inl (c5, 384, .inl fun _ => Int32.ofInt 0)), (q6, .inl (c6, 384, .inl fun _ => Int32.ofInt 0))] := hD
  have hK : va_K G classes [(c0, .byte), (c1, .byte), (c2, .boolean), (c3, .boolean), (c4, .byte), (c5, .boolean), (c6, .short)] s := hK
  refine W.widen (k := 7) (n := 3456) (by omega) (by omega) ?_
  refine lv_aload_n hx hb d_B_init_67 rfl (lv_at hl 0 rfl) ?_
  refine lv_sipush (v := nI 384) hx hb d_B_init_68 (by decide) ?_
  refine jc_step (et := .byte) hx hb hts CF_B hown hin hA 7 33 384 rfl jc_a_byte rfl rfl (by decide +kernel) (by decide) (by decide) (Nat.le_of_ble_eq_true rfl) (show 7 + 1 ≤ 15 by decide) (show 3456 + 384 ≤ 5455 by decide) d_B_init_71 d_B_init_73 hK hP hD hS (fun q7 c7 H locs hK hP hD hS => ?_)
  have hP : va_P G classes [(o, .inr (0, [.ref q0, .ref q1, .ref q2, .ref q3, .ref q4, .ref q5, .ref q6, .ref q7, .int (Int32.ofInt 0), .null, .int (Int32.ofInt 0), .null, .null, .null, .null, .null, .null])), (q0, .inl (c0, 384, .inl fun _ => Int32.ofInt 0)), (q1, .inl (c1, 384, .inl fun _ => Int32.ofInt 0)), (q2, .inl (c2, 384, .inl fun _ => Int32.ofInt 0)), (q3, .inl (c3, 384, .inl fun _ => Int32.ofInt 0)), (q4, .inl (c4, 1152, .inl fun _ => Int32.ofInt 0)), (q5, .inl (c5, 384, .inl fun _ => Int32.ofInt 0)), (q6, .inl (c6, 384, .inl fun _ => Int32.ofInt 0)), (q7, .inl (c7, 384, .inl fun _ => Int32.ofInt 0))] H := hP
  have hD : va_D A [(o, .inr (0, [.ref q0, .ref q1, .ref q2, .ref q3, .ref q4, .ref q5, .ref q6, .ref q7, .int (Int32.ofInt 0), .null, .int (Int32.ofInt 0), .null, .null, .null, .null, .null, .null])), (q0, .inl (c0, 384, .inl fun _ => Int32.ofInt 0)), (q1, .inl (c1, 384, .inl fun _ => Int32.ofInt 0)), (q2, .inl (c2, 384, .inl fun _ => Int32.ofInt 0)), (q3, .inl (c3, 384, .inl fun _ => Int32.ofInt 0)), (q4, .inl (c4, 1152, .inl fun _ => Int32.ofInt 0)), (q5, .inl (c5, 384, .inl fun _ => Int32.ofInt 0)), (q6, .inl (c6, 384, .inl fun _ => Int32.ofInt 0)), (q7, .inl (c7, 384, .inl fun _ => Int32.ofInt 0))] := hD
  have hK : va_K G classes [(c0, .byte), (c1, .byte), (c2, .boolean), (c3, .boolean), (c4, .byte), (c5, .boolean), (c6, .short), (c7, .byte)] s := hK
  refine W.widen (k := 8) (n := 3840) (by omega) (by omega) ?_
  refine lv_aload_n hx hb d_B_init_76 rfl (lv_at hl 0 rfl) ?_
  refine lv_sipush (v := nI 384) hx hb d_B_init_77 (by decide) ?_
  refine jc_step (et := .boolean) hx hb hts CF_B hown hin hA 9 36 384 rfl jc_a_boolean rfl rfl (by decide +kernel) (by decide) (by decide) (Nat.le_of_ble_eq_true rfl) (show 8 + 1 ≤ 15 by decide) (show 3840 + 384 ≤ 5455 by decide) d_B_init_80 d_B_init_82 hK hP hD hS (fun q9 c9 H locs hK hP hD hS => ?_)
  have hP : va_P G classes [(o, .inr (0, [.ref q0, .ref q1, .ref q2, .ref q3, .ref q4, .ref q5, .ref q6, .ref q7, .int (Int32.ofInt 0), .ref q9, .int (Int32.ofInt 0), .null, .null, .null, .null, .null, .null])), (q0, .inl (c0, 384, .inl fun _ => Int32.ofInt 0)), (q1, .inl (c1, 384, .inl fun _ => Int32.ofInt 0)), (q2, .inl (c2, 384, .inl fun _ => Int32.ofInt 0)), (q3, .inl (c3, 384, .inl fun _ => Int32.ofInt 0)), (q4, .inl (c4, 1152, .inl fun _ => Int32.ofInt 0)), (q5, .inl (c5, 384, .inl fun _ => Int32.ofInt 0)), (q6, .inl (c6, 384, .inl fun _ => Int32.ofInt 0)), (q7, .inl (c7, 384, .inl fun _ => Int32.ofInt 0)), (q9, .inl (c9, 384, .inl fun _ => Int32.ofInt 0))] H := hP
  have hD : va_D A [(o, .inr (0, [.ref q0, .ref q1, .ref q2, .ref q3, .ref q4, .ref q5, .ref q6, .ref q7, .int (Int32.ofInt 0), .ref q9, .int (Int32.ofInt 0), .null, .null, .null, .null, .null, .null])), (q0, .inl (c0, 384, .inl fun _ => Int32.ofInt 0)), (q1, .inl (c1, 384, .inl fun _ => Int32.ofInt 0)), (q2, .inl (c2, 384, .inl fun _ => Int32.ofInt 0)), (q3, .inl (c3, 384, .inl fun _ => Int32.ofInt 0)), (q4, .inl (c4, 1152, .inl fun _ => Int32.ofInt 0)), (q5, .inl (c5, 384, .inl fun _ => Int32.ofInt 0)), (q6, .inl (c6, 384, .inl fun _ => Int32.ofInt 0)), (q7, .inl (c7, 384, .inl fun _ => Int32.ofInt 0)), (q9, .inl (c9, 384, .inl fun _ => Int32.ofInt 0))] := hD
  have hK : va_K G classes [(c0, .byte), (c1, .byte), (c2, .boolean), (c3, .boolean), (c4, .byte), (c5, .boolean), (c6, .short), (c7, .byte), (c9, .boolean)] s := hK
  refine W.widen (k := 9) (n := 4224) (by omega) (by omega) ?_
  refine lv_aload_n hx hb d_B_init_85 rfl (lv_at hl 0 rfl) ?_
  refine lv_bipush (v := nI 64) hx hb d_B_init_86 (by decide) ?_
  refine jc_step (et := .byte) hx hb hts CF_B hown hin hA 11 39 64 rfl jc_a_byte rfl rfl (by decide +kernel) (by decide) (by decide) (Nat.le_of_ble_eq_true rfl) (show 9 + 1 ≤ 15 by decide) (show 4224 + 64 ≤ 5455 by decide) d_B_init_88 d_B_init_90 hK hP hD hS (fun q11 c11 H locs hK hP hD hS => ?_)
  have hP : va_P G classes [(o, .inr (0, [.ref q0, .ref q1, .ref q2, .ref q3, .ref q4, .ref q5, .ref q6, .ref q7, .int (Int32.ofInt 0), .ref q9, .int (Int32.ofInt 0), .ref q11, .null, .null, .null, .null, .null])), (q0, .inl (c0, 384, .inl fun _ => Int32.ofInt 0)), (q1, .inl (c1, 384, .inl fun _ => Int32.ofInt 0)), (q2, .inl (c2, 384, .inl fun _ => Int32.ofInt 0)), (q3, .inl (c3, 384, .inl fun _ => Int32.ofInt 0)), (q4, .inl (c4, 1152, .inl fun _ => Int32.ofInt 0)), (q5, .inl (c5, 384, .inl fun _ => Int32.ofInt 0)), (q6, .inl (c6, 384, .inl fun _ => Int32.ofInt 0)), (q7, .inl (c7, 384, .inl fun _ => Int32.ofInt 0)), (q9, .inl (c9, 384, .inl fun _ => Int32.ofInt 0)), (q11, .inl (c11, 64, .inl fun _ => Int32.ofInt 0))] H := hP
  have hD : va_D A [(o, .inr (0, [.ref q0, .ref q1, .ref q2, .ref q3, .ref q4, .ref q5, .ref q6, .ref q7, .int (Int32.ofInt 0), .ref q9, .int (Int32.ofInt 0), .ref q11, .null, .null, .null, .null, .null])), (q0, .inl (c0, 384, .inl fun _ => Int32.ofInt 0)), (q1, .inl (c1, 384, .inl fun _ => Int32.ofInt 0)), (q2, .inl (c2, 384, .inl fun _ => Int32.ofInt 0)), (q3, .inl (c3, 384, .inl fun _ => Int32.ofInt 0)), (q4, .inl (c4, 1152, .inl fun _ => Int32.ofInt 0)), (q5, .inl (c5, 384, .inl fun _ => Int32.ofInt 0)), (q6, .inl (c6, 384, .inl fun _ => Int32.ofInt 0)), (q7, .inl (c7, 384, .inl fun _ => Int32.ofInt 0)), (q9, .inl (c9, 384, .inl fun _ => Int32.ofInt 0)), (q11, .inl (c11, 64, .inl fun _ => Int32.ofInt 0))] := hD
  have hK : va_K G classes [(c0, .byte), (c1, .byte), (c2, .boolean), (c3, .boolean), (c4, .byte), (c5, .boolean), (c6, .short), (c7, .byte), (c9, .boolean), (c11, .byte)] s := hK
  refine W.widen (k := 10) (n := 4288) (by omega) (by omega) ?_
  refine lv_aload_n hx hb d_B_init_93 rfl (lv_at hl 0 rfl) ?_
  refine lv_bipush (v := nI 10) hx hb d_B_init_94 (by decide) ?_
  refine jc_step (et := .short) hx hb hts CF_B hown hin hA 12 42 10 rfl jc_a_short rfl rfl (by decide +kernel) (by decide) (by decide) (Nat.le_of_ble_eq_true rfl) (show 10 + 1 ≤ 15 by decide) (show 4288 + 10 ≤ 5455 by decide) d_B_init_96 d_B_init_98 hK hP hD hS (fun q12 c12 H locs hK hP hD hS => ?_)
  have hP : va_P G classes [(o, .inr (0, [.ref q0, .ref q1, .ref q2, .ref q3, .ref q4, .ref q5, .ref q6, .ref q7, .int (Int32.ofInt 0), .ref q9, .int (Int32.ofInt 0), .ref q11, .ref q12, .null, .null, .null, .null])), (q0, .inl (c0, 384, .inl fun _ => Int32.ofInt 0)), (q1, .inl (c1, 384, .inl fun _ => Int32.ofInt 0)), (q2, .inl (c2, 384, .inl fun _ => Int32.ofInt 0)), (q3, .inl (c3, 384, .inl fun _ => Int32.ofInt 0)), (q4, .inl (c4, 1152, .inl fun _ => Int32.ofInt 0)), (q5, .inl (c5, 384, .inl fun _ => Int32.ofInt 0)), (q6, .inl (c6, 384, .inl fun _ => Int32.ofInt 0)), (q7, .inl (c7, 384, .inl fun _ => Int32.ofInt 0)), (q9, .inl (c9, 384, .inl fun _ => Int32.ofInt 0)), (q11, .inl (c11, 64, .inl fun _ => Int32.ofInt 0)), (q12, .inl (c12, 10, .inl fun _ => Int32.ofInt 0))] H := hP
  have hD : va_D A [(o, .inr (0, [.ref q0, .ref q1, .ref q2, .ref q3, .ref q4, .ref q5, .ref q6, .ref q7, .int (Int32.ofInt 0), .ref q9, .int (Int32.ofInt 0), .ref q11, .ref q12, .null, .null, .null, .null])), (q0, .inl (c0, 384, .inl fun _ => Int32.ofInt 0)), (q1, .inl (c1, 384, .inl fun _ => Int32.ofInt 0)), (q2, .inl (c2, 384, .inl fun _ => Int32.ofInt 0)), (q3, .inl (c3, 384, .inl fun _ => Int32.ofInt 0)), (q4, .inl (c4, 1152, .inl fun _ => Int32.ofInt 0)), (q5, .inl (c5, 384, .inl fun _ => Int32.ofInt 0)), (q6, .inl (c6, 384, .inl fun _ => Int32.ofInt 0)), (q7, .inl (c7, 384, .inl fun _ => Int32.ofInt 0)), (q9, .inl (c9, 384, .inl fun _ => Int32.ofInt 0)), (q11, .inl (c11, 64, .inl fun _ => Int32.ofInt 0)), (q12, .inl (c12, 10, .inl fun _ => Int32.ofInt 0))] := hD
  have hK : va_K G classes [(c0, .byte), (c1, .byte), (c2, .boolean), (c3, .boolean), (c4, .byte), (c5, .boolean), (c6, .short), (c7, .byte), (c9, .boolean), (c11, .byte), (c12, .short)] s := hK
  refine W.widen (k := 11) (n := 4298) (by omega) (by omega) ?_
  refine lv_aload_n hx hb d_B_init_101 rfl (lv_at hl 0 rfl) ?_
  refine lv_sipush (v := nI 384) hx hb d_B_init_102 (by decide) ?_
  refine jc_step (et := .short) hx hb hts CF_B hown hin hA 13 45 384 rfl jc_a_short rfl rfl (by decide +kernel) (by decide) (by decide) (Nat.le_of_ble_eq_true rfl) (show 11 + 1 ≤ 15 by decide) (show 4298 + 384 ≤ 5455 by decide) d_B_init_105 d_B_init_107 hK hP hD hS (fun q13 c13 H locs hK hP hD hS => ?_)
  have hP : va_P G classes [(o, .inr (0, [.ref q0, .ref q1, .ref q2, .ref q3, .ref q4, .ref q5, .ref q6, .ref q7, .int (Int32.ofInt 0), .ref q9, .int (Int32.ofInt 0), .ref q11, .ref q12, .ref q13, .null, .null, .null])), (q0, .inl (c0, 384, .inl fun _ => Int32.ofInt 0)), (q1, .inl (c1, 384, .inl fun _ => Int32.ofInt 0)), (q2, .inl (c2, 384, .inl fun _ => Int32.ofInt 0)), (q3, .inl (c3, 384, .inl fun _ => Int32.ofInt 0)), (q4, .inl (c4, 1152, .inl fun _ => Int32.ofInt 0)), (q5, .inl (c5, 384, .inl fun _ => Int32.ofInt 0)), (q6, .inl (c6, 384, .inl fun _ => Int32.ofInt 0)), (q7, .inl (c7, 384, .inl fun _ => Int32.ofInt 0)), (q9, .inl (c9, 384, .inl fun _ => Int32.ofInt 0)), (q11, .inl (c11, 64, .inl fun _ => Int32.ofInt 0)), (q12, .inl (c12, 10, .inl fun _ => Int32.ofInt 0)), (q13, .inl (c13, 384, .inl fun _ => Int32.ofInt 0))] H := hP
  have hD : va_D A [(o, .inr (0, [.ref q0, .ref q1, .ref q2, .ref q3, .ref q4, .ref q5, .ref q6, .ref q7, .int (Int32.ofInt 0), .ref q9, .int (Int32.ofInt 0), .ref q11, .ref q12, .ref q13, .null, .null, .null])), (q0, .inl (c0, 384, .inl fun _ => Int32.ofInt 0)), (q1, .inl (c1, 384, .inl fun _ => Int32.ofInt 0)), (q2, .inl (c2, 384, .inl fun _ => Int32.ofInt 0)), (q3, .inl (c3, 384, .inl fun _ => Int32.ofInt 0)), (q4, .inl (c4, 1152, .inl fun _ => Int32.ofInt 0)), (q5, .inl (c5, 384, .inl fun _ => Int32.ofInt 0)), (q6, .inl (c6, 384, .inl fun _ => Int32.ofInt 0)), (q7, .inl (c7, 384, .inl fun _ => Int32.ofInt 0)), (q9, .inl (c9, 384, .inl fun _ => Int32.ofInt 0)), (q11, .inl (c11, 64, .inl fun _ => Int32.ofInt 0)), (q12, .inl (c12, 10, .inl fun _ => Int32.ofInt 0)), (q13, .inl (c13, 384, .inl fun _ => Int32.ofInt 0))] := hD
  have hK : va_K G classes [(c0, .byte), (c1, .byte), (c2, .boolean), (c3, .boolean), (c4, .byte), (c5, .boolean), (c6, .short), (c7, .byte), (c9, .boolean), (c11, .byte), (c12, .short), (c13, .short)] s := hK
  refine W.widen (k := 12) (n := 4682) (by omega) (by omega) ?_
  refine lv_aload_n hx hb d_B_init_110 rfl (lv_at hl 0 rfl) ?_
  refine lv_iconst (v := nI 5) hx hb d_B_init_111 (by decide) ?_
  refine jc_step (et := .int) hx hb hts CF_B hown hin hA 14 48 5 rfl jc_a_int rfl rfl (by decide +kernel) (by decide) (by decide) (Nat.le_of_ble_eq_true rfl) (show 12 + 1 ≤ 15 by decide) (show 4682 + 5 ≤ 5455 by decide) d_B_init_112 d_B_init_114 hK hP hD hS (fun q14 c14 H locs hK hP hD hS => ?_)
  have hP : va_P G classes [(o, .inr (0, [.ref q0, .ref q1, .ref q2, .ref q3, .ref q4, .ref q5, .ref q6, .ref q7, .int (Int32.ofInt 0), .ref q9, .int (Int32.ofInt 0), .ref q11, .ref q12, .ref q13, .ref q14, .null, .null])), (q0, .inl (c0, 384, .inl fun _ => Int32.ofInt 0)), (q1, .inl (c1, 384, .inl fun _ => Int32.ofInt 0)), (q2, .inl (c2, 384, .inl fun _ => Int32.ofInt 0)), (q3, .inl (c3, 384, .inl fun _ => Int32.ofInt 0)), (q4, .inl (c4, 1152, .inl fun _ => Int32.ofInt 0)), (q5, .inl (c5, 384, .inl fun _ => Int32.ofInt 0)), (q6, .inl (c6, 384, .inl fun _ => Int32.ofInt 0)), (q7, .inl (c7, 384, .inl fun _ => Int32.ofInt 0)), (q9, .inl (c9, 384, .inl fun _ => Int32.ofInt 0)), (q11, .inl (c11, 64, .inl fun _ => Int32.ofInt 0)), (q12, .inl (c12, 10, .inl fun _ => Int32.ofInt 0)), (q13, .inl (c13, 384, .inl fun _ => Int32.ofInt 0)), (q14, .inl (c14, 5, .inl fun _ => Int32.ofInt 0))] H := hP
  have hD : va_D A [(o, .inr (0, [.ref q0, .ref q1, .ref q2, .ref q3, .ref q4, .ref q5, .ref q6, .ref q7, .int (Int32.ofInt 0), .ref q9, .int (Int32.ofInt 0), .ref q11, .ref q12, .ref q13, .ref q14, .null, .null])), (q0, .inl (c0, 384, .inl fun _ => Int32.ofInt 0)), (q1, .inl (c1, 384, .inl fun _ => Int32.ofInt 0)), (q2, .inl (c2, 384, .inl fun _ => Int32.ofInt 0)), (q3, .inl (c3, 384, .inl fun _ => Int32.ofInt 0)), (q4, .inl (c4, 1152, .inl fun _ => Int32.ofInt 0)), (q5, .inl (c5, 384, .inl fun _ => Int32.ofInt 0)), (q6, .inl (c6, 384, .inl fun _ => Int32.ofInt 0)), (q7, .inl (c7, 384, .inl fun _ => Int32.ofInt 0)), (q9, .inl (c9, 384, .inl fun _ => Int32.ofInt 0)), (q11, .inl (c11, 64, .inl fun _ => Int32.ofInt 0)), (q12, .inl (c12, 10, .inl fun _ => Int32.ofInt 0)), (q13, .inl (c13, 384, .inl fun _ => Int32.ofInt 0)), (q14, .inl (c14, 5, .inl fun _ => Int32.ofInt 0))] := hD
  have hK : va_K G classes [(c0, .byte), (c1, .byte), (c2, .boolean), (c3, .boolean), (c4, .byte), (c5, .boolean), (c6, .short), (c7, .byte), (c9, .boolean), (c11, .byte), (c12, .short), (c13, .short), (c14, .int)] s := hK
  refine W.widen (k := 13) (n := 4687) (by omega) (by omega) ?_
  refine lv_aload_n hx hb d_B_init_117 rfl (lv_at hl 0 rfl) ?_
  refine lv_sipush (v := nI 384) hx hb d_B_init_118 (by decide) ?_
  refine jc_step (et := .boolean) hx hb hts CF_B hown hin hA 15 52 384 rfl jc_a_boolean rfl rfl (by decide +kernel) (by decide) (by decide) (Nat.le_of_ble_eq_true rfl) (show 13 + 1 ≤ 15 by decide) (show 4687 + 384 ≤ 5455 by decide) d_B_init_121 d_B_init_123 hK hP hD hS (fun q15 c15 H locs hK hP hD hS => ?_)
  have hP : va_P G classes [(o, .inr (0, [.ref q0, .ref q1, .ref q2, .ref q3, .ref q4, .ref q5, .ref q6, .ref q7, .int (Int32.ofInt 0), .ref q9, .int (Int32.ofInt 0), .ref q11, .ref q12, .ref q13, .ref q14, .ref q15, .null])), (q0, .inl (c0, 384, .inl fun _ => Int32.ofInt 0)), (q1, .inl (c1, 384, .inl fun _ => Int32.ofInt 0)), (q2, .inl (c2, 384, .inl fun _ => Int32.ofInt 0)), (q3, .inl (c3, 384, .inl fun _ => Int32.ofInt 0)), (q4, .inl (c4, 1152, .inl fun _ => Int32.ofInt 0)), (q5, .inl (c5, 384, .inl fun _ => Int32.ofInt 0)), (q6, .inl (c6, 384, .inl fun _ => Int32.ofInt 0)), (q7, .inl (c7, 384, .inl fun _ => Int32.ofInt 0)), (q9, .inl (c9, 384, .inl fun _ => Int32.ofInt 0)), (q11, .inl (c11, 64, .inl fun _ => Int32.ofInt 0)), (q12, .inl (c12, 10, .inl fun _ => Int32.ofInt 0)), (q13, .inl (c13, 384, .inl fun _ => Int32.ofInt 0)), (q14, .inl (c14, 5, .inl fun _ => Int32.ofInt 0)), (q15, .inl (c15, 384, .inl fun _ => Int32.ofInt 0))] H := hP
  have hD : va_D A [(o, .inr (0, [.ref q0, .ref q1, .ref q2, .ref q3, .ref q4, .ref q5, .ref q6, .ref q7, .int (Int32.ofInt 0), .ref q9, .int (Int32.ofInt 0), .ref q11, .ref q12, .ref q13, .ref q14, .ref q15, .null])), (q0, .inl (c0, 384, .inl fun _ => Int32.ofInt 0)), (q1, .inl (c1, 384, .inl fun _ => Int32.ofInt 0)), (q2, .inl (c2, 384, .inl fun _ => Int32.ofInt 0)), (q3, .inl (c3, 384, .inl fun _ => Int32.ofInt 0)), (q4, .inl (c4, 1152, .inl fun _ => Int32.ofInt 0)), (q5, .inl (c5, 384, .inl fun _ => Int32.ofInt 0)), (q6, .inl (c6, 384, .inl fun _ => Int32.ofInt 0)), (q7, .inl (c7, 384, .inl fun _ => Int32.ofInt 0)), (q9, .inl (c9, 384, .inl fun _ => Int32.ofInt 0)), (q11, .inl (c11, 64, .inl fun _ => Int32.ofInt 0)), (q12, .inl (c12, 10, .inl fun _ => Int32.ofInt 0)), (q13, .inl (c13, 384, .inl fun _ => Int32.ofInt 0)), (q14, .inl (c14, 5, .inl fun _ => Int32.ofInt 0)), (q15, .inl (c15, 384, .inl fun _ => Int32.ofInt 0))] := hD
  have hK : va_K G classes [(c0, .byte), (c1, .byte), (c2, .boolean), (c3, .boolean), (c4, .byte), (c5, .boolean), (c6, .short), (c7, .byte), (c9, .boolean), (c11, .byte), (c12, .short), (c13, .short), (c14, .int), (c15, .boolean)] s := hK
  refine W.widen (k := 14) (n := 5071) (by omega) (by omega) ?_
  refine lv_aload_n hx hb d_B_init_126 rfl (lv_at hl 0 rfl) ?_
  refine lv_sipush (v := nI 384) hx hb d_B_init_127 (by decide) ?_
  refine jc_step (et := .boolean) hx hb hts CF_B hown hin hA 16 55 384 rfl jc_a_boolean rfl rfl (by decide +kernel) (by decide) (by decide) (Nat.le_of_ble_eq_true rfl) (show 14 + 1 ≤ 15 by decide) (show 5071 + 384 ≤ 5455 by decide) d_B_init_130 d_B_init_132 hK hP hD hS (fun q16 c16 H locs hK hP hD hS => ?_)
  have hP : va_P G classes [(o, .inr (0, [.ref q0, .ref q1, .ref q2, .ref q3, .ref q4, .ref q5, .ref q6, .ref q7, .int (Int32.ofInt 0), .ref q9, .int (Int32.ofInt 0), .ref q11, .ref q12, .ref q13, .ref q14, .ref q15, .ref q16])), (q0, .inl (c0, 384, .inl fun _ => Int32.ofInt 0)), (q1, .inl (c1, 384, .inl fun _ => Int32.ofInt 0)), (q2, .inl (c2, 384, .inl fun _ => Int32.ofInt 0)), (q3, .inl (c3, 384, .inl fun _ => Int32.ofInt 0)), (q4, .inl (c4, 1152, .inl fun _ => Int32.ofInt 0)), (q5, .inl (c5, 384, .inl fun _ => Int32.ofInt 0)), (q6, .inl (c6, 384, .inl fun _ => Int32.ofInt 0)), (q7, .inl (c7, 384, .inl fun _ => Int32.ofInt 0)), (q9, .inl (c9, 384, .inl fun _ => Int32.ofInt 0)), (q11, .inl (c11, 64, .inl fun _ => Int32.ofInt 0)), (q12, .inl (c12, 10, .inl fun _ => Int32.ofInt 0)), (q13, .inl (c13, 384, .inl fun _ => Int32.ofInt 0)), (q14, .inl (c14, 5, .inl fun _ => Int32.ofInt 0)), (q15, .inl (c15, 384, .inl fun _ => Int32.ofInt 0)), (q16, .inl (c16, 384, .inl fun _ => Int32.ofInt 0))] H := hP
  have hD : va_D A [(o, .inr (0, [.ref q0, .ref q1, .ref q2, .ref q3, .ref q4, .ref q5, .ref q6, .ref q7, .int (Int32.ofInt 0), .ref q9, .int (Int32.ofInt 0), .ref q11, .ref q12, .ref q13, .ref q14, .ref q15, .ref q16])), (q0, .inl (c0, 384, .inl fun _ => Int32.ofInt 0)), (q1, .inl (c1, 384, .inl fun _ => Int32.ofInt 0)), (q2, .inl (c2, 384, .inl fun _ => Int32.ofInt 0)), (q3, .inl (c3, 384, .inl fun _ => Int32.ofInt 0)), (q4, .inl (c4, 1152, .inl fun _ => Int32.ofInt 0)), (q5, .inl (c5, 384, .inl fun _ => Int32.ofInt 0)), (q6, .inl (c6, 384, .inl fun _ => Int32.ofInt 0)), (q7, .inl (c7, 384, .inl fun _ => Int32.ofInt 0)), (q9, .inl (c9, 384, .inl fun _ => Int32.ofInt 0)), (q11, .inl (c11, 64, .inl fun _ => Int32.ofInt 0)), (q12, .inl (c12, 10, .inl fun _ => Int32.ofInt 0)), (q13, .inl (c13, 384, .inl fun _ => Int32.ofInt 0)), (q14, .inl (c14, 5, .inl fun _ => Int32.ofInt 0)), (q15, .inl (c15, 384, .inl fun _ => Int32.ofInt 0)), (q16, .inl (c16, 384, .inl fun _ => Int32.ofInt 0))] := hD
  have hK : va_K G classes [(c0, .byte), (c1, .byte), (c2, .boolean), (c3, .boolean), (c4, .byte), (c5, .boolean), (c6, .short), (c7, .byte), (c9, .boolean), (c11, .byte), (c12, .short), (c13, .short), (c14, .int), (c15, .boolean), (c16, .boolean)] s := hK
  refine W.widen (k := 15) (n := 5455) (by omega) (by omega) ?_
  obtain ⟨ad, had⟩ : ∃ ad : Nat → Nat, ad 0 = q0 ∧ ad 1 = q1 ∧ ad 2 = q2 ∧ ad 3 = q3 ∧ ad 4 = q4 ∧ ad 5 = q5 ∧ ad 6 = q6 ∧ ad 7 = q7 ∧ ad 9 = q9 ∧ ad 11 = q11 ∧ ad 12 = q12 ∧ ad 13 = q13 ∧ ad 14 = q14 ∧ ad 15 = q15 ∧ ad 16 = q16 := ⟨fun k => match k with | 0 => q0 | 1 => q1 | 2 => q2 | 3 => q3 | 4 => q4 | 5 => q5 | 6 => q6 | 7 => q7 | 9 => q9 | 11 => q11 | 12 => q12 | 13 => q13 | 14 => q14 | 15 => q15 | 16 => q16 | _ => 0, rfl, rfl, rfl, rfl, rfl, rfl, rfl, rfl, rfl, rfl, rfl, rfl, rfl, rfl, rfl⟩
  obtain ⟨cA, hcA⟩ : ∃ cA : Nat → ClassId, cA 0 = c0 ∧ cA 1 = c1 ∧ cA 2 = c2 ∧ cA 3 = c3 ∧ cA 4 = c4 ∧ cA 5 = c5 ∧ cA 6 = c6 ∧ cA 7 = c7 ∧ cA 9 = c9 ∧ cA 11 = c11 ∧ cA 12 = c12 ∧ cA 13 = c13 ∧ cA 14 = c14 ∧ cA 15 = c15 ∧ cA 16 = c16 := ⟨fun k => match k with | 0 => c0 | 1 => c1 | 2 => c2 | 3 => c3 | 4 => c4 | 5 => c5 | 6 => c6 | 7 => c7 | 9 => c9 | 11 => c11 | 12 => c12 | 13 => c13 | 14 => c14 | 15 => c15 | 16 => c16 | _ => c0, rfl, rfl, rfl, rfl, rfl, rfl, rfl, rfl, rfl, rfl, rfl, rfl, rfl, rfl, rfl⟩
  obtain ⟨rfl, rfl, rfl, rfl, rfl, rfl, rfl, rfl, rfl, rfl, rfl, rfl, rfl, rfl, rfl⟩ := had
  obtain ⟨rfl, rfl, rfl, rfl, rfl, rfl, rfl, rfl, rfl, rfl, rfl, rfl, rfl, rfl, rfl⟩ := hcA
  have hP : va_P G classes (jm_pic D_B 17 ks_B 0 o ad cA jc_z) H := hP
  have hD : va_D A (jm_pic D_B 17 ks_B 0 o ad cA jc_z) := hD
  have hK : va_K G classes (jm_tys D_B ks_B cA) s := hK
  have key := jc_ok_B (jm_W p l e ({ frames := 1, cells := 15, slots := 5455, locals := 40 }) s m ([.ref o] : List Value).toArray below meth c (MQ below (jc_Q G D_B 17 ks_B 0 o A jc_PB) ([.ref o] : List Value).toArray s 15 5455 A) G classes D_B 17 ks_B 0 o ad cA A 2 15 5455)
    (fun en pc ls st σ' he hw => jm_sound (lv := 0) (T := F_B) (ty0 := t_B) (z := none) (rt := none) hx hb hml hr hlocks hown hts hK (fun τ => jm_pic_D hD) hA CF_B jc_ck_B (fun i sp h => by cases h) ⟨⟨Nat.zero_le _, Nat.zero_le _⟩, Nat.le_refl _, Nat.le_refl _⟩ rfl
      (fun v σ' H locs h1 h2 h3 h4 h5 t h6 h7 => ⟨⟨rfl, ad, cA, σ', ⟨h1, h3⟩, by rw [h6]; exact h4, va_K.moved h7.alike hK, jm_pic_D hD⟩, h5.F h6⟩) he hw)
  exact key rfl jc_z_B (fun i v hv => by rcases i with _ | _ | i <;> simp at hv <;> subst hv <;> trivial) (fun v hv => by cases hv) H locs ls hP hS ⟨hl.1, hl.2.1, fun i v hv => by rcases i with _ | _ | i <;> simp at hv <;> subst hv <;> exact hl.2.2 _ (List.mem_cons_self ..)⟩
theorem d_M_init_0 : decode b_M_init 0 = .ok (.aload_n 0, 1) := by decide +kernel
theorem d_M_init_1 : decode b_M_init 1 = .ok (.invokespecial 1, 3) := by decide +kernel
theorem d_M_init_4 : decode b_M_init 4 = .ok (.aload_n 0, 1) := by decide +kernel
theorem d_M_init_5 : decode b_M_init 5 = .ok (.sipush 384, 3) := by decide +kernel
theorem d_M_init_8 : decode b_M_init 8 = .ok (.newarray .int, 2) := by decide +kernel
theorem d_M_init_10 : decode b_M_init 10 = .ok (.putfield 7, 3) := by decide +kernel
theorem d_M_init_13 : decode b_M_init 13 = .ok (.aload_n 0, 1) := by decide +kernel
theorem d_M_init_14 : decode b_M_init 14 = .ok (.sipush 384, 3) := by decide +kernel
theorem d_M_init_17 : decode b_M_init 17 = .ok (.newarray .int, 2) := by decide +kernel
theorem d_M_init_19 : decode b_M_init 19 = .ok (.putfield 13, 3) := by decide +kernel
theorem d_M_init_22 : decode b_M_init 22 = .ok (.aload_n 0, 1) := by decide +kernel
theorem d_M_init_23 : decode b_M_init 23 = .ok (.sipush 384, 3) := by decide +kernel
theorem d_M_init_26 : decode b_M_init 26 = .ok (.newarray .boolean, 2) := by decide +kernel
theorem d_M_init_28 : decode b_M_init 28 = .ok (.putfield 16, 3) := by decide +kernel
theorem d_M_init_31 : decode b_M_init 31 = .ok (.aload_n 0, 1) := by decide +kernel
theorem d_M_init_32 : decode b_M_init 32 = .ok (.sipush 384, 3) := by decide +kernel
theorem d_M_init_35 : decode b_M_init 35 = .ok (.newarray .int, 2) := by decide +kernel
theorem d_M_init_37 : decode b_M_init 37 = .ok (.putfield 20, 3) := by decide +kernel
theorem d_M_init_40 : decode b_M_init 40 = .ok (.aload_n 0, 1) := by decide +kernel
theorem d_M_init_41 : decode b_M_init 41 = .ok (.sipush 384, 3) := by decide +kernel
theorem d_M_init_44 : decode b_M_init 44 = .ok (.newarray .int, 2) := by decide +kernel
theorem d_M_init_46 : decode b_M_init 46 = .ok (.putfield 23, 3) := by decide +kernel
theorem d_M_init_49 : decode b_M_init 49 = .ok (.aload_n 0, 1) := by decide +kernel
theorem d_M_init_50 : decode b_M_init 50 = .ok (.sipush 384, 3) := by decide +kernel
theorem d_M_init_53 : decode b_M_init 53 = .ok (.newarray .int, 2) := by decide +kernel
theorem d_M_init_55 : decode b_M_init 55 = .ok (.putfield 26, 3) := by decide +kernel
theorem d_M_init_58 : decode b_M_init 58 = .ok (.aload_n 0, 1) := by decide +kernel
theorem d_M_init_59 : decode b_M_init 59 = .ok (.sipush 384, 3) := by decide +kernel
theorem d_M_init_62 : decode b_M_init 62 = .ok (.newarray .boolean, 2) := by decide +kernel
theorem d_M_init_64 : decode b_M_init 64 = .ok (.putfield 29, 3) := by decide +kernel
theorem d_M_init_67 : decode b_M_init 67 = .ok (.aload_n 0, 1) := by decide +kernel
theorem d_M_init_68 : decode b_M_init 68 = .ok (.sipush 384, 3) := by decide +kernel
theorem d_M_init_71 : decode b_M_init 71 = .ok (.newarray .boolean, 2) := by decide +kernel
theorem d_M_init_73 : decode b_M_init 73 = .ok (.putfield 32, 3) := by decide +kernel
theorem d_M_init_76 : decode b_M_init 76 = .ok (.aload_n 0, 1) := by decide +kernel
theorem d_M_init_77 : decode b_M_init 77 = .ok (.sipush 384, 3) := by decide +kernel
theorem d_M_init_80 : decode b_M_init 80 = .ok (.newarray .boolean, 2) := by decide +kernel
theorem d_M_init_82 : decode b_M_init 82 = .ok (.putfield 35, 3) := by decide +kernel
theorem d_M_init_85 : decode b_M_init 85 = .ok (.aload_n 0, 1) := by decide +kernel
theorem d_M_init_86 : decode b_M_init 86 = .ok (.iconst 5, 1) := by decide +kernel
theorem d_M_init_87 : decode b_M_init 87 = .ok (.newarray .int, 2) := by decide +kernel
theorem d_M_init_89 : decode b_M_init 89 = .ok (.putfield 38, 3) := by decide +kernel
theorem d_M_init_92 : decode b_M_init 92 = .ok (.return_, 1) := by decide +kernel
def fs_M : List Value := [.null, .null, .null, .null, .null, .null, .null, .null, .null, .int (Int32.ofInt 0), .int (Int32.ofInt 0), .int (Int32.ofInt 0), .int (Int32.ofInt 0), .null]
def jc_PM (σ : jm_S) : Prop := mw_I σ ∧ bw_abs σ = bw_a0 ∧ ∀ j, 0 ≤ j → j < 5 → σ 13 j = 0
theorem jc_z_M : jm_okS D_M jc_z := by
  intro k i _ _
  unfold D_M jc_z
  split <;> decide
def jc_k_M : List jm_I := [(92, .return_, 93, [])]
theorem jc_ck_M : jm_chk b_M_init jc_k_M = true := by decide +kernel
theorem jc_ok_M : jm_Ok D_M fi_M (jm_look []) jc_k_M none (fun _ σ => jc_PM σ) 92 [some (.inr none)] [] jc_z := by
  refine jm_Ok.go 10 [] ?_
  refine ⟨⟨fun q => ?_, fun q => ?_, fun q => ?_⟩, bw_abs_z (fun _ _ => rfl) (fun _ _ => rfl), fun _ _ _ => rfl⟩
  · exact absurd q (by decide)
  · exact absurd q (by decide)
  · exact absurd q (by decide)
set_option maxHeartbeats 8000000 in
set_option maxRecDepth 100000 in
theorem con_M_init (l : Launch) (G : va_G) (o sz : Nat) : Met l y_M_init (.code y_M_init b_M_init 1 none :: lw_g) ({ frames := 1, cells := 10, slots := 3461, locals := 40 }) (va_Pc [.ref o] (fun U => U.heap.size = sz ∧ va_P G classes [(o, .inr (1, fs_M))] U.heap ∧ va_K G classes [] U ∧ va_D (fun _ => True) [(o, .inr (1, fs_M))])) (jc_Q G D_M 14 ks_M 1 o (va_A [(o, .inr (1, fs_M))] sz) jc_PM) 10 3461 (va_A [(o, .inr (1, fs_M))] sz) := by
  refine Met.ofW (cc := b_M_init) (maxL := 1) (ret := none) (by decide) rfl ?_
  intro p e s m args below meth c s₁ B hml hv
  obtain ⟨rfl, hsz, hP, hK, hD0⟩ := hv
  have hx := B.exec
  have hb := B.bytes
  have hr := B.returns
  have hts0 := atoms_spec (ws := .code y_M_init b_M_init 1 none :: lw_g) B.pre
  have hts : ∀ w ∈ lw_g, w.before ([.ref o] : List Value).toArray s = true := fun w hw => hts0 w (List.mem_cons_of_mem _ hw)
  have hown : s.vm.findClass R_M = some m.cls := findClass_of_methodNamed B.named
  have hlocks := B.notSynchronized
  have hin : meth.name = "<init>" := (name_of_methodNamed B.named B.method).1
  subst hsz
  have hD := hD0.self (sz := s.heap.size)
  generalize hAe : va_A [(o, .inr (1, fs_M))] s.heap.size = A at hD ⊢
  have hA : ∀ q : Nat, s.heap.size ≤ q → A q := fun q h => by rw [← hAe]; exact Or.inr h
  have hS : va_S A s.heap s.heap [] := va_S.rf
  have hl := lv_entry ([.ref o]) (n := 1) (Nat.le_of_ble_eq_true rfl)
  rw [lg_entry_eq]
  generalize (lg_sl ([.ref o]) ++ List.replicate (1 - (lg_sl ([.ref o])).length) Slot.unset).toArray = ls at hl ⊢
  have hl : lv_has ls 1 [(0, .ref o)] := hl
  refine lv_aload_n hx hb d_M_init_0 rfl (lv_at hl 0 rfl) ?_
  refine W.objInit hx hb hown (hts _ jc_oi_M) (hts _ jc_o1) (hts _ jc_o2) rfl (by rw [hml]; exact hl.1) rfl d_M_init_1 (Nat.le_of_ble_eq_true rfl) (Nat.le_of_ble_eq_true rfl) ?_
  refine W.eq (g2 := F0 m 4 ls []) rfl ?_
  refine lv_aload_n hx hb d_M_init_4 rfl (lv_at hl 0 rfl) ?_
  refine lv_sipush (v := nI 384) hx hb d_M_init_5 (by decide) ?_
  refine jc_step (et := .int) hx hb hts CF_M hown hin hA 0 7 384 rfl jc_a_int rfl rfl (by decide +kernel) (by decide) (by decide) (Nat.le_of_ble_eq_true rfl) (show 0 + 1 ≤ 10 by decide) (show 0 + 384 ≤ 3461 by decide) d_M_init_8 d_M_init_10 hK hP hD hS (fun q0 c0 H locs hK hP hD hS => ?_)
  have hP : va_P G classes [(o, .inr (1, [.ref q0, .null, .null, .null, .null, .null, .null, .null, .null, .int (Int32.ofInt 0), .int (Int32.ofInt 0), .int (Int32.ofInt 0), .int (Int32.ofInt 0), .null])), (q0, .inl (c0, 384, .inl fun _ => Int32.ofInt 0))] H := hP
  have hD : va_D A [(o, .inr (1, [.ref q0, .null, .null, .null, .null, .null, .null, .null, .null, .int (Int32.ofInt 0), .int (Int32.ofInt 0), .int (Int32.ofInt 0), .int (Int32.ofInt 0), .null])), (q0, .inl (c0, 384, .inl fun _ => Int32.ofInt 0))] := hD
  have hK : va_K G classes [(c0, .int)] s := hK
  refine W.widen (k := 1) (n := 384) (by omega) (by omega) ?_
  refine lv_aload_n hx hb d_M_init_13 rfl (lv_at hl 0 rfl) ?_
  refine lv_sipush (v := nI 384) hx hb d_M_init_14 (by decide) ?_
  refine jc_step (et := .int) hx hb hts CF_M hown hin hA 1 13 384 rfl jc_a_int rfl rfl (by decide +kernel) (by decide) (by decide) (Nat.le_of_ble_eq_true rfl) (show 1 + 1 ≤ 10 by decide) (show 384 + 384 ≤ 3461 by decide) d_M_init_17 d_M_init_19 hK hP hD hS (fun q1 c1 H locs hK hP hD hS => ?_)
  have hP : va_P G classes [(o, .inr (1, [.ref q0, .ref q1, .null, .null, .null, .null, .null, .null, .null, .int (Int32.ofInt 0), .int (Int32.ofInt 0), .int (Int32.ofInt 0), .int (Int32.ofInt 0), .null])), (q0, .inl (c0, 384, .inl fun _ => Int32.ofInt 0)), (q1, .inl (c1, 384, .inl fun _ => Int32.ofInt 0))] H := hP
  have hD : va_D A [(o, .inr (1, [.ref q0, .ref q1, .null, .null, .null, .null, .null, .null, .null, .int (Int32.ofInt 0), .int (Int32.ofInt 0), .int (Int32.ofInt 0), .int (Int32.ofInt 0), .null])), (q0, .inl (c0, 384, .inl fun _ => Int32.ofInt 0)), (q1, .inl (c1, 384, .inl fun _ => Int32.ofInt 0))] := hD
  have hK : va_K G classes [(c0, .int), (c1, .int)] s := hK
  refine W.widen (k := 2) (n := 768) (by omega) (by omega) ?_
  refine lv_aload_n hx hb d_M_init_22 rfl (lv_at hl 0 rfl) ?_
  refine lv_sipush (v := nI 384) hx hb d_M_init_23 (by decide) ?_
  refine jc_step (et := .boolean) hx hb hts CF_M hown hin hA 2 16 384 rfl jc_a_boolean rfl rfl (by decide +kernel) (by decide) (by decide) (Nat.le_of_ble_eq_true rfl) (show 2 + 1 ≤ 10 by decide) (show 768 + 384 ≤ 3461 by decide) d_M_init_26 d_M_init_28 hK hP hD hS (fun q2 c2 H locs hK hP hD hS => ?_)
  have hP : va_P G classes [(o, .inr (1, [.ref q0, .ref q1, .ref q2, .null, .null, .null, .null, .null, .null, .int (Int32.ofInt 0), .int (Int32.ofInt 0), .int (Int32.ofInt 0), .int (Int32.ofInt 0), .null])), (q0, .inl (c0, 384, .inl fun _ => Int32.ofInt 0)), (q1, .inl (c1, 384, .inl fun _ => Int32.ofInt 0)), (q2, .inl (c2, 384, .inl fun _ => Int32.ofInt 0))] H := hP
  have hD : va_D A [(o, .inr (1, [.ref q0, .ref q1, .ref q2, .null, .null, .null, .null, .null, .null, .int (Int32.ofInt 0), .int (Int32.ofInt 0), .int (Int32.ofInt 0), .int (Int32.ofInt 0), .null])), (q0, .inl (c0, 384, .inl fun _ => Int32.ofInt 0)), (q1, .inl (c1, 384, .inl fun _ => Int32.ofInt 0)), (q2, .inl (c2, 384, .inl fun _ => Int32.ofInt 0))] := hD
  have hK : va_K G classes [(c0, .int), (c1, .int), (c2, .boolean)] s := hK
  refine W.widen (k := 3) (n := 1152) (by omega) (by omega) ?_
  refine lv_aload_n hx hb d_M_init_31 rfl (lv_at hl 0 rfl) ?_
  refine lv_sipush (v := nI 384) hx hb d_M_init_32 (by decide) ?_
  refine jc_step (et := .int) hx hb hts CF_M hown hin hA 3 20 384 rfl jc_a_int rfl rfl (by decide +kernel) (by decide) (by decide) (Nat.le_of_ble_eq_true rfl) (show 3 + 1 ≤ 10 by decide) (show 1152 + 384 ≤ 3461 by decide) d_M_init_35 d_M_init_37 hK hP hD hS (fun q3 c3 H locs hK hP hD hS => ?_)
  have hP : va_P G classes [(o, .inr (1, [.ref q0, .ref q1, .ref q2, .ref q3, .null, .null, .null, .null, .null, .int (Int32.ofInt 0), .int (Int32.ofInt 0), .int (Int32.ofInt 0), .int (Int32.ofInt 0), .null])), (q0, .inl (c0, 384, .inl fun _ => Int32.ofInt 0)), (q1, .inl (c1, 384, .inl fun _ => Int32.ofInt 0)), (q2, .inl (c2, 384, .inl fun _ => Int32.ofInt 0)), (q3, .inl (c3, 384, .inl fun _ => Int32.ofInt 0))] H := hP
  have hD : va_D A [(o, .inr (1, [.ref q0, .ref q1, .ref q2, .ref q3, .null, .null, .null, .null, .null, .int (Int32.ofInt 0), .int (Int32.ofInt 0), .int (Int32.ofInt 0), .int (Int32.ofInt 0), .null])), (q0, .inl (c0, 384, .inl fun _ => Int32.ofInt 0)), (q1, .inl (c1, 384, .inl fun _ => Int32.ofInt 0)), (q2, .inl (c2, 384, .inl fun _ => Int32.ofInt 0)), (q3, .inl (c3, 384, .inl fun _ => Int32.ofInt 0))] := hD
  have hK : va_K G classes [(c0, .int), (c1, .int), (c2, .boolean), (c3, .int)] s := hK
  refine W.widen (k := 4) (n := 1536) (by omega) (by omega) ?_
  refine lv_aload_n hx hb d_M_init_40 rfl (lv_at hl 0 rfl) ?_
  refine lv_sipush (v := nI 384) hx hb d_M_init_41 (by decide) ?_
  refine jc_step (et := .int) hx hb hts CF_M hown hin hA 4 23 384 rfl jc_a_int rfl rfl (by decide +kernel) (by decide) (by decide) (Nat.le_of_ble_eq_true rfl) (show 4 + 1 ≤ 10 by decide) (show 1536 + 384 ≤ 3461 by decide) d_M_init_44 d_M_init_46 hK hP hD hS (fun q4 c4 H locs hK hP hD hS => ?_)
  have hP : va_P G classes [(o, .inr (1, [.ref q0, .ref q1, .ref q2, .ref q3, .ref q4, .null, .null, .null, .null, .int (Int32.ofInt 0), .int (Int32.ofInt 0), .int (Int32.ofInt 0), .int (Int32.ofInt 0), .null])), (q0, .inl (c0, 384, .inl fun _ => Int32.ofInt 0)), (q1, .inl (c1, 384, .inl fun _ => Int32.ofInt 0)), (q2, .inl (c2, 384, .inl fun _ => Int32.ofInt 0)), (q3, .inl (c3, 384, .inl fun _ => Int32.ofInt 0)), (q4, .inl (c4, 384, .inl fun _ => Int32.ofInt 0))] H := hP
  have hD : va_D A [(o, .inr (1, [.ref q0, .ref q1, .ref q2, .ref q3, .ref q4, .null, .null, .null, .null, .int (Int32.ofInt 0), .int (Int32.ofInt 0), .int (Int32.ofInt 0), .int (Int32.ofInt 0), .null])), (q0, .inl (c0, 384, .inl fun _ => Int32.ofInt 0)), (q1, .inl (c1, 384, .inl fun _ => Int32.ofInt 0)), (q2, .inl (c2, 384, .inl fun _ => Int32.ofInt 0)), (q3, .inl (c3, 384, .inl fun _ => Int32.ofInt 0)), (q4, .inl (c4, 384, .inl fun _ => Int32.ofInt 0))] := hD
  have hK : va_K G classes [(c0, .int), (c1, .int), (c2, .boolean), (c3, .int), (c4, .int)] s := hK
  refine W.widen (k := 5) (n := 1920) (by omega) (by omega) ?_
  refine lv_aload_n hx hb d_M_init_49 rfl (lv_at hl 0 rfl) ?_
  refine lv_sipush (v := nI 384) hx hb d_M_init_50 (by decide) ?_
  refine jc_step (et := .int) hx hb hts CF_M hown hin hA 5 26 384 rfl jc_a_int rfl rfl (by decide +kernel) (by decide) (by decide) (Nat.le_of_ble_eq_true rfl) (show 5 + 1 ≤ 10 by decide) (show 1920 + 384 ≤ 3461 by decide) d_M_init_53 d_M_init_55 hK hP hD hS (fun q5 c5 H locs hK hP hD hS => ?_)
  have hP : va_P G classes [(o, .inr (1, [.ref q0, .ref q1, .ref q2, .ref q3, .ref q4, .ref q5, .null, .null, .null, .int (Int32.ofInt 0), .int (Int32.ofInt 0), .int (Int32.ofInt 0), .int (Int32.ofInt 0), .null])), (q0, .inl (c0, 384, .inl fun _ => Int32.ofInt 0)), (q1, .inl (c1, 384, .inl fun _ => Int32.ofInt 0)), (q2, .inl (c2, 384, .inl fun _ => Int32.ofInt 0)), (q3, .inl (c3, 384, .inl fun _ => Int32.ofInt 0)), (q4, .inl (c4, 384, .inl fun _ => Int32.ofInt 0)), (q5, .inl (c5, 384, .inl fun _ => Int32.ofInt 0))] H := hP
  have hD : va_D A [(o, .inr (1, [.ref q0, .ref q1, .ref q2, .ref q3, .ref q4, .ref q5, .null, .null, .null, .int (Int32.ofInt 0), .int (Int32.ofInt 0), .int (Int32.ofInt 0), .int (Int32.ofInt 0), .null])), (q0, .inl (c0, 384, .inl fun _ => Int32.ofInt 0)), (q1, .inl (c1, 384, .inl fun _ => Int32.ofInt 0)), (q2, .inl (c2, 384, .inl fun _ => Int32.ofInt 0)), (q3, .inl (c3, 384, .inl fun _ => Int32.ofInt 0)), (q4, .inl (c4, 384, .inl fun _ => Int32.ofInt 0)), (q5, .inl (c5, 384, .inl fun _ => Int32.ofInt 0))] := hD
  have hK : va_K G classes [(c0, .int), (c1, .int), (c2, .boolean), (c3, .int), (c4, .int), (c5, .int)] s := hK
  refine W.widen (k := 6) (n := 2304) (by omega) (by omega) ?_
  refine lv_aload_n hx hb d_M_init_58 rfl (lv_at hl 0 rfl) ?_
  refine lv_sipush (v := nI 384) hx hb d_M_init_59 (by decide) ?_
  refine jc_step (et := .boolean) hx hb hts CF_M hown hin hA 6 29 384 rfl jc_a_boolean rfl rfl (by decide +kernel) (by decide) (by decide) (Nat.le_of_ble_eq_true rfl) (show 6 + 1 ≤ 10 by decide) (show 2304 + 384 ≤ 3461 by decide) d_M_init_62 d_M_init_64 hK hP hD hS (fun q6 c6 H locs hK hP hD hS => ?_)
  have hP : va_P G classes [(o, .inr (1, [.ref q0, .ref q1, .ref q2, .ref q3, .ref q4, .ref q5, .ref q6, .null, .null, .int (Int32.ofInt 0), .int (Int32.ofInt 0), .int (Int32.ofInt 0), .int (Int32.ofInt 0), .null])), (q0, .inl (c0, 384, .inl fun _ => Int32.ofInt 0)), (q1, .inl (c1, 384, .inl fun _ => Int32.ofInt 0)), (q2, .inl (c2, 384, .inl fun _ => Int32.ofInt 0)), (q3, .inl (c3, 384, .inl fun _ => Int32.ofInt 0)), (q4, .inl (c4, 384, .inl fun _ => Int32.ofInt 0)), (q5, .inl (c5, 384, .inl fun _ => Int32.ofInt 0)), (q6, .inl (c6, 384, .inl fun _ => Int32.ofInt 0))] H := hP
  have hD : va_D A [(o, .inr (1, [.ref q0, .ref q1, .ref q2, .ref q3, .ref q4, .ref q5, .ref q6, .null, .null, .int (Int32.ofInt 0), .int (Int32.ofInt 0), .int (Int32.ofInt 0), .int (Int32.ofInt 0), .null])), (q0, .inl (c0, 384, .inl fun _ => Int32.ofInt 0)), (q1, .inl (c1, 384, .inl fun _ => Int32.ofInt 0)), (q2, .inl (c2, 384, .inl fun _ => Int32.ofInt 0)), (q3, .inl (c3, 384, .inl fun _ => Int32.ofInt 0)), (q4, .inl (c4, 384, .inl fun _ => Int32.ofInt 0)), (q5, .inl (c5, 384, .inl fun _ => Int32.ofInt 0)), (q6, .inl (c6, 384, .inl fun _ => Int32.ofInt 0))] := hD
  have hK : va_K G classes [(c0, .int), (c1, .int), (c2, .boolean), (c3, .int), (c4, .int), (c5, .int), (c6, .boolean)] s := hK
  refine W.widen (k := 7) (n := 2688) (by omega) (by omega) ?_
  refine lv_aload_n hx hb d_M_init_67 rfl (lv_at hl 0 rfl) ?_
  refine lv_sipush (v := nI 384) hx hb d_M_init_68 (by decide) ?_
  refine jc_step (et := .boolean) hx hb hts CF_M hown hin hA 7 32 384 rfl jc_a_boolean rfl rfl (by decide +kernel) (by decide) (by decide) (Nat.le_of_ble_eq_true rfl) (show 7 + 1 ≤ 10 by decide) (show 2688 + 384 ≤ 3461 by decide) d_M_init_71 d_M_init_73 hK hP hD hS (fun q7 c7 H locs hK hP hD hS => ?_)
  have hP : va_P G classes [(o, .inr (1, [.ref q0, .ref q1, .ref q2, .ref q3, .ref q4, .ref q5, .ref q6, .ref q7, .null, .int (Int32.ofInt 0), .int (Int32.ofInt 0), .int (Int32.ofInt 0), .int (Int32.ofInt 0), .null])), (q0, .inl (c0, 384, .inl fun _ => Int32.ofInt 0)), (q1, .inl (c1, 384, .inl fun _ => Int32.ofInt 0)), (q2, .inl (c2, 384, .inl fun _ => Int32.ofInt 0)), (q3, .inl (c3, 384, .inl fun _ => Int32.ofInt 0)), (q4, .inl (c4, 384, .inl fun _ => Int32.ofInt 0)), (q5, .inl (c5, 384, .inl fun _ => Int32.ofInt 0)), (q6, .inl (c6, 384, .inl fun _ => Int32.ofInt 0)), (q7, .inl (c7, 384, .inl fun _ => Int32.ofInt 0))] H := hP
  have hD : va_D A [(o, .inr (1, [.ref q0, .ref q1, .ref q2, .ref q3, .ref q4, .ref q5, .ref q6, .ref q7, .null, .int (Int32.ofInt 0), .int (Int32.ofInt 0), .int (Int32.ofInt 0), .int (Int32.ofInt 0), .null])), (q0, .inl (c0, 384, .inl fun _ => Int32.ofInt 0)), (q1, .inl (c1, 384, .inl fun _ => Int32.ofInt 0)), (q2, .inl (c2, 384, .inl fun _ => Int32.ofInt 0)), (q3, .inl (c3, 384, .inl fun _ => Int32.ofInt 0)), (q4, .inl (c4, 384, .inl fun _ => Int32.ofInt 0)), (q5, .inl (c5, 384, .inl fun _ => Int32.ofInt 0)), (q6, .inl (c6, 384, .inl fun _ => Int32.ofInt 0)), (q7, .inl (c7, 384, .inl fun _ => Int32.ofInt 0))] := hD
  have hK : va_K G classes [(c0, .int), (c1, .int), (c2, .boolean), (c3, .int), (c4, .int), (c5, .int), (c6, .boolean), (c7, .boolean)] s := hK
  refine W.widen (k := 8) (n := 3072) (by omega) (by omega) ?_
  refine lv_aload_n hx hb d_M_init_76 rfl (lv_at hl 0 rfl) ?_
  refine lv_sipush (v := nI 384) hx hb d_M_init_77 (by decide) ?_
  refine jc_step (et := .boolean) hx hb hts CF_M hown hin hA 8 35 384 rfl jc_a_boolean rfl rfl (by decide +kernel) (by decide) (by decide) (Nat.le_of_ble_eq_true rfl) (show 8 + 1 ≤ 10 by decide) (show 3072 + 384 ≤ 3461 by decide) d_M_init_80 d_M_init_82 hK hP hD hS (fun q8 c8 H locs hK hP hD hS => ?_)
  have hP : va_P G classes [(o, .inr (1, [.ref q0, .ref q1, .ref q2, .ref q3, .ref q4, .ref q5, .ref q6, .ref q7, .ref q8, .int (Int32.ofInt 0), .int (Int32.ofInt 0), .int (Int32.ofInt 0), .int (Int32.ofInt 0), .null])), (q0, .inl (c0, 384, .inl fun _ => Int32.ofInt 0)), (q1, .inl (c1, 384, .inl fun _ => Int32.ofInt 0)), (q2, .inl (c2, 384, .inl fun _ => Int32.ofInt 0)), (q3, .inl (c3, 384, .inl fun _ => Int32.ofInt 0)), (q4, .inl (c4, 384, .inl fun _ => Int32.ofInt 0)), (q5, .inl (c5, 384, .inl fun _ => Int32.ofInt 0)), (q6, .inl (c6, 384, .inl fun _ => Int32.ofInt 0)), (q7, .inl (c7, 384, .inl fun _ => Int32.ofInt 0)), (q8, .inl (c8, 384, .inl fun _ => Int32.ofInt 0))] H := hP
  have hD : va_D A [(o, .inr (1, [.ref q0, .ref q1, .ref q2, .ref q3, .ref q4, .ref q5, .ref q6, .ref q7, .ref q8, .int (Int32.ofInt 0), .int (Int32.ofInt 0), .int (Int32.ofInt 0), .int (Int32.ofInt 0), .null])), (q0, .inl (c0, 384, .inl fun _ => Int32.ofInt 0)), (q1, .inl (c1, 384, .inl fun _ => Int32.ofInt 0)), (q2, .inl (c2, 384, .inl fun _ => Int32.ofInt 0)), (q3, .inl (c3, 384, .inl fun _ => Int32.ofInt 0)), (q4, .inl (c4, 384, .inl fun _ => Int32.ofInt 0)), (q5, .inl (c5, 384, .inl fun _ => Int32.ofInt 0)), (q6, .inl (c6, 384, .inl fun _ => Int32.ofInt 0)), (q7, .inl (c7, 384, .inl fun _ => Int32.ofInt 0)), (q8, .inl (c8, 384, .inl fun _ => Int32.ofInt 0))] := hD
  have hK : va_K G classes [(c0, .int), (c1, .int), (c2, .boolean), (c3, .int), (c4, .int), (c5, .int), (c6, .boolean), (c7, .boolean), (c8, .boolean)] s := hK
  refine W.widen (k := 9) (n := 3456) (by omega) (by omega) ?_
  refine lv_aload_n hx hb d_M_init_85 rfl (lv_at hl 0 rfl) ?_
  refine lv_iconst (v := nI 5) hx hb d_M_init_86 (by decide) ?_
  refine jc_step (et := .int) hx hb hts CF_M hown hin hA 13 38 5 rfl jc_a_int rfl rfl (by decide +kernel) (by decide) (by decide) (Nat.le_of_ble_eq_true rfl) (show 9 + 1 ≤ 10 by decide) (show 3456 + 5 ≤ 3461 by decide) d_M_init_87 d_M_init_89 hK hP hD hS (fun q13 c13 H locs hK hP hD hS => ?_)
  have hP : va_P G classes [(o, .inr (1, [.ref q0, .ref q1, .ref q2, .ref q3, .ref q4, .ref q5, .ref q6, .ref q7, .ref q8, .int (Int32.ofInt 0), .int (Int32.ofInt 0), .int (Int32.ofInt 0), .int (Int32.ofInt 0), .ref q13])), (q0, .inl (c0, 384, .inl fun _ => Int32.ofInt 0)), (q1, .inl (c1, 384, .inl fun _ => Int32.ofInt 0)), (q2, .inl (c2, 384, .inl fun _ => Int32.ofInt 0)), (q3, .inl (c3, 384, .inl fun _ => Int32.ofInt 0)), (q4, .inl (c4, 384, .inl fun _ => Int32.ofInt 0)), (q5, .inl (c5, 384, .inl fun _ => Int32.ofInt 0)), (q6, .inl (c6, 384, .inl fun _ => Int32.ofInt 0)), (q7, .inl (c7, 384, .inl fun _ => Int32.ofInt 0)), (q8, .inl (c8, 384, .inl fun _ => Int32.ofInt 0)), (q13, .inl (c13, 5, .inl fun _ => Int32.ofInt 0))] H := hP
  have hD : va_D A [(o, .inr (1, [.ref q0, .ref q1, .ref q2, .ref q3, .ref q4, .ref q5, .ref q6, .ref q7, .ref q8, .int (Int32.ofInt 0), .int (Int32.ofInt 0), .int (Int32.ofInt 0), .int (Int32.ofInt 0), .ref q13])), (q0, .inl (c0, 384, .inl fun _ => Int32.ofInt 0)), (q1, .inl (c1, 384, .inl fun _ => Int32.ofInt 0)), (q2, .inl (c2, 384, .inl fun _ => Int32.ofInt 0)), (q3, .inl (c3, 384, .inl fun _ => Int32.ofInt 0)), (q4, .inl (c4, 384, .inl fun _ => Int32.ofInt 0)), (q5, .inl (c5, 384, .inl fun _ => Int32.ofInt 0)), (q6, .inl (c6, 384, .inl fun _ => Int32.ofInt 0)), (q7, .inl (c7, 384, .inl fun _ => Int32.ofInt 0)), (q8, .inl (c8, 384, .inl fun _ => Int32.ofInt 0)), (q13, .inl (c13, 5, .inl fun _ => Int32.ofInt 0))] := hD
  have hK : va_K G classes [(c0, .int), (c1, .int), (c2, .boolean), (c3, .int), (c4, .int), (c5, .int), (c6, .boolean), (c7, .boolean), (c8, .boolean), (c13, .int)] s := hK
  refine W.widen (k := 10) (n := 3461) (by omega) (by omega) ?_
  obtain ⟨ad, had⟩ : ∃ ad : Nat → Nat, ad 0 = q0 ∧ ad 1 = q1 ∧ ad 2 = q2 ∧ ad 3 = q3 ∧ ad 4 = q4 ∧ ad 5 = q5 ∧ ad 6 = q6 ∧ ad 7 = q7 ∧ ad 8 = q8 ∧ ad 13 = q13 := ⟨fun k => match k with | 0 => q0 | 1 => q1 | 2 => q2 | 3 => q3 | 4 => q4 | 5 => q5 | 6 => q6 | 7 => q7 | 8 => q8 | 13 => q13 | _ => 0, rfl, rfl, rfl, rfl, rfl, rfl, rfl, rfl, rfl, rfl⟩
  obtain ⟨cA, hcA⟩ : ∃ cA : Nat → ClassId, cA 0 = c0 ∧ cA 1 = c1 ∧ cA 2 = c2 ∧ cA 3 = c3 ∧ cA 4 = c4 ∧ cA 5 = c5 ∧ cA 6 = c6 ∧ cA 7 = c7 ∧ cA 8 = c8 ∧ cA 13 = c13 := ⟨fun k => match k with | 0 => c0 | 1 => c1 | 2 => c2 | 3 => c3 | 4 => c4 | 5 => c5 | 6 => c6 | 7 => c7 | 8 => c8 | 13 => c13 | _ => c0, rfl, rfl, rfl, rfl, rfl, rfl, rfl, rfl, rfl, rfl⟩
  obtain ⟨rfl, rfl, rfl, rfl, rfl, rfl, rfl, rfl, rfl, rfl⟩ := had
  obtain ⟨rfl, rfl, rfl, rfl, rfl, rfl, rfl, rfl, rfl, rfl⟩ := hcA
  have hP : va_P G classes (jm_pic D_M 14 ks_M 1 o ad cA jc_z) H := hP
  have hD : va_D A (jm_pic D_M 14 ks_M 1 o ad cA jc_z) := hD
  have hK : va_K G classes (jm_tys D_M ks_M cA) s := hK
  have key := jc_ok_M (jm_W p l e ({ frames := 1, cells := 10, slots := 3461, locals := 40 }) s m ([.ref o] : List Value).toArray below meth c (MQ below (jc_Q G D_M 14 ks_M 1 o A jc_PM) ([.ref o] : List Value).toArray s 10 3461 A) G classes D_M 14 ks_M 1 o ad cA A 1 10 3461)
    (fun en pc ls st σ' he hw => jm_sound (lv := 0) (T := F_M) (ty0 := t_M) (z := none) (rt := none) hx hb hml hr hlocks hown hts hK (fun τ => jm_pic_D hD) hA CF_M jc_ck_M (fun i sp h => by cases h) ⟨⟨Nat.zero_le _, Nat.zero_le _⟩, Nat.le_refl _, Nat.le_refl _⟩ rfl
      (fun v σ' H locs h1 h2 h3 h4 h5 t h6 h7 => ⟨⟨rfl, ad, cA, σ', ⟨h1, h3⟩, by rw [h6]; exact h4, va_K.moved h7.alike hK, jm_pic_D hD⟩, h5.F h6⟩) he hw)
  exact key rfl jc_z_M (fun i v hv => by rcases i with _ | _ | i <;> simp at hv <;> subst hv <;> trivial) (fun v hv => by cases hv) H locs ls hP hS ⟨hl.1, hl.2.1, fun i v hv => by rcases i with _ | _ | i <;> simp at hv <;> subst hv <;> exact hl.2.2 _ (List.mem_cons_self ..)⟩
end
section
/-! THE CLAIM OUT OF ONE WALK OF THE LAW'S BODY. Your part is whole_start (and what it stands on); all else here is the same for every law, but numbers. -/
def R_law : String := "BlockWorldLaw"
def lw_P (b : Addr) (xs : List Int32) (args : Array Value) (s : State) : Prop := args = #[.ref b] ∧ s.IntsAt b xs ∧ xs.length ≤ 4096 ∧ (Jvm.Cond.and given_1 narrow_1).before args s = true
def lw_Q (_ : Array Value) (s : State) (o : Outcome) (t : State) : Prop := o = .returned (some (.int 1)) ∧ Framed s o t [] 27 8947
def lw_Z (below : List Frame) (a : Array Value) (s : State) : State → Prop := fun t => ∃ o, t.status = .running ∧ Ended t below o ∧ lw_Q a s o t
/-- the law's own end, with 1 on the stack, nothing written that was there before, its room as the claim has it -/
theorem lw_ret {p : Program} {l : Launch} {e : Env} {s : State} {m : MethodId} {below : List Frame} {meth : Method} {c : Code} {b : Nat} (hx : p.tables.exec = Jvm.exec) (hb : c.code = code) (hr : meth.sig.returnType = ret) (hlocks : meth.locks = false) {pc : Nat} {H : Heap} {ls : Array Slot} (hdg : decode code pc = .ok (.ireturn, 1)) : W p l e room_1 s m #[Value.ref b] below meth c H [] 27 8947 (lw_Z below #[Value.ref b] s) (F0 m pc ls [.int 1]) := by
  intro T hT X
  obtain ⟨fs, hret, hrun, hended, hW, hframe⟩ := X.leave (v := some (.int 1)) (hlocks := hlocks) (fun h => by rw [hr] at h; cases h)
  have hmeth' : T.vm.method? m = some meth := X.method'
  refine ⟨T.setFrames fs, ?_, .returned (some (.int 1)), hrun, hended, rfl, ⟨_, rfl⟩, hW, hframe⟩
  jvm_step X.here [X.here.top, hx, hb, hdg, hmeth', hr, ret, narrow_b1]
  (try refine ⟨rfl, ?_⟩); (try refine ⟨rfl, ?_⟩)
  first | (intro acts; rw [hret _ acts rfl rfl rfl]) | rw [hret _ _ rfl rfl rfl]
  exact Steps.refl _
/-- what holds at the law's entry: the machine, the code, the tables' words (any of lw_tbl by 'hts w (by decide +kernel)'), the script of L ints xs at the cell b, what the Statement gives of the start (any of its parts by flat_of_before) -/
def lw_At (p : Program) (s : State) (m : MethodId) (meth : Method) (c : Code) (b L : Nat) (xs : Nat → Int32) : Prop :=
  p.tables.exec = Jvm.exec ∧ c.code = code ∧ meth.sig.returnType = ret ∧ c.maxLocals = 4 ∧ s.vm.findClass R_law = some m.cls ∧ (∀ w ∈ lw_tbl, w.before #[Value.ref b] s = true) ∧ va_X b L xs s s.heap ∧ b < s.heap.size ∧ meth.locks = false ∧ (Jvm.Cond.and given_1 narrow_1).before #[Value.ref b] s = true
end
section
/-! the coupling: component and reference have one abstract state; every command keeps it, with one answer -/
def lx_R (i : Nat) (σ τ : jm_S) : Prop := (jm_okS D_B σ ∧ jm_okS D_M τ) ∧ bw_K σ ∧ mw_I τ ∧ bw_abs σ = bw_abs τ ∧ ∀ j, 0 ≤ j → j < 5 → σ 14 j = τ 13 j ∧ σ 14 j ≤ 2400 * (i : Int)
theorem lx_R.ask {i : Nat} {σ τ σ' τ' : jm_S} (h : lx_R i σ τ) (h1 : jm_okS D_B σ') (h2 : jm_okS D_M τ') (hB : bw_Kp σ σ') (hM : mw_Kp τ τ') : lx_R (i + 8) σ' τ' := by
  obtain ⟨-, -, -, ha, hh⟩ := h
  refine ⟨⟨h1, h2⟩, hB.1, hM.1, by rw [hB.2.1, hM.2.1, ha], fun j a b => ?_⟩
  rw [hB.2.2, hM.2.2]
  have := hh j a b
  omega
theorem lx_R.same {i : Nat} {σ τ : jm_S} (h : lx_R i σ τ) : lx_R (i + 8) σ τ := h.ask h.1.1 h.1.2 (bw_Kp.rf h.2.1) (mw_Kp.rf h.2.2.1)
theorem lx_R.put {i : Nat} {σ τ σ' τ' : jm_S} (h : lx_R i σ τ) (h1 : jm_okS D_B σ') (h2 : jm_okS D_M τ') (hB : bw_K σ') (hM : mw_I τ') (ha : bw_abs σ' = bw_abs τ') (e1 : σ' 14 = σ 14) (e2 : τ' 13 = τ 13) : lx_R (i + 8) σ' τ' := by
  refine ⟨⟨h1, h2⟩, hB, hM, ha, fun j a b => ?_⟩
  rw [e1, e2]
  have := h.2.2.2.2 j a b
  omega
/-- a command of the law: of any state in the relation both may be asked; the answers agree and the relation holds behind it -/
def lx_C (sB sM : jm_K) : Prop := ∀ (i : Nat) (as : List Int) (σ τ : jm_S), as.length = sB.2.1 → i ≤ 4096 → lx_R i σ τ → sB.2.2.2.1 as σ ∧ sM.2.2.2.1 as τ ∧ ∀ (r r' : Int) (σ' τ' : jm_S), jm_okS D_B σ' → jm_okS D_M τ' → sB.2.2.2.2 as σ r σ' → sM.2.2.2.2 as τ r' τ' → r = r' ∧ lx_R (i + 8) σ' τ'
theorem lx_put : lx_C sp_B_put sp_M_put := by
  intro i as σ τ hl hi h
  obtain ⟨x, y, z, b, rfl⟩ := jm_a4 hl
  refine ⟨h.2.1, h.2.2.1, fun r r' σ' τ' h1 h2 hB hM => ?_⟩
  rcases hB with ⟨q1, q2, q3, q4, q5⟩ | ⟨q1, q2, q3⟩ <;> rcases hM with ⟨p1, p2, p3, p4, p5⟩ | ⟨p1, p2, p3⟩
  · exact ⟨by rw [q2, p2, h.2.2.2.1], h.put h1 h2 q3 p3 (by rw [q4, p4, h.2.2.2.1]) q5 p5⟩
  · exact absurd q1 p1
  · exact absurd p1 q1
  · exact ⟨by rw [q2, p2], by rw [q3, p3]; exact h.same⟩
theorem lx_fill : lx_C sp_B_fill sp_M_fill := by
  intro i as σ τ hl hi h
  obtain ⟨x, y, z, u, v, w, b, rfl⟩ := jm_a7 hl
  refine ⟨h.2.1, h.2.2.1, fun r r' σ' τ' h1 h2 hB hM => ?_⟩
  rcases hB with ⟨q1, q2, q3, q4, q5⟩ | ⟨q1, q2, q3⟩ <;> rcases hM with ⟨p1, p2, p3, p4, p5⟩ | ⟨p1, p2, p3⟩
  · exact ⟨by rw [q2, p2, h.2.2.2.1], h.put h1 h2 q3 p3 (by rw [q4, p4, h.2.2.2.1]) q5 p5⟩
  · exact absurd q1 p1
  · exact absurd p1 q1
  · exact ⟨by rw [q2, p2], by rw [q3, p3]; exact h.same⟩
theorem lx_tick : lx_C sp_B_tick sp_M_tick := by
  intro i as σ τ hl hi h
  obtain ⟨n, rfl⟩ := jm_a1 hl
  have hh := h.2.2.2.2
  refine ⟨⟨h.2.1, fun j a b => by have := hh j a b; omega⟩, ⟨h.2.2.1, fun j a b => by have := hh j a b; omega⟩, fun r r' σ' τ' h1 h2 hB hM => ?_⟩
  rcases hB with ⟨q0, q1, q2, q3, q4, q5, q6, q7, q8⟩ | ⟨q1, q2, q3⟩ <;> rcases hM with ⟨p0, p1, p2, p3, p4, p5, p6, p7, p8⟩ | ⟨p1, p2, p3⟩
  · rw [← h.2.2.2.1] at p1 p3 p4 p5 p6 p7 p8
    have hr := bw_tk_rg n.toNat (bw_abs σ)
    refine ⟨by rw [q1, p1], ⟨h1, h2⟩, q2, p2, by rw [q3, p3], fun j a b => ?_⟩
    have hj : j = 0 ∨ j = 1 ∨ j = 2 ∨ j = 3 ∨ j = 4 := by omega
    have g := hh j a b
    rcases hj with rfl | rfl | rfl | rfl | rfl <;> omega
  · exact absurd q0 p1
  · exact absurd p0 q1
  · exact ⟨by rw [q2, p2], by rw [q3, p3]; exact h.same⟩
theorem lx_block : lx_C sp_B_block sp_M_block := by
  intro i as σ τ hl hi h
  obtain ⟨c, rfl⟩ := jm_a1 hl
  refine ⟨h.2.1, h.2.2.1, fun r r' σ' τ' h1 h2 hB hM => ?_⟩
  obtain ⟨q1, q2⟩ := hB
  obtain ⟨p1, p2⟩ := hM
  exact ⟨by rw [q1, p1, h.2.2.2.1], h.ask h1 h2 q2 p2⟩
theorem lx_light : lx_C sp_B_light sp_M_light := by
  intro i as σ τ hl hi h
  obtain ⟨c, rfl⟩ := jm_a1 hl
  refine ⟨h.2.1, h.2.2.1, fun r r' σ' τ' h1 h2 hB hM => ?_⟩
  obtain ⟨q1, q2⟩ := hB
  obtain ⟨p1, p2⟩ := hM
  exact ⟨by rw [q1, p1, h.2.2.2.1], h.ask h1 h2 q2 p2⟩
theorem lx_sky : lx_C sp_B_sky sp_M_sky := by
  intro i as σ τ hl hi h
  obtain ⟨c, rfl⟩ := jm_a1 hl
  refine ⟨h.2.1, h.2.2.1, fun r r' σ' τ' h1 h2 hB hM => ?_⟩
  obtain ⟨q1, q2⟩ := hB
  obtain ⟨p1, p2⟩ := hM
  exact ⟨by rw [q1, p1, h.2.2.2.1], h.ask h1 h2 q2 p2⟩
theorem lx_power : lx_C sp_B_power sp_M_power := by
  intro i as σ τ hl hi h
  obtain ⟨c, rfl⟩ := jm_a1 hl
  refine ⟨h.2.1, h.2.2.1, fun r r' σ' τ' h1 h2 hB hM => ?_⟩
  obtain ⟨q1, q2⟩ := hB
  obtain ⟨p1, p2⟩ := hM
  exact ⟨by rw [q1, p1, h.2.2.2.1], h.ask h1 h2 q2 p2⟩
theorem lx_fed : lx_C sp_B_fed sp_M_fed := by
  intro i as σ τ hl hi h
  obtain ⟨c, rfl⟩ := jm_a1 hl
  refine ⟨h.2.1, h.2.2.1, fun r r' σ' τ' h1 h2 hB hM => ?_⟩
  obtain ⟨q1, q2⟩ := hB
  obtain ⟨p1, p2⟩ := hM
  rw [← h.2.2.2.1] at p1
  refine ⟨?_, h.ask h1 h2 q2 p2⟩
  rcases q1 with ⟨a1, a2⟩ | ⟨a1, a2⟩ <;> rcases p1 with ⟨b1, b2⟩ | ⟨b1, b2⟩
  · omega
  · exact absurd a2 b2
  · exact absurd b2 a2
  · omega
theorem lx_since : lx_C sp_B_since sp_M_since := by
  intro i as σ τ hl hi h
  obtain ⟨w, rfl⟩ := jm_a1 hl
  refine ⟨h.2.1, h.2.2.1, fun r r' σ' τ' h1 h2 hB hM => ?_⟩
  obtain ⟨q1, q2⟩ := hB
  obtain ⟨p1, p2⟩ := hM
  refine ⟨?_, h.ask h1 h2 q2 p2⟩
  rw [q1, p1]
  by_cases hw : 0 ≤ w ∧ w < 5
  · rw [if_pos hw, if_pos hw]; exact (h.2.2.2.2 w hw.1 hw.2).1
  · rw [if_neg hw, if_neg hw]
theorem lx_count : lx_C sp_B_count sp_M_count := by
  intro i as σ τ hl hi h
  obtain ⟨c, rfl⟩ := jm_a1 hl
  refine ⟨h.2.1, h.2.2.1, fun r r' σ' τ' h1 h2 hB hM => ?_⟩
  obtain ⟨q1, q2⟩ := hB
  obtain ⟨p1, p2⟩ := hM
  exact ⟨by rw [q1, p1, h.2.2.2.1], h.ask h1 h2 q2 p2⟩
theorem lx_dark : lx_C sp_B_dark sp_M_dark := by
  intro i as σ τ hl hi h
  obtain ⟨k, most, rfl⟩ := jm_a2 hl
  refine ⟨h.2.1, h.2.2.1, fun r r' σ' τ' h1 h2 hB hM => ?_⟩
  obtain ⟨q1, q2⟩ := hB
  obtain ⟨p1, p2⟩ := hM
  rw [← h.2.2.2.1] at p1
  exact ⟨bw_dk_uniq q1 p1, h.ask h1 h2 q2 p2⟩
theorem lx_lit : lx_C sp_B_lit sp_M_lit := by
  intro i as σ τ hl hi h
  obtain ⟨c, least, rfl⟩ := jm_a2 hl
  refine ⟨h.2.1, h.2.2.1, fun r r' σ' τ' h1 h2 hB hM => ?_⟩
  obtain ⟨q1, q2⟩ := hB
  obtain ⟨p1, p2⟩ := hM
  rw [← h.2.2.2.1] at p1
  exact ⟨bw_lt_uniq q1 p1, h.ask h1 h2 q2 p2⟩
end
section
/-! the law's calls -/
section LXC
variable {p : Program} {l : Launch} {e : Env} {s : State} {m : MethodId} {below : List Frame} {meth : Method} {c : Code} {H : Heap} {locs : List Loc} {Q : State → Prop} {b : Nat}
variable {G : va_G} {D : Nat → jm_F} {N : Nat} {ks : List Nat} {ci : Nat} {o : Nat} {ad : Nat → Nat} {cA : Nat → ClassId} {C : String} {T : u_T} {A : Nat → Prop} {ws' : va_W}
variable {y : MethodName} {bytes : ByteArray} {maxL : Nat} {z : Bool} {v : Nat} {sp : jm_K} {i pc : Nat} {ls : Array Slot} {st rest : List Value} {σ : jm_S} {as : List Int}
set_option maxHeartbeats 4000000 in
theorem lx_call (hx : p.tables.exec = Jvm.exec) (hb : c.code = code) (hml : c.maxLocals = 4) (hown : s.vm.findClass R_law = some m.cls) (hts : ∀ w ∈ lw_g, w.before #[Value.ref b] s = true)
    (hK : va_K G classes (jm_tys D ks cA) s) (hC : classes[ci]? = some (C, T, N)) (hA : ∀ q, s.heap.size ≤ q → A q) (hD : ∀ σ, va_D A (jm_pic D N ks ci o ad cA σ))
    (hdj : ∀ (σ : jm_S) (i j : Nat) (p q : Nat × va_E), (jm_pic D N ks ci o ad cA σ)[i]? = some p → ws'[j]? = some q → p.1 ≠ q.1)
    (hM : jm_Con classes D N ks ci y bytes maxL (jm_rt (some z)) v sp) (hlk : jm_Lk R_law i y bytes maxL (jm_rt (some z)) sp) (hyC : y.cls = C) (hst1 : sp.1 = false) (hv : v ≤ 9)
    (hlen : as.length = sp.2.1) (hr : ∀ x ∈ as, -2147483648 ≤ x ∧ x ≤ 2147483647) (hσ : jm_okS D σ) (hpre : sp.2.2.2.1 as σ) (hst : st = (as.map fun x => Value.int (Int32.ofInt x)).reverse ++ .ref o :: rest) (hrest : (rest.map fun v => v.category).sum ≤ 8) (hls : ls.size = 4) (hd : decode code pc = .ok (.invokevirtual i, 3))
    (hP : va_P G classes (jm_pic D N ks ci o ad cA σ) H) (hP' : va_P G classes ws' H) (hS : va_S A s.heap H locs)
    (kk : ∀ (r : Int) (σ' : jm_S) (H1 : Heap) (locs1 : List Loc), (-2147483648 ≤ r ∧ r ≤ 2147483647) → jm_okS D σ' → sp.2.2.2.2 as σ r σ' → va_P G classes (jm_pic D N ks ci o ad cA σ') H1 → va_P G classes ws' H1 → va_S A s.heap H1 locs1 → W p l e room_1 s m #[Value.ref b] below meth c H1 locs1 27 8947 Q (F0 m (pc + 3) ls (.int (Int32.ofInt r) :: rest))) :
    W p l e room_1 s m #[Value.ref b] below meth c H locs 27 8947 Q (F0 m pc ls st) := by
  obtain ⟨g1, g2, -, g4, g5, g6, g7, g8⟩ := hlk
  have hFc : ∀ q, va_A (jm_pic D N ks ci o ad cA σ) H.size q → A q := fun q hq => by
    rcases hq with ⟨k, e, hk⟩ | hq
    · exact (hD σ).2 k (q, e) hk
    · exact hA q (Nat.le_trans hS.1 hq)
  have hMt := hM l G o ad cA H.size σ as hlen hr hσ hpre
  have eav : jm_av sp.1 o as = .ref o :: as.map fun x => Value.int (Int32.ofInt x) := by rw [hst1]; rfl
  rw [eav] at hMt
  have hrun := va_runV (p := p) (l := l) (e := e) (R := room_1) (below := below) (meth := meth) (H := H) (locs := locs) (cells := 27) (slots := 8947) (b := o) (C := C) (g := F0 m pc ls st) (rest := rest) (As := as.map fun x => Value.int (Int32.ofInt x)) (nL := 4) (Ts := lw_g) (own := R_law) ⟨hx, hb, hml, hown, hts⟩
    hMt (n := sp.2.1) (index := i) (bytes := bytes) (maxL := maxL) (ret := jm_rt (some z))
    ⟨callB_of sp.2.1 hts (jm_good y bytes maxL (jm_rt (some z)) (fun _ q => q) g2) rfl rfl rfl (hts _ g5) (hts _ g1) g6 ⟨by show v + 1 ≤ 12; omega, by show 8 + (maxL + 11) + 40 * v ≤ 486; omega⟩, hts _ (g4 hst1).1, by rw [← hyC]; exact hts _ (g4 hst1).2⟩
    ⟨fun a U g mk q => by obtain ⟨q0, q1, qP, qK, qD⟩ := q; exact ⟨q0, q1, qP, va_K.moved (u := U) (U := U.calling g mk a) (Vm.Alike.refl U.vm) qK, qD⟩, va_recv hK hP (ci := ci) (q0 := 0) hC rfl, fun U hU hW => ⟨rfl, by rw [hU], by rw [hU]; exact hP, va_K.moved hW.alike hK, (hD σ).weaken (fun _ _ _ _ => trivial)⟩⟩
    rfl (by rw [List.length_map]; exact hlen) hls hst (lv_room hrest) hd ⟨Nat.le_refl _, Nat.le_refl _⟩
  refine jm_callw hrun hS (fun q _ h => hFc q h) hFc (fun r u H1 locs1 hr1 hu hpo hP1 hz1 hk1 hS1 => ?_)
  have key := kk r u H1 locs1 hr1 hu hpo hP1 (hP'.kept (fun k q hk => hk1 q.1 ((hP' k q hk).lt) (fun hq => ?_))) hS1
  · cases z <;> exact key
  · rcases hq with ⟨j, e, hj⟩ | hq
    · exact hdj σ j k (q.1, e) q hj hk rfl
    · exact absurd hq (Nat.not_le.mpr ((hP' k q hk).lt))
end LXC
section LXI
variable {p : Program} {l : Launch} {e : Env} {R : Room} {s : State} {m : MethodId} {args : Array Value} {below : List Frame} {meth : Method} {c : Code} {H : Heap} {locs : List Loc} {cells slots : Nat} {Q : State → Prop}
variable {pc : Nat} {ls : Array Slot} {rest st0 : List Value} {a : Array Value} {A0 A1 : Nat → Prop} {H0 : Heap} {mc ms : Nat} {free : Addr → Prop}
theorem jc_callw {G : va_G} {D : Nat → jm_F} {N : Nat} {ks : List Nat} {ci : Nat} {o : Nat} {P : jm_S → Prop} (hr : va_Run p l e R s m args below meth c H locs cells slots mc ms (F0 m pc ls st0) rest (jc_Q G D N ks ci o A1 P a) free) (hS : va_S A0 H0 H locs) (hA : ∀ q, q < H.size → A1 q → A0 q) (hf : ∀ q, free q → A0 q)
    (kk : ∀ (ad : Nat → Nat) (cA : Nat → ClassId) (σ : jm_S) (H1 : Heap) (locs1 : List Loc), jm_okS D σ → P σ → va_P G classes (jm_pic D N ks ci o ad cA σ) H1 → va_K G classes (jm_tys D ks cA) s → va_D A1 (jm_pic D N ks ci o ad cA σ) → H.size ≤ H1.size → (∀ q : Nat, q < H.size → ¬ A1 q → H1[q]? = H[q]?) → va_S A0 H0 H1 locs1 → W p l e R s m args below meth c H1 locs1 (cells + mc) (slots + ms) Q (F0 m (pc + 3) ls rest)) : W p l e R s m args below meth c H locs cells slots Q (F0 m pc ls st0) := by
  intro T hT X
  obtain ⟨v, st₀, t, T', L, h0, X', hL, e1, e2, ⟨⟨hv, ad, cA, σ, ⟨hp1, hp2⟩, hb, hK, hD⟩, hz, hk⟩, st⟩ := hr T hT X
  cases hv
  rw [h0] at hz hk
  have hal : s.vm.Alike t.vm := by rw [← e2]; exact X'.warmed.alike
  obtain ⟨t2, a1, b1⟩ := kk ad cA σ T'.heap (locs ++ L) hp1 hp2 (by rw [e1]; exact hb) (va_K.moved hal.symm hK) hD (by rw [e1]; exact hz) (fun q h1 h2 => by rw [e1]; exact hk q h1 h2)
    ⟨Nat.le_trans hS.1 (by rw [e1]; exact hz), fun q h1 h2 => by rw [e1, hk q (Nat.lt_of_lt_of_le h1 hS.1) (fun z => h2 (hA q (Nat.lt_of_lt_of_le h1 hS.1) z))]; exact hS.2.1 q h1 h2, fun q hq => by
      rcases List.mem_append.mp hq with h | h
      · exact hS.2.2 q h
      · exact hf _ (hL q h)⟩ T' rfl X'
  exact ⟨t2, st t2 a1, b1⟩
end LXI
/-! the law's instructions -/
section LXA
variable {p : Program} {l : Launch} {e : Env} {s : State} {m : MethodId} {below : List Frame} {meth : Method} {c : Code} {H : Heap} {locs : List Loc} {Q : State → Prop} {b L : Nat} {xs : Nat → Int32} {A : Nat → Prop} {ls : Array Slot} {rest : List Value} {o o' : Nat} {pc i : Nat}
theorem lx_ld (hx : p.tables.exec = Jvm.exec) (hb : c.code = code) (hX : va_X b L xs s s.heap) (hbl : b < s.heap.size) (hbA : ¬ A b) (hS : va_S A s.heap H locs) (hL : L ≤ 4096) {k : Nat} (hk : k < L) (hd : decode code pc = .ok (.iaload, 1))
    (kk : W p l e room_1 s m #[Value.ref b] below meth c H locs 27 8947 Q (F0 m (pc + 1) ls (.int (Int32.ofInt (xs k).toInt) :: rest))) : W p l e room_1 s m #[Value.ref b] below meth c H locs 27 8947 Q (F0 m pc ls (.int (Int32.ofInt (k : Int)) :: .ref b :: rest)) := by
  refine va_sld hx hb hX hbl hbA hS (ji_in (by omega) (by omega) (by omega)) hd ?_
  rw [ji_cl (by omega), Int.toNat_natCast]
  rw [Int32.ofInt_toInt] at kk
  exact kk
theorem lx_arg (hx : p.tables.exec = Jvm.exec) (hb : c.code = code) (hX : va_X b L xs s s.heap) (hbl : b < s.heap.size) (hbA : ¬ A b) (hS : va_S A s.heap H locs) (hL : L ≤ 4096) (hl : lv_has ls 4 [(0, .ref b), (1, .ref o), (2, .ref o'), (3, .int (Int32.ofInt (i : Int)))])
    (j : Nat) (hj : j ≤ 5) (hij : i + j < L) (h0 : decode code pc = .ok (.aload_n 0, 1)) (h1 : decode code (pc + 1) = .ok (.iload_n 3, 1)) (h2 : decode code (pc + 2) = .ok (.iconst (j : Int), 1)) (h3 : decode code (pc + 3) = .ok (.iadd, 1)) (h4 : decode code (pc + 4) = .ok (.iaload, 1))
    (kk : W p l e room_1 s m #[Value.ref b] below meth c H locs 27 8947 Q (F0 m (pc + 5) ls (.int (Int32.ofInt (xs (i + j)).toInt) :: rest))) : W p l e room_1 s m #[Value.ref b] below meth c H locs 27 8947 Q (F0 m pc ls rest) := by
  refine lv_aload_n hx hb h0 rfl (lv_at hl 0 rfl) ?_
  refine lv_iload_n hx hb h1 rfl (lv_at hl 3 rfl) ?_
  refine lv_iconst hx hb h2 rfl ?_
  refine lv_iadd hx hb h3 ?_
  rw [← Int32.ofInt_add, ← Int.natCast_add]
  exact lx_ld hx hb hX hbl hbA hS hL hij h4 kk
theorem lx_arg6 (hx : p.tables.exec = Jvm.exec) (hb : c.code = code) (hX : va_X b L xs s s.heap) (hbl : b < s.heap.size) (hbA : ¬ A b) (hS : va_S A s.heap H locs) (hL : L ≤ 4096) (hl : lv_has ls 4 [(0, .ref b), (1, .ref o), (2, .ref o'), (3, .int (Int32.ofInt (i : Int)))])
    (j : Nat) (hj : (Int8.ofInt (j : Int)).toInt32 = Int32.ofInt (j : Int)) (hij : i + j < L) (h0 : decode code pc = .ok (.aload_n 0, 1)) (h1 : decode code (pc + 1) = .ok (.iload_n 3, 1)) (h2 : decode code (pc + 2) = .ok (.bipush (j : Int), 2)) (h3 : decode code (pc + 4) = .ok (.iadd, 1)) (h4 : decode code (pc + 5) = .ok (.iaload, 1))
    (kk : W p l e room_1 s m #[Value.ref b] below meth c H locs 27 8947 Q (F0 m (pc + 6) ls (.int (Int32.ofInt (xs (i + j)).toInt) :: rest))) : W p l e room_1 s m #[Value.ref b] below meth c H locs 27 8947 Q (F0 m pc ls rest) := by
  refine lv_aload_n hx hb h0 rfl (lv_at hl 0 rfl) ?_
  refine lv_iload_n hx hb h1 rfl (lv_at hl 3 rfl) ?_
  refine lv_bipush (v := Int32.ofInt (j : Int)) hx hb h2 hj ?_
  refine lv_iadd hx hb h3 ?_
  rw [← Int32.ofInt_add, ← Int.natCast_add]
  exact lx_ld hx hb hX hbl hbA hS hL hij h4 kk
end LXA
theorem lx_rg (x : Int32) : -2147483648 ≤ x.toInt ∧ x.toInt ≤ 2147483647 := by
  have h1 := x.le_toInt
  have h2 := x.toInt_lt
  omega
end
section
/-! the law's code and links: what a program printed -/
theorem d_law_0 : decode code 0 = .ok (.new 7, 3) := by decide +kernel
theorem d_law_3 : decode code 3 = .ok (.dup, 1) := by decide +kernel
theorem d_law_4 : decode code 4 = .ok (.invokespecial 9, 3) := by decide +kernel
theorem d_law_7 : decode code 7 = .ok (.astore_n 1, 1) := by decide +kernel
theorem d_law_8 : decode code 8 = .ok (.new 10, 3) := by decide +kernel
theorem d_law_11 : decode code 11 = .ok (.dup, 1) := by decide +kernel
theorem d_law_12 : decode code 12 = .ok (.invokespecial 12, 3) := by decide +kernel
theorem d_law_15 : decode code 15 = .ok (.astore_n 2, 1) := by decide +kernel
theorem d_law_16 : decode code 16 = .ok (.iconst 0, 1) := by decide +kernel
theorem d_law_17 : decode code 17 = .ok (.istore_n 3, 1) := by decide +kernel
theorem d_law_18 : decode code 18 = .ok (.iload_n 3, 1) := by decide +kernel
theorem d_law_19 : decode code 19 = .ok (.aload_n 0, 1) := by decide +kernel
theorem d_law_20 : decode code 20 = .ok (.arraylength, 1) := by decide +kernel
theorem d_law_21 : decode code 21 = .ok (.bipush 8, 2) := by decide +kernel
theorem d_law_23 : decode code 23 = .ok (.isub, 1) := by decide +kernel
theorem d_law_24 : decode code 24 = .ok (.if_icmp .gt 468, 3) := by decide +kernel
theorem d_law_27 : decode code 27 = .ok (.aload_n 0, 1) := by decide +kernel
theorem d_law_28 : decode code 28 = .ok (.iload_n 3, 1) := by decide +kernel
theorem d_law_29 : decode code 29 = .ok (.iaload, 1) := by decide +kernel
theorem d_law_30 : decode code 30 = .ok (.bipush 15, 2) := by decide +kernel
theorem d_law_32 : decode code 32 = .ok (.iand, 1) := by decide +kernel
theorem d_law_33 : decode code 33 = .ok (.tableswitch 453 0 11 #[63, 116, 203, 226, 249, 272, 295, 318, 341, 364, 387, 420], 63) := by decide +kernel
theorem d_law_96 : decode code 96 = .ok (.aload_n 1, 1) := by decide +kernel
theorem d_law_97 : decode code 97 = .ok (.aload_n 0, 1) := by decide +kernel
theorem d_law_98 : decode code 98 = .ok (.iload_n 3, 1) := by decide +kernel
theorem d_law_99 : decode code 99 = .ok (.iconst 1, 1) := by decide +kernel
theorem d_law_100 : decode code 100 = .ok (.iadd, 1) := by decide +kernel
theorem d_law_101 : decode code 101 = .ok (.iaload, 1) := by decide +kernel
theorem d_law_102 : decode code 102 = .ok (.aload_n 0, 1) := by decide +kernel
theorem d_law_103 : decode code 103 = .ok (.iload_n 3, 1) := by decide +kernel
theorem d_law_104 : decode code 104 = .ok (.iconst 2, 1) := by decide +kernel
theorem d_law_105 : decode code 105 = .ok (.iadd, 1) := by decide +kernel
theorem d_law_106 : decode code 106 = .ok (.iaload, 1) := by decide +kernel
theorem d_law_107 : decode code 107 = .ok (.aload_n 0, 1) := by decide +kernel
theorem d_law_108 : decode code 108 = .ok (.iload_n 3, 1) := by decide +kernel
theorem d_law_109 : decode code 109 = .ok (.iconst 3, 1) := by decide +kernel
theorem d_law_110 : decode code 110 = .ok (.iadd, 1) := by decide +kernel
theorem d_law_111 : decode code 111 = .ok (.iaload, 1) := by decide +kernel
theorem d_law_112 : decode code 112 = .ok (.aload_n 0, 1) := by decide +kernel
theorem d_law_113 : decode code 113 = .ok (.iload_n 3, 1) := by decide +kernel
theorem d_law_114 : decode code 114 = .ok (.iconst 4, 1) := by decide +kernel
theorem d_law_115 : decode code 115 = .ok (.iadd, 1) := by decide +kernel
theorem d_law_116 : decode code 116 = .ok (.iaload, 1) := by decide +kernel
theorem d_law_117 : decode code 117 = .ok (.invokevirtual 13, 3) := by decide +kernel
theorem d_law_120 : decode code 120 = .ok (.aload_n 2, 1) := by decide +kernel
theorem d_law_121 : decode code 121 = .ok (.aload_n 0, 1) := by decide +kernel
theorem d_law_122 : decode code 122 = .ok (.iload_n 3, 1) := by decide +kernel
theorem d_law_123 : decode code 123 = .ok (.iconst 1, 1) := by decide +kernel
theorem d_law_124 : decode code 124 = .ok (.iadd, 1) := by decide +kernel
theorem d_law_125 : decode code 125 = .ok (.iaload, 1) := by decide +kernel
theorem d_law_126 : decode code 126 = .ok (.aload_n 0, 1) := by decide +kernel
theorem d_law_127 : decode code 127 = .ok (.iload_n 3, 1) := by decide +kernel
theorem d_law_128 : decode code 128 = .ok (.iconst 2, 1) := by decide +kernel
theorem d_law_129 : decode code 129 = .ok (.iadd, 1) := by decide +kernel
theorem d_law_130 : decode code 130 = .ok (.iaload, 1) := by decide +kernel
theorem d_law_131 : decode code 131 = .ok (.aload_n 0, 1) := by decide +kernel
theorem d_law_132 : decode code 132 = .ok (.iload_n 3, 1) := by decide +kernel
theorem d_law_133 : decode code 133 = .ok (.iconst 3, 1) := by decide +kernel
theorem d_law_134 : decode code 134 = .ok (.iadd, 1) := by decide +kernel
theorem d_law_135 : decode code 135 = .ok (.iaload, 1) := by decide +kernel
theorem d_law_136 : decode code 136 = .ok (.aload_n 0, 1) := by decide +kernel
theorem d_law_137 : decode code 137 = .ok (.iload_n 3, 1) := by decide +kernel
theorem d_law_138 : decode code 138 = .ok (.iconst 4, 1) := by decide +kernel
theorem d_law_139 : decode code 139 = .ok (.iadd, 1) := by decide +kernel
theorem d_law_140 : decode code 140 = .ok (.iaload, 1) := by decide +kernel
theorem d_law_141 : decode code 141 = .ok (.invokevirtual 17, 3) := by decide +kernel
theorem d_law_144 : decode code 144 = .ok (.if_icmp .eq 342, 3) := by decide +kernel
theorem d_law_147 : decode code 147 = .ok (.iconst 0, 1) := by decide +kernel
theorem d_law_148 : decode code 148 = .ok (.ireturn, 1) := by decide +kernel
theorem d_law_149 : decode code 149 = .ok (.aload_n 1, 1) := by decide +kernel
theorem d_law_150 : decode code 150 = .ok (.aload_n 0, 1) := by decide +kernel
theorem d_law_151 : decode code 151 = .ok (.iload_n 3, 1) := by decide +kernel
theorem d_law_152 : decode code 152 = .ok (.iconst 1, 1) := by decide +kernel
theorem d_law_153 : decode code 153 = .ok (.iadd, 1) := by decide +kernel
theorem d_law_154 : decode code 154 = .ok (.iaload, 1) := by decide +kernel
theorem d_law_155 : decode code 155 = .ok (.aload_n 0, 1) := by decide +kernel
theorem d_law_156 : decode code 156 = .ok (.iload_n 3, 1) := by decide +kernel
theorem d_law_157 : decode code 157 = .ok (.iconst 2, 1) := by decide +kernel
theorem d_law_158 : decode code 158 = .ok (.iadd, 1) := by decide +kernel
theorem d_law_159 : decode code 159 = .ok (.iaload, 1) := by decide +kernel
theorem d_law_160 : decode code 160 = .ok (.aload_n 0, 1) := by decide +kernel
theorem d_law_161 : decode code 161 = .ok (.iload_n 3, 1) := by decide +kernel
theorem d_law_162 : decode code 162 = .ok (.iconst 3, 1) := by decide +kernel
theorem d_law_163 : decode code 163 = .ok (.iadd, 1) := by decide +kernel
theorem d_law_164 : decode code 164 = .ok (.iaload, 1) := by decide +kernel
theorem d_law_165 : decode code 165 = .ok (.aload_n 0, 1) := by decide +kernel
theorem d_law_166 : decode code 166 = .ok (.iload_n 3, 1) := by decide +kernel
theorem d_law_167 : decode code 167 = .ok (.iconst 4, 1) := by decide +kernel
theorem d_law_168 : decode code 168 = .ok (.iadd, 1) := by decide +kernel
theorem d_law_169 : decode code 169 = .ok (.iaload, 1) := by decide +kernel
theorem d_law_170 : decode code 170 = .ok (.aload_n 0, 1) := by decide +kernel
theorem d_law_171 : decode code 171 = .ok (.iload_n 3, 1) := by decide +kernel
theorem d_law_172 : decode code 172 = .ok (.iconst 5, 1) := by decide +kernel
theorem d_law_173 : decode code 173 = .ok (.iadd, 1) := by decide +kernel
theorem d_law_174 : decode code 174 = .ok (.iaload, 1) := by decide +kernel
theorem d_law_175 : decode code 175 = .ok (.aload_n 0, 1) := by decide +kernel
theorem d_law_176 : decode code 176 = .ok (.iload_n 3, 1) := by decide +kernel
theorem d_law_177 : decode code 177 = .ok (.bipush 6, 2) := by decide +kernel
theorem d_law_179 : decode code 179 = .ok (.iadd, 1) := by decide +kernel
theorem d_law_180 : decode code 180 = .ok (.iaload, 1) := by decide +kernel
theorem d_law_181 : decode code 181 = .ok (.aload_n 0, 1) := by decide +kernel
theorem d_law_182 : decode code 182 = .ok (.iload_n 3, 1) := by decide +kernel
theorem d_law_183 : decode code 183 = .ok (.bipush 7, 2) := by decide +kernel
theorem d_law_185 : decode code 185 = .ok (.iadd, 1) := by decide +kernel
theorem d_law_186 : decode code 186 = .ok (.iaload, 1) := by decide +kernel
theorem d_law_187 : decode code 187 = .ok (.invokevirtual 18, 3) := by decide +kernel
theorem d_law_190 : decode code 190 = .ok (.aload_n 2, 1) := by decide +kernel
theorem d_law_191 : decode code 191 = .ok (.aload_n 0, 1) := by decide +kernel
theorem d_law_192 : decode code 192 = .ok (.iload_n 3, 1) := by decide +kernel
theorem d_law_193 : decode code 193 = .ok (.iconst 1, 1) := by decide +kernel
theorem d_law_194 : decode code 194 = .ok (.iadd, 1) := by decide +kernel
theorem d_law_195 : decode code 195 = .ok (.iaload, 1) := by decide +kernel
theorem d_law_196 : decode code 196 = .ok (.aload_n 0, 1) := by decide +kernel
theorem d_law_197 : decode code 197 = .ok (.iload_n 3, 1) := by decide +kernel
theorem d_law_198 : decode code 198 = .ok (.iconst 2, 1) := by decide +kernel
theorem d_law_199 : decode code 199 = .ok (.iadd, 1) := by decide +kernel
theorem d_law_200 : decode code 200 = .ok (.iaload, 1) := by decide +kernel
theorem d_law_201 : decode code 201 = .ok (.aload_n 0, 1) := by decide +kernel
theorem d_law_202 : decode code 202 = .ok (.iload_n 3, 1) := by decide +kernel
theorem d_law_203 : decode code 203 = .ok (.iconst 3, 1) := by decide +kernel
theorem d_law_204 : decode code 204 = .ok (.iadd, 1) := by decide +kernel
theorem d_law_205 : decode code 205 = .ok (.iaload, 1) := by decide +kernel
theorem d_law_206 : decode code 206 = .ok (.aload_n 0, 1) := by decide +kernel
theorem d_law_207 : decode code 207 = .ok (.iload_n 3, 1) := by decide +kernel
theorem d_law_208 : decode code 208 = .ok (.iconst 4, 1) := by decide +kernel
theorem d_law_209 : decode code 209 = .ok (.iadd, 1) := by decide +kernel
theorem d_law_210 : decode code 210 = .ok (.iaload, 1) := by decide +kernel
theorem d_law_211 : decode code 211 = .ok (.aload_n 0, 1) := by decide +kernel
theorem d_law_212 : decode code 212 = .ok (.iload_n 3, 1) := by decide +kernel
theorem d_law_213 : decode code 213 = .ok (.iconst 5, 1) := by decide +kernel
theorem d_law_214 : decode code 214 = .ok (.iadd, 1) := by decide +kernel
theorem d_law_215 : decode code 215 = .ok (.iaload, 1) := by decide +kernel
theorem d_law_216 : decode code 216 = .ok (.aload_n 0, 1) := by decide +kernel
theorem d_law_217 : decode code 217 = .ok (.iload_n 3, 1) := by decide +kernel
theorem d_law_218 : decode code 218 = .ok (.bipush 6, 2) := by decide +kernel
theorem d_law_220 : decode code 220 = .ok (.iadd, 1) := by decide +kernel
theorem d_law_221 : decode code 221 = .ok (.iaload, 1) := by decide +kernel
theorem d_law_222 : decode code 222 = .ok (.aload_n 0, 1) := by decide +kernel
theorem d_law_223 : decode code 223 = .ok (.iload_n 3, 1) := by decide +kernel
theorem d_law_224 : decode code 224 = .ok (.bipush 7, 2) := by decide +kernel
theorem d_law_226 : decode code 226 = .ok (.iadd, 1) := by decide +kernel
theorem d_law_227 : decode code 227 = .ok (.iaload, 1) := by decide +kernel
theorem d_law_228 : decode code 228 = .ok (.invokevirtual 22, 3) := by decide +kernel
theorem d_law_231 : decode code 231 = .ok (.if_icmp .eq 255, 3) := by decide +kernel
theorem d_law_234 : decode code 234 = .ok (.iconst 0, 1) := by decide +kernel
theorem d_law_235 : decode code 235 = .ok (.ireturn, 1) := by decide +kernel
theorem d_law_236 : decode code 236 = .ok (.aload_n 1, 1) := by decide +kernel
theorem d_law_237 : decode code 237 = .ok (.aload_n 0, 1) := by decide +kernel
theorem d_law_238 : decode code 238 = .ok (.iload_n 3, 1) := by decide +kernel
theorem d_law_239 : decode code 239 = .ok (.iconst 1, 1) := by decide +kernel
theorem d_law_240 : decode code 240 = .ok (.iadd, 1) := by decide +kernel
theorem d_law_241 : decode code 241 = .ok (.iaload, 1) := by decide +kernel
theorem d_law_242 : decode code 242 = .ok (.invokevirtual 23, 3) := by decide +kernel
theorem d_law_245 : decode code 245 = .ok (.aload_n 2, 1) := by decide +kernel
theorem d_law_246 : decode code 246 = .ok (.aload_n 0, 1) := by decide +kernel
theorem d_law_247 : decode code 247 = .ok (.iload_n 3, 1) := by decide +kernel
theorem d_law_248 : decode code 248 = .ok (.iconst 1, 1) := by decide +kernel
theorem d_law_249 : decode code 249 = .ok (.iadd, 1) := by decide +kernel
theorem d_law_250 : decode code 250 = .ok (.iaload, 1) := by decide +kernel
theorem d_law_251 : decode code 251 = .ok (.invokevirtual 27, 3) := by decide +kernel
theorem d_law_254 : decode code 254 = .ok (.if_icmp .eq 232, 3) := by decide +kernel
theorem d_law_257 : decode code 257 = .ok (.iconst 0, 1) := by decide +kernel
theorem d_law_258 : decode code 258 = .ok (.ireturn, 1) := by decide +kernel
theorem d_law_259 : decode code 259 = .ok (.aload_n 1, 1) := by decide +kernel
theorem d_law_260 : decode code 260 = .ok (.aload_n 0, 1) := by decide +kernel
theorem d_law_261 : decode code 261 = .ok (.iload_n 3, 1) := by decide +kernel
theorem d_law_262 : decode code 262 = .ok (.iconst 1, 1) := by decide +kernel
theorem d_law_263 : decode code 263 = .ok (.iadd, 1) := by decide +kernel
theorem d_law_264 : decode code 264 = .ok (.iaload, 1) := by decide +kernel
theorem d_law_265 : decode code 265 = .ok (.invokevirtual 28, 3) := by decide +kernel
theorem d_law_268 : decode code 268 = .ok (.aload_n 2, 1) := by decide +kernel
theorem d_law_269 : decode code 269 = .ok (.aload_n 0, 1) := by decide +kernel
theorem d_law_270 : decode code 270 = .ok (.iload_n 3, 1) := by decide +kernel
theorem d_law_271 : decode code 271 = .ok (.iconst 1, 1) := by decide +kernel
theorem d_law_272 : decode code 272 = .ok (.iadd, 1) := by decide +kernel
theorem d_law_273 : decode code 273 = .ok (.iaload, 1) := by decide +kernel
theorem d_law_274 : decode code 274 = .ok (.invokevirtual 31, 3) := by decide +kernel
theorem d_law_277 : decode code 277 = .ok (.if_icmp .eq 209, 3) := by decide +kernel
theorem d_law_280 : decode code 280 = .ok (.iconst 0, 1) := by decide +kernel
theorem d_law_281 : decode code 281 = .ok (.ireturn, 1) := by decide +kernel
theorem d_law_282 : decode code 282 = .ok (.aload_n 1, 1) := by decide +kernel
theorem d_law_283 : decode code 283 = .ok (.aload_n 0, 1) := by decide +kernel
theorem d_law_284 : decode code 284 = .ok (.iload_n 3, 1) := by decide +kernel
theorem d_law_285 : decode code 285 = .ok (.iconst 1, 1) := by decide +kernel
theorem d_law_286 : decode code 286 = .ok (.iadd, 1) := by decide +kernel
theorem d_law_287 : decode code 287 = .ok (.iaload, 1) := by decide +kernel
theorem d_law_288 : decode code 288 = .ok (.invokevirtual 32, 3) := by decide +kernel
theorem d_law_291 : decode code 291 = .ok (.aload_n 2, 1) := by decide +kernel
theorem d_law_292 : decode code 292 = .ok (.aload_n 0, 1) := by decide +kernel
theorem d_law_293 : decode code 293 = .ok (.iload_n 3, 1) := by decide +kernel
theorem d_law_294 : decode code 294 = .ok (.iconst 1, 1) := by decide +kernel
theorem d_law_295 : decode code 295 = .ok (.iadd, 1) := by decide +kernel
theorem d_law_296 : decode code 296 = .ok (.iaload, 1) := by decide +kernel
theorem d_law_297 : decode code 297 = .ok (.invokevirtual 35, 3) := by decide +kernel
theorem d_law_300 : decode code 300 = .ok (.if_icmp .eq 186, 3) := by decide +kernel
theorem d_law_303 : decode code 303 = .ok (.iconst 0, 1) := by decide +kernel
theorem d_law_304 : decode code 304 = .ok (.ireturn, 1) := by decide +kernel
theorem d_law_305 : decode code 305 = .ok (.aload_n 1, 1) := by decide +kernel
theorem d_law_306 : decode code 306 = .ok (.aload_n 0, 1) := by decide +kernel
theorem d_law_307 : decode code 307 = .ok (.iload_n 3, 1) := by decide +kernel
theorem d_law_308 : decode code 308 = .ok (.iconst 1, 1) := by decide +kernel
theorem d_law_309 : decode code 309 = .ok (.iadd, 1) := by decide +kernel
theorem d_law_310 : decode code 310 = .ok (.iaload, 1) := by decide +kernel
theorem d_law_311 : decode code 311 = .ok (.invokevirtual 36, 3) := by decide +kernel
theorem d_law_314 : decode code 314 = .ok (.aload_n 2, 1) := by decide +kernel
theorem d_law_315 : decode code 315 = .ok (.aload_n 0, 1) := by decide +kernel
theorem d_law_316 : decode code 316 = .ok (.iload_n 3, 1) := by decide +kernel
theorem d_law_317 : decode code 317 = .ok (.iconst 1, 1) := by decide +kernel
theorem d_law_318 : decode code 318 = .ok (.iadd, 1) := by decide +kernel
theorem d_law_319 : decode code 319 = .ok (.iaload, 1) := by decide +kernel
theorem d_law_320 : decode code 320 = .ok (.invokevirtual 39, 3) := by decide +kernel
theorem d_law_323 : decode code 323 = .ok (.if_icmp .eq 163, 3) := by decide +kernel
theorem d_law_326 : decode code 326 = .ok (.iconst 0, 1) := by decide +kernel
theorem d_law_327 : decode code 327 = .ok (.ireturn, 1) := by decide +kernel
theorem d_law_328 : decode code 328 = .ok (.aload_n 1, 1) := by decide +kernel
theorem d_law_329 : decode code 329 = .ok (.aload_n 0, 1) := by decide +kernel
theorem d_law_330 : decode code 330 = .ok (.iload_n 3, 1) := by decide +kernel
theorem d_law_331 : decode code 331 = .ok (.iconst 1, 1) := by decide +kernel
theorem d_law_332 : decode code 332 = .ok (.iadd, 1) := by decide +kernel
theorem d_law_333 : decode code 333 = .ok (.iaload, 1) := by decide +kernel
theorem d_law_334 : decode code 334 = .ok (.invokevirtual 40, 3) := by decide +kernel
theorem d_law_337 : decode code 337 = .ok (.aload_n 2, 1) := by decide +kernel
theorem d_law_338 : decode code 338 = .ok (.aload_n 0, 1) := by decide +kernel
theorem d_law_339 : decode code 339 = .ok (.iload_n 3, 1) := by decide +kernel
theorem d_law_340 : decode code 340 = .ok (.iconst 1, 1) := by decide +kernel
theorem d_law_341 : decode code 341 = .ok (.iadd, 1) := by decide +kernel
theorem d_law_342 : decode code 342 = .ok (.iaload, 1) := by decide +kernel
theorem d_law_343 : decode code 343 = .ok (.invokevirtual 44, 3) := by decide +kernel
theorem d_law_346 : decode code 346 = .ok (.if_icmp .eq 140, 3) := by decide +kernel
theorem d_law_349 : decode code 349 = .ok (.iconst 0, 1) := by decide +kernel
theorem d_law_350 : decode code 350 = .ok (.ireturn, 1) := by decide +kernel
theorem d_law_351 : decode code 351 = .ok (.aload_n 1, 1) := by decide +kernel
theorem d_law_352 : decode code 352 = .ok (.aload_n 0, 1) := by decide +kernel
theorem d_law_353 : decode code 353 = .ok (.iload_n 3, 1) := by decide +kernel
theorem d_law_354 : decode code 354 = .ok (.iconst 1, 1) := by decide +kernel
theorem d_law_355 : decode code 355 = .ok (.iadd, 1) := by decide +kernel
theorem d_law_356 : decode code 356 = .ok (.iaload, 1) := by decide +kernel
theorem d_law_357 : decode code 357 = .ok (.invokevirtual 45, 3) := by decide +kernel
theorem d_law_360 : decode code 360 = .ok (.aload_n 2, 1) := by decide +kernel
theorem d_law_361 : decode code 361 = .ok (.aload_n 0, 1) := by decide +kernel
theorem d_law_362 : decode code 362 = .ok (.iload_n 3, 1) := by decide +kernel
theorem d_law_363 : decode code 363 = .ok (.iconst 1, 1) := by decide +kernel
theorem d_law_364 : decode code 364 = .ok (.iadd, 1) := by decide +kernel
theorem d_law_365 : decode code 365 = .ok (.iaload, 1) := by decide +kernel
theorem d_law_366 : decode code 366 = .ok (.invokevirtual 48, 3) := by decide +kernel
theorem d_law_369 : decode code 369 = .ok (.if_icmp .eq 117, 3) := by decide +kernel
theorem d_law_372 : decode code 372 = .ok (.iconst 0, 1) := by decide +kernel
theorem d_law_373 : decode code 373 = .ok (.ireturn, 1) := by decide +kernel
theorem d_law_374 : decode code 374 = .ok (.aload_n 1, 1) := by decide +kernel
theorem d_law_375 : decode code 375 = .ok (.aload_n 0, 1) := by decide +kernel
theorem d_law_376 : decode code 376 = .ok (.iload_n 3, 1) := by decide +kernel
theorem d_law_377 : decode code 377 = .ok (.iconst 1, 1) := by decide +kernel
theorem d_law_378 : decode code 378 = .ok (.iadd, 1) := by decide +kernel
theorem d_law_379 : decode code 379 = .ok (.iaload, 1) := by decide +kernel
theorem d_law_380 : decode code 380 = .ok (.invokevirtual 49, 3) := by decide +kernel
theorem d_law_383 : decode code 383 = .ok (.aload_n 2, 1) := by decide +kernel
theorem d_law_384 : decode code 384 = .ok (.aload_n 0, 1) := by decide +kernel
theorem d_law_385 : decode code 385 = .ok (.iload_n 3, 1) := by decide +kernel
theorem d_law_386 : decode code 386 = .ok (.iconst 1, 1) := by decide +kernel
theorem d_law_387 : decode code 387 = .ok (.iadd, 1) := by decide +kernel
theorem d_law_388 : decode code 388 = .ok (.iaload, 1) := by decide +kernel
theorem d_law_389 : decode code 389 = .ok (.invokevirtual 52, 3) := by decide +kernel
theorem d_law_392 : decode code 392 = .ok (.if_icmp .eq 94, 3) := by decide +kernel
theorem d_law_395 : decode code 395 = .ok (.iconst 0, 1) := by decide +kernel
theorem d_law_396 : decode code 396 = .ok (.ireturn, 1) := by decide +kernel
theorem d_law_397 : decode code 397 = .ok (.aload_n 1, 1) := by decide +kernel
theorem d_law_398 : decode code 398 = .ok (.aload_n 0, 1) := by decide +kernel
theorem d_law_399 : decode code 399 = .ok (.iload_n 3, 1) := by decide +kernel
theorem d_law_400 : decode code 400 = .ok (.iconst 1, 1) := by decide +kernel
theorem d_law_401 : decode code 401 = .ok (.iadd, 1) := by decide +kernel
theorem d_law_402 : decode code 402 = .ok (.iaload, 1) := by decide +kernel
theorem d_law_403 : decode code 403 = .ok (.invokevirtual 53, 3) := by decide +kernel
theorem d_law_406 : decode code 406 = .ok (.aload_n 2, 1) := by decide +kernel
theorem d_law_407 : decode code 407 = .ok (.aload_n 0, 1) := by decide +kernel
theorem d_law_408 : decode code 408 = .ok (.iload_n 3, 1) := by decide +kernel
theorem d_law_409 : decode code 409 = .ok (.iconst 1, 1) := by decide +kernel
theorem d_law_410 : decode code 410 = .ok (.iadd, 1) := by decide +kernel
theorem d_law_411 : decode code 411 = .ok (.iaload, 1) := by decide +kernel
theorem d_law_412 : decode code 412 = .ok (.invokevirtual 56, 3) := by decide +kernel
theorem d_law_415 : decode code 415 = .ok (.if_icmp .eq 71, 3) := by decide +kernel
theorem d_law_418 : decode code 418 = .ok (.iconst 0, 1) := by decide +kernel
theorem d_law_419 : decode code 419 = .ok (.ireturn, 1) := by decide +kernel
theorem d_law_420 : decode code 420 = .ok (.aload_n 1, 1) := by decide +kernel
theorem d_law_421 : decode code 421 = .ok (.aload_n 0, 1) := by decide +kernel
theorem d_law_422 : decode code 422 = .ok (.iload_n 3, 1) := by decide +kernel
theorem d_law_423 : decode code 423 = .ok (.iconst 1, 1) := by decide +kernel
theorem d_law_424 : decode code 424 = .ok (.iadd, 1) := by decide +kernel
theorem d_law_425 : decode code 425 = .ok (.iaload, 1) := by decide +kernel
theorem d_law_426 : decode code 426 = .ok (.aload_n 0, 1) := by decide +kernel
theorem d_law_427 : decode code 427 = .ok (.iload_n 3, 1) := by decide +kernel
theorem d_law_428 : decode code 428 = .ok (.iconst 2, 1) := by decide +kernel
theorem d_law_429 : decode code 429 = .ok (.iadd, 1) := by decide +kernel
theorem d_law_430 : decode code 430 = .ok (.iaload, 1) := by decide +kernel
theorem d_law_431 : decode code 431 = .ok (.invokevirtual 57, 3) := by decide +kernel
theorem d_law_434 : decode code 434 = .ok (.aload_n 2, 1) := by decide +kernel
theorem d_law_435 : decode code 435 = .ok (.aload_n 0, 1) := by decide +kernel
theorem d_law_436 : decode code 436 = .ok (.iload_n 3, 1) := by decide +kernel
theorem d_law_437 : decode code 437 = .ok (.iconst 1, 1) := by decide +kernel
theorem d_law_438 : decode code 438 = .ok (.iadd, 1) := by decide +kernel
theorem d_law_439 : decode code 439 = .ok (.iaload, 1) := by decide +kernel
theorem d_law_440 : decode code 440 = .ok (.aload_n 0, 1) := by decide +kernel
theorem d_law_441 : decode code 441 = .ok (.iload_n 3, 1) := by decide +kernel
theorem d_law_442 : decode code 442 = .ok (.iconst 2, 1) := by decide +kernel
theorem d_law_443 : decode code 443 = .ok (.iadd, 1) := by decide +kernel
theorem d_law_444 : decode code 444 = .ok (.iaload, 1) := by decide +kernel
theorem d_law_445 : decode code 445 = .ok (.invokevirtual 61, 3) := by decide +kernel
theorem d_law_448 : decode code 448 = .ok (.if_icmp .eq 38, 3) := by decide +kernel
theorem d_law_451 : decode code 451 = .ok (.iconst 0, 1) := by decide +kernel
theorem d_law_452 : decode code 452 = .ok (.ireturn, 1) := by decide +kernel
theorem d_law_453 : decode code 453 = .ok (.aload_n 1, 1) := by decide +kernel
theorem d_law_454 : decode code 454 = .ok (.aload_n 0, 1) := by decide +kernel
theorem d_law_455 : decode code 455 = .ok (.iload_n 3, 1) := by decide +kernel
theorem d_law_456 : decode code 456 = .ok (.iconst 1, 1) := by decide +kernel
theorem d_law_457 : decode code 457 = .ok (.iadd, 1) := by decide +kernel
theorem d_law_458 : decode code 458 = .ok (.iaload, 1) := by decide +kernel
theorem d_law_459 : decode code 459 = .ok (.aload_n 0, 1) := by decide +kernel
theorem d_law_460 : decode code 460 = .ok (.iload_n 3, 1) := by decide +kernel
theorem d_law_461 : decode code 461 = .ok (.iconst 2, 1) := by decide +kernel
theorem d_law_462 : decode code 462 = .ok (.iadd, 1) := by decide +kernel
theorem d_law_463 : decode code 463 = .ok (.iaload, 1) := by decide +kernel
theorem d_law_464 : decode code 464 = .ok (.invokevirtual 62, 3) := by decide +kernel
theorem d_law_467 : decode code 467 = .ok (.aload_n 2, 1) := by decide +kernel
theorem d_law_468 : decode code 468 = .ok (.aload_n 0, 1) := by decide +kernel
theorem d_law_469 : decode code 469 = .ok (.iload_n 3, 1) := by decide +kernel
theorem d_law_470 : decode code 470 = .ok (.iconst 1, 1) := by decide +kernel
theorem d_law_471 : decode code 471 = .ok (.iadd, 1) := by decide +kernel
theorem d_law_472 : decode code 472 = .ok (.iaload, 1) := by decide +kernel
theorem d_law_473 : decode code 473 = .ok (.aload_n 0, 1) := by decide +kernel
theorem d_law_474 : decode code 474 = .ok (.iload_n 3, 1) := by decide +kernel
theorem d_law_475 : decode code 475 = .ok (.iconst 2, 1) := by decide +kernel
theorem d_law_476 : decode code 476 = .ok (.iadd, 1) := by decide +kernel
theorem d_law_477 : decode code 477 = .ok (.iaload, 1) := by decide +kernel
theorem d_law_478 : decode code 478 = .ok (.invokevirtual 65, 3) := by decide +kernel
theorem d_law_481 : decode code 481 = .ok (.if_icmp .eq 5, 3) := by decide +kernel
theorem d_law_484 : decode code 484 = .ok (.iconst 0, 1) := by decide +kernel
theorem d_law_485 : decode code 485 = .ok (.ireturn, 1) := by decide +kernel
theorem d_law_486 : decode code 486 = .ok (.iinc 3 8, 3) := by decide +kernel
theorem d_law_489 : decode code 489 = .ok (.goto (-471), 3) := by decide +kernel
theorem d_law_492 : decode code 492 = .ok (.iconst 1, 1) := by decide +kernel
theorem d_law_493 : decode code 493 = .ok (.ireturn, 1) := by decide +kernel
theorem lkL_B_put (pre : List Int → jm_S → Prop) (post : List Int → jm_S → Int → jm_S → Prop) : jm_Lk R_law 13 y_B_put b_B_put 6 (some .int) (false, 4, false, pre, post) := ⟨lw_in (by decide +kernel) rfl, lw_in (List.mem_of_getElem? (i := 112) rfl) rfl, (fun h => Bool.noConfusion h), fun _ => ⟨lw_in (by decide +kernel) rfl, lw_in (by decide +kernel) rfl⟩, lw_in (by decide +kernel) rfl, (by show _ ∧ _ ∧ _ = some 4; decide +kernel), ⟨(fun h => Bool.noConfusion h), (fun h => by cases h)⟩, by decide⟩
theorem lkL_B_fill (pre : List Int → jm_S → Prop) (post : List Int → jm_S → Int → jm_S → Prop) : jm_Lk R_law 18 y_B_fill b_B_fill 13 (some .int) (false, 7, false, pre, post) := ⟨lw_in (by decide +kernel) rfl, lw_in (List.mem_of_getElem? (i := 197) rfl) rfl, (fun h => Bool.noConfusion h), fun _ => ⟨lw_in (by decide +kernel) rfl, lw_in (by decide +kernel) rfl⟩, lw_in (by decide +kernel) rfl, (by show _ ∧ _ ∧ _ = some 7; decide +kernel), ⟨(fun h => Bool.noConfusion h), (fun h => by cases h)⟩, by decide⟩
theorem lkL_B_block (pre : List Int → jm_S → Prop) (post : List Int → jm_S → Int → jm_S → Prop) : jm_Lk R_law 23 y_B_block b_B_block 2 (some .int) (false, 1, false, pre, post) := ⟨lw_in (by decide +kernel) rfl, lw_in (List.mem_of_getElem? (i := 201) rfl) rfl, (fun h => Bool.noConfusion h), fun _ => ⟨lw_in (by decide +kernel) rfl, lw_in (by decide +kernel) rfl⟩, lw_in (by decide +kernel) rfl, (by show _ ∧ _ ∧ _ = some 1; decide +kernel), ⟨(fun h => Bool.noConfusion h), (fun h => by cases h)⟩, by decide⟩
theorem lkL_B_light (pre : List Int → jm_S → Prop) (post : List Int → jm_S → Int → jm_S → Prop) : jm_Lk R_law 28 y_B_light b_B_light 2 (some .int) (false, 1, false, pre, post) := ⟨lw_in (by decide +kernel) rfl, lw_in (List.mem_of_getElem? (i := 208) rfl) rfl, (fun h => Bool.noConfusion h), fun _ => ⟨lw_in (by decide +kernel) rfl, lw_in (by decide +kernel) rfl⟩, lw_in (by decide +kernel) rfl, (by show _ ∧ _ ∧ _ = some 1; decide +kernel), ⟨(fun h => Bool.noConfusion h), (fun h => by cases h)⟩, by decide⟩
theorem lkL_B_sky (pre : List Int → jm_S → Prop) (post : List Int → jm_S → Int → jm_S → Prop) : jm_Lk R_law 32 y_B_sky b_B_sky 2 (some .int) (false, 1, false, pre, post) := ⟨lw_in (by decide +kernel) rfl, lw_in (List.mem_of_getElem? (i := 212) rfl) rfl, (fun h => Bool.noConfusion h), fun _ => ⟨lw_in (by decide +kernel) rfl, lw_in (by decide +kernel) rfl⟩, lw_in (by decide +kernel) rfl, (by show _ ∧ _ ∧ _ = some 1; decide +kernel), ⟨(fun h => Bool.noConfusion h), (fun h => by cases h)⟩, by decide⟩
theorem lkL_B_power (pre : List Int → jm_S → Prop) (post : List Int → jm_S → Int → jm_S → Prop) : jm_Lk R_law 36 y_B_power b_B_power 2 (some .int) (false, 1, false, pre, post) := ⟨lw_in (by decide +kernel) rfl, lw_in (List.mem_of_getElem? (i := 216) rfl) rfl, (fun h => Bool.noConfusion h), fun _ => ⟨lw_in (by decide +kernel) rfl, lw_in (by decide +kernel) rfl⟩, lw_in (by decide +kernel) rfl, (by show _ ∧ _ ∧ _ = some 1; decide +kernel), ⟨(fun h => Bool.noConfusion h), (fun h => by cases h)⟩, by decide⟩
theorem lkL_B_fed (pre : List Int → jm_S → Prop) (post : List Int → jm_S → Int → jm_S → Prop) : jm_Lk R_law 40 y_B_fed b_B_fed 2 (some .boolean) (false, 1, false, pre, post) := ⟨lw_in (by decide +kernel) rfl, lw_in (List.mem_of_getElem? (i := 220) rfl) rfl, (fun h => Bool.noConfusion h), fun _ => ⟨lw_in (by decide +kernel) rfl, lw_in (by decide +kernel) rfl⟩, lw_in (by decide +kernel) rfl, (by show _ ∧ _ ∧ _ = some 1; decide +kernel), ⟨(fun h => Bool.noConfusion h), (fun h => by cases h)⟩, by decide⟩
theorem lkL_B_tick (pre : List Int → jm_S → Prop) (post : List Int → jm_S → Int → jm_S → Prop) : jm_Lk R_law 45 y_B_tick b_B_tick 5 (some .int) (false, 1, false, pre, post) := ⟨lw_in (by decide +kernel) rfl, lw_in (List.mem_of_getElem? (i := 224) rfl) rfl, (fun h => Bool.noConfusion h), fun _ => ⟨lw_in (by decide +kernel) rfl, lw_in (by decide +kernel) rfl⟩, lw_in (by decide +kernel) rfl, (by show _ ∧ _ ∧ _ = some 1; decide +kernel), ⟨(fun h => Bool.noConfusion h), (fun h => by cases h)⟩, by decide⟩
theorem lkL_B_since (pre : List Int → jm_S → Prop) (post : List Int → jm_S → Int → jm_S → Prop) : jm_Lk R_law 49 y_B_since b_B_since 2 (some .int) (false, 1, false, pre, post) := ⟨lw_in (by decide +kernel) rfl, lw_in (List.mem_of_getElem? (i := 248) rfl) rfl, (fun h => Bool.noConfusion h), fun _ => ⟨lw_in (by decide +kernel) rfl, lw_in (by decide +kernel) rfl⟩, lw_in (by decide +kernel) rfl, (by show _ ∧ _ ∧ _ = some 1; decide +kernel), ⟨(fun h => Bool.noConfusion h), (fun h => by cases h)⟩, by decide⟩
theorem lkL_B_count (pre : List Int → jm_S → Prop) (post : List Int → jm_S → Int → jm_S → Prop) : jm_Lk R_law 53 y_B_count b_B_count 4 (some .int) (false, 1, false, pre, post) := ⟨lw_in (by decide +kernel) rfl, lw_in (List.mem_of_getElem? (i := 252) rfl) rfl, (fun h => Bool.noConfusion h), fun _ => ⟨lw_in (by decide +kernel) rfl, lw_in (by decide +kernel) rfl⟩, lw_in (by decide +kernel) rfl, (by show _ ∧ _ ∧ _ = some 1; decide +kernel), ⟨(fun h => Bool.noConfusion h), (fun h => by cases h)⟩, by decide⟩
theorem lkL_B_dark (pre : List Int → jm_S → Prop) (post : List Int → jm_S → Int → jm_S → Prop) : jm_Lk R_law 57 y_B_dark b_B_dark 5 (some .int) (false, 2, false, pre, post) := ⟨lw_in (by decide +kernel) rfl, lw_in (List.mem_of_getElem? (i := 256) rfl) rfl, (fun h => Bool.noConfusion h), fun _ => ⟨lw_in (by decide +kernel) rfl, lw_in (by decide +kernel) rfl⟩, lw_in (by decide +kernel) rfl, (by show _ ∧ _ ∧ _ = some 2; decide +kernel), ⟨(fun h => Bool.noConfusion h), (fun h => by cases h)⟩, by decide⟩
theorem lkL_B_lit (pre : List Int → jm_S → Prop) (post : List Int → jm_S → Int → jm_S → Prop) : jm_Lk R_law 62 y_B_lit b_B_lit 8 (some .int) (false, 2, false, pre, post) := ⟨lw_in (by decide +kernel) rfl, lw_in (List.mem_of_getElem? (i := 260) rfl) rfl, (fun h => Bool.noConfusion h), fun _ => ⟨lw_in (by decide +kernel) rfl, lw_in (by decide +kernel) rfl⟩, lw_in (by decide +kernel) rfl, (by show _ ∧ _ ∧ _ = some 2; decide +kernel), ⟨(fun h => Bool.noConfusion h), (fun h => by cases h)⟩, by decide⟩
theorem lkL_M_put (pre : List Int → jm_S → Prop) (post : List Int → jm_S → Int → jm_S → Prop) : jm_Lk R_law 17 y_M_put b_M_put 7 (some .int) (false, 4, false, pre, post) := ⟨lw_in (by decide +kernel) rfl, lw_in (List.mem_of_getElem? (i := 317) rfl) rfl, (fun h => Bool.noConfusion h), fun _ => ⟨lw_in (by decide +kernel) rfl, lw_in (by decide +kernel) rfl⟩, lw_in (by decide +kernel) rfl, (by show _ ∧ _ ∧ _ = some 4; decide +kernel), ⟨(fun h => Bool.noConfusion h), (fun h => by cases h)⟩, by decide⟩
theorem lkL_M_fill (pre : List Int → jm_S → Prop) (post : List Int → jm_S → Int → jm_S → Prop) : jm_Lk R_law 22 y_M_fill b_M_fill 11 (some .int) (false, 7, false, pre, post) := ⟨lw_in (by decide +kernel) rfl, lw_in (List.mem_of_getElem? (i := 337) rfl) rfl, (fun h => Bool.noConfusion h), fun _ => ⟨lw_in (by decide +kernel) rfl, lw_in (by decide +kernel) rfl⟩, lw_in (by decide +kernel) rfl, (by show _ ∧ _ ∧ _ = some 7; decide +kernel), ⟨(fun h => Bool.noConfusion h), (fun h => by cases h)⟩, by decide⟩
theorem lkL_M_block (pre : List Int → jm_S → Prop) (post : List Int → jm_S → Int → jm_S → Prop) : jm_Lk R_law 27 y_M_block b_M_block 2 (some .int) (false, 1, false, pre, post) := ⟨lw_in (by decide +kernel) rfl, lw_in (List.mem_of_getElem? (i := 341) rfl) rfl, (fun h => Bool.noConfusion h), fun _ => ⟨lw_in (by decide +kernel) rfl, lw_in (by decide +kernel) rfl⟩, lw_in (by decide +kernel) rfl, (by show _ ∧ _ ∧ _ = some 1; decide +kernel), ⟨(fun h => Bool.noConfusion h), (fun h => by cases h)⟩, by decide⟩
theorem lkL_M_light (pre : List Int → jm_S → Prop) (post : List Int → jm_S → Int → jm_S → Prop) : jm_Lk R_law 31 y_M_light b_M_light 2 (some .int) (false, 1, false, pre, post) := ⟨lw_in (by decide +kernel) rfl, lw_in (List.mem_of_getElem? (i := 345) rfl) rfl, (fun h => Bool.noConfusion h), fun _ => ⟨lw_in (by decide +kernel) rfl, lw_in (by decide +kernel) rfl⟩, lw_in (by decide +kernel) rfl, (by show _ ∧ _ ∧ _ = some 1; decide +kernel), ⟨(fun h => Bool.noConfusion h), (fun h => by cases h)⟩, by decide⟩
theorem lkL_M_sky (pre : List Int → jm_S → Prop) (post : List Int → jm_S → Int → jm_S → Prop) : jm_Lk R_law 35 y_M_sky b_M_sky 2 (some .int) (false, 1, false, pre, post) := ⟨lw_in (by decide +kernel) rfl, lw_in (List.mem_of_getElem? (i := 381) rfl) rfl, (fun h => Bool.noConfusion h), fun _ => ⟨lw_in (by decide +kernel) rfl, lw_in (by decide +kernel) rfl⟩, lw_in (by decide +kernel) rfl, (by show _ ∧ _ ∧ _ = some 1; decide +kernel), ⟨(fun h => Bool.noConfusion h), (fun h => by cases h)⟩, by decide⟩
theorem lkL_M_power (pre : List Int → jm_S → Prop) (post : List Int → jm_S → Int → jm_S → Prop) : jm_Lk R_law 39 y_M_power b_M_power 3 (some .int) (false, 1, false, pre, post) := ⟨lw_in (by decide +kernel) rfl, lw_in (List.mem_of_getElem? (i := 389) rfl) rfl, (fun h => Bool.noConfusion h), fun _ => ⟨lw_in (by decide +kernel) rfl, lw_in (by decide +kernel) rfl⟩, lw_in (by decide +kernel) rfl, (by show _ ∧ _ ∧ _ = some 1; decide +kernel), ⟨(fun h => Bool.noConfusion h), (fun h => by cases h)⟩, by decide⟩
theorem lkL_M_fed (pre : List Int → jm_S → Prop) (post : List Int → jm_S → Int → jm_S → Prop) : jm_Lk R_law 44 y_M_fed b_M_fed 2 (some .boolean) (false, 1, false, pre, post) := ⟨lw_in (by decide +kernel) rfl, lw_in (List.mem_of_getElem? (i := 393) rfl) rfl, (fun h => Bool.noConfusion h), fun _ => ⟨lw_in (by decide +kernel) rfl, lw_in (by decide +kernel) rfl⟩, lw_in (by decide +kernel) rfl, (by show _ ∧ _ ∧ _ = some 1; decide +kernel), ⟨(fun h => Bool.noConfusion h), (fun h => by cases h)⟩, by decide⟩
theorem lkL_M_tick (pre : List Int → jm_S → Prop) (post : List Int → jm_S → Int → jm_S → Prop) : jm_Lk R_law 48 y_M_tick b_M_tick 5 (some .int) (false, 1, false, pre, post) := ⟨lw_in (by decide +kernel) rfl, lw_in (List.mem_of_getElem? (i := 397) rfl) rfl, (fun h => Bool.noConfusion h), fun _ => ⟨lw_in (by decide +kernel) rfl, lw_in (by decide +kernel) rfl⟩, lw_in (by decide +kernel) rfl, (by show _ ∧ _ ∧ _ = some 1; decide +kernel), ⟨(fun h => Bool.noConfusion h), (fun h => by cases h)⟩, by decide⟩
theorem lkL_M_since (pre : List Int → jm_S → Prop) (post : List Int → jm_S → Int → jm_S → Prop) : jm_Lk R_law 52 y_M_since b_M_since 2 (some .int) (false, 1, false, pre, post) := ⟨lw_in (by decide +kernel) rfl, lw_in (List.mem_of_getElem? (i := 417) rfl) rfl, (fun h => Bool.noConfusion h), fun _ => ⟨lw_in (by decide +kernel) rfl, lw_in (by decide +kernel) rfl⟩, lw_in (by decide +kernel) rfl, (by show _ ∧ _ ∧ _ = some 1; decide +kernel), ⟨(fun h => Bool.noConfusion h), (fun h => by cases h)⟩, by decide⟩
theorem lkL_M_count (pre : List Int → jm_S → Prop) (post : List Int → jm_S → Int → jm_S → Prop) : jm_Lk R_law 56 y_M_count b_M_count 5 (some .int) (false, 1, false, pre, post) := ⟨lw_in (by decide +kernel) rfl, lw_in (List.mem_of_getElem? (i := 421) rfl) rfl, (fun h => Bool.noConfusion h), fun _ => ⟨lw_in (by decide +kernel) rfl, lw_in (by decide +kernel) rfl⟩, lw_in (by decide +kernel) rfl, (by show _ ∧ _ ∧ _ = some 1; decide +kernel), ⟨(fun h => Bool.noConfusion h), (fun h => by cases h)⟩, by decide⟩
theorem lkL_M_dark (pre : List Int → jm_S → Prop) (post : List Int → jm_S → Int → jm_S → Prop) : jm_Lk R_law 61 y_M_dark b_M_dark 5 (some .int) (false, 2, false, pre, post) := ⟨lw_in (by decide +kernel) rfl, lw_in (List.mem_of_getElem? (i := 425) rfl) rfl, (fun h => Bool.noConfusion h), fun _ => ⟨lw_in (by decide +kernel) rfl, lw_in (by decide +kernel) rfl⟩, lw_in (by decide +kernel) rfl, (by show _ ∧ _ ∧ _ = some 2; decide +kernel), ⟨(fun h => Bool.noConfusion h), (fun h => by cases h)⟩, by decide⟩
theorem lkL_M_lit (pre : List Int → jm_S → Prop) (post : List Int → jm_S → Int → jm_S → Prop) : jm_Lk R_law 65 y_M_lit b_M_lit 6 (some .int) (false, 2, false, pre, post) := ⟨lw_in (by decide +kernel) rfl, lw_in (List.mem_of_getElem? (i := 429) rfl) rfl, (fun h => Bool.noConfusion h), fun _ => ⟨lw_in (by decide +kernel) rfl, lw_in (by decide +kernel) rfl⟩, lw_in (by decide +kernel) rfl, (by show _ ∧ _ ∧ _ = some 2; decide +kernel), ⟨(fun h => Bool.noConfusion h), (fun h => by cases h)⟩, by decide⟩
end
section
/-! the law: its loop -/
set_option maxHeartbeats 16000000 in
set_option maxRecDepth 100000 in
theorem law_loop {p : Program} {l : Launch} {e : Env} {s : State} {m : MethodId} {below : List Frame} {meth : Method} {c : Code} {b L : Nat} {xs : Nat → Int32} (hL : L ≤ 4096) (C0 : lw_At p s m meth c b L xs) {G : va_G} {oB oM : Nat} {aB aM : Nat → Nat} {cB cM : Nat → ClassId}
    (hKB : va_K G classes (jm_tys D_B ks_B cB) s) (hKM : va_K G classes (jm_tys D_M ks_M cM) s) (hDB : ∀ σ, va_D (fun q : Nat => s.heap.size ≤ q) (jm_pic D_B 17 ks_B 0 oB aB cB σ)) (hDM : ∀ τ, va_D (fun q : Nat => s.heap.size ≤ q) (jm_pic D_M 14 ks_M 1 oM aM cM τ))
    (hdj : ∀ (σ τ : jm_S) (i j : Nat) (p q : Nat × va_E), (jm_pic D_B 17 ks_B 0 oB aB cB σ)[i]? = some p → (jm_pic D_M 14 ks_M 1 oM aM cM τ)[j]? = some q → p.1 ≠ q.1) :
    ∀ (n i : Nat) (σ τ : jm_S), L < i + 8 + 8 * n → i ≤ L + 8 → lx_R i σ τ → ∀ (H : Heap) (locs : List Loc) (ls : Array Slot), va_P G classes (jm_pic D_B 17 ks_B 0 oB aB cB σ) H → va_P G classes (jm_pic D_M 14 ks_M 1 oM aM cM τ) H → va_S (fun q : Nat => s.heap.size ≤ q) s.heap H locs → lv_has ls 4 [(0, .ref b), (1, .ref oB), (2, .ref oM), (3, .int (Int32.ofInt (i : Int)))] →
      W p l e room_1 s m #[Value.ref b] below meth c H locs 27 8947 (lw_Z below #[Value.ref b] s) (F0 m 18 ls []) := by
  obtain ⟨hx, hb, hr, hml, hown, hts, hX, hbl, hlocks, hgv⟩ := id C0
  have htg : ∀ w ∈ lw_g, w.before #[Value.ref b] s = true := fun w hw => hts w (lw_out hw)
  have hA : ∀ q : Nat, s.heap.size ≤ q → (fun q : Nat => s.heap.size ≤ q) q := fun _ h => h
  have hbA : ¬ (fun q : Nat => s.heap.size ≤ q) b := Nat.not_le.mpr hbl
  intro n
  induction n with
  | zero =>
    intro i σ τ hn hi hR H locs ls hPB hPM hS hl
    refine lv_iload_n hx hb d_law_18 rfl (lv_at hl 3 rfl) ?_
    refine lv_aload_n hx hb d_law_19 rfl (lv_at hl 0 rfl) ?_
    refine va_slen hx hb hX hbl hbA hS d_law_20 ?_
    refine lv_bipush (v := Int32.ofInt 8) hx hb d_law_21 (by decide) ?_
    refine lv_isub hx hb d_law_23 ?_
    rw [← Int32.ofInt_eq_ofNat, ← Int32.ofInt_sub]
    refine lv_icmp_gt (tgt := 492) hx hb d_law_24 (by decide) (fun q => ?_) (fun q => ?_)
    · refine lv_iconst (v := 1) hx hb d_law_492 (by decide) ?_
      refine va_forget (fun q hq => hS.2.2 q hq) ?_
      exact lw_ret hx hb hr hlocks d_law_493
    · rw [ji_lt (by omega) (by omega)] at q
      omega
  | succ n ih =>
    intro i σ τ hn hi hR H locs ls hPB hPM hS hl
    refine lv_iload_n hx hb d_law_18 rfl (lv_at hl 3 rfl) ?_
    refine lv_aload_n hx hb d_law_19 rfl (lv_at hl 0 rfl) ?_
    refine va_slen hx hb hX hbl hbA hS d_law_20 ?_
    refine lv_bipush (v := Int32.ofInt 8) hx hb d_law_21 (by decide) ?_
    refine lv_isub hx hb d_law_23 ?_
    rw [← Int32.ofInt_eq_ofNat, ← Int32.ofInt_sub]
    refine lv_icmp_gt (tgt := 492) hx hb d_law_24 (by decide) (fun q => ?_) (fun q => ?_)
    · refine lv_iconst (v := 1) hx hb d_law_492 (by decide) ?_
      refine va_forget (fun q hq => hS.2.2 q hq) ?_
      exact lw_ret hx hb hr hlocks d_law_493
    · rw [ji_lt (by omega) (by omega)] at q
      have hi8 : i + 8 ≤ L := by omega
      have next : ∀ (σ' τ' : jm_S), lx_R (i + 8) σ' τ' → ∀ (H : Heap) (locs : List Loc), va_P G classes (jm_pic D_B 17 ks_B 0 oB aB cB σ') H → va_P G classes (jm_pic D_M 14 ks_M 1 oM aM cM τ') H → va_S (fun q : Nat => s.heap.size ≤ q) s.heap H locs → W p l e room_1 s m #[Value.ref b] below meth c H locs 27 8947 (lw_Z below #[Value.ref b] s) (F0 m 486 ls []) := by
        intro σ' τ' hR2 H locs hPB hPM hS
        refine lv_iinc (v := Int32.ofInt ((i + 8 : Nat) : Int)) (lv' := [(3, .int (Int32.ofInt ((i + 8 : Nat) : Int))), (0, .ref b), (1, .ref oB), (2, .ref oM)]) hx hb d_law_486 hl (k := 3) rfl (by rw [Int.natCast_add, Int32.ofInt_add]; rfl) (by decide) rfl (fun ls hl => ?_)
        refine lv_goto (tgt := 18) hx hb d_law_489 (by decide) ?_
        exact ih (i + 8) σ' τ' (by omega) (by omega) hR2 H locs ls hPB hPM hS (lv_sub hl [1, 2, 3, 0] rfl)
      refine lv_aload_n hx hb d_law_27 rfl (lv_at hl 0 rfl) ?_
      refine lv_iload_n hx hb d_law_28 rfl (lv_at hl 3 rfl) ?_
      refine lx_ld hx hb hX hbl hbA hS hL (show i < L by omega) d_law_29 ?_
      refine lv_bipush (v := Int32.ofInt 15) hx hb d_law_30 (by decide) ?_
      refine lv_iand hx hb d_law_32 ?_
      rw [ji_and15]
      have hm : 0 ≤ (xs i).toInt % 16 ∧ (xs i).toInt % 16 < 16 := by omega
      generalize (xs i).toInt % 16 = cmd at hm ⊢
      have hcs : cmd = 0 ∨ cmd = 1 ∨ cmd = 2 ∨ cmd = 3 ∨ cmd = 4 ∨ cmd = 5 ∨ cmd = 6 ∨ cmd = 7 ∨ cmd = 8 ∨ cmd = 9 ∨ cmd = 10 ∨ cmd = 11 ∨ 11 < cmd := by omega
      rcases hcs with hcmd | hcmd | hcmd | hcmd | hcmd | hcmd | hcmd | hcmd | hcmd | hcmd | hcmd | hcmd | hcmd
      · -- command 0
        subst hcmd
        refine lv_tableIn (x := Int32.ofInt 0) (off := 63) (tgt := 96) hx hb d_law_33 (by decide) (by decide) (by decide) (by decide) ?_
        refine lv_aload_n hx hb d_law_96 rfl (lv_at hl 1 rfl) ?_
        refine lx_arg hx hb hX hbl hbA hS hL hl 1 (by decide) (by omega) d_law_97 d_law_98 d_law_99 d_law_100 d_law_101 ?_
        refine lx_arg hx hb hX hbl hbA hS hL hl 2 (by decide) (by omega) d_law_102 d_law_103 d_law_104 d_law_105 d_law_106 ?_
        refine lx_arg hx hb hX hbl hbA hS hL hl 3 (by decide) (by omega) d_law_107 d_law_108 d_law_109 d_law_110 d_law_111 ?_
        refine lx_arg hx hb hX hbl hbA hS hL hl 4 (by decide) (by omega) d_law_112 d_law_113 d_law_114 d_law_115 d_law_116 ?_
        obtain ⟨hpB, hpM, hrel⟩ := lx_put i [(xs (i + 1)).toInt, (xs (i + 2)).toInt, (xs (i + 3)).toInt, (xs (i + 4)).toInt] σ τ rfl (by omega) hR
        refine lx_call (z := false) (as := [(xs (i + 1)).toInt, (xs (i + 2)).toInt, (xs (i + 3)).toInt, (xs (i + 4)).toInt]) (rest := []) hx hb hml hown htg hKB rfl hA hDB (fun σ i j p q h1 h2 => hdj σ τ i j p q h1 h2) con_B_put (lkL_B_put _ _) rfl rfl (by decide) rfl (fun x hx => by simp only [List.mem_cons, List.not_mem_nil, or_false] at hx; rcases hx with rfl | rfl | rfl | rfl <;> exact lx_rg _) hR.1.1 hpB rfl (by decide) hl.1 d_law_117 hPB hPM hS (fun rB σ' H locs hrB hsB hqB hPB hPM hS => ?_)
        refine lv_aload_n hx hb d_law_120 rfl (lv_at hl 2 rfl) ?_
        refine lx_arg hx hb hX hbl hbA hS hL hl 1 (by decide) (by omega) d_law_121 d_law_122 d_law_123 d_law_124 d_law_125 ?_
        refine lx_arg hx hb hX hbl hbA hS hL hl 2 (by decide) (by omega) d_law_126 d_law_127 d_law_128 d_law_129 d_law_130 ?_
        refine lx_arg hx hb hX hbl hbA hS hL hl 3 (by decide) (by omega) d_law_131 d_law_132 d_law_133 d_law_134 d_law_135 ?_
        refine lx_arg hx hb hX hbl hbA hS hL hl 4 (by decide) (by omega) d_law_136 d_law_137 d_law_138 d_law_139 d_law_140 ?_
        refine lx_call (z := false) (as := [(xs (i + 1)).toInt, (xs (i + 2)).toInt, (xs (i + 3)).toInt, (xs (i + 4)).toInt]) (rest := [.int (Int32.ofInt rB)]) hx hb hml hown htg hKM rfl hA hDM (fun τ i j p q h1 h2 => (hdj σ' τ j i q p h2 h1).symm) con_M_put (lkL_M_put _ _) rfl rfl (by decide) rfl (fun x hx => by simp only [List.mem_cons, List.not_mem_nil, or_false] at hx; rcases hx with rfl | rfl | rfl | rfl <;> exact lx_rg _) hR.1.2 hpM rfl (Nat.le_of_ble_eq_true rfl) hl.1 d_law_141 hPM hPB hS (fun rM τ' H locs hrM hsM hqM hPM hPB hS => ?_)
        obtain ⟨hrr, hR2⟩ := hrel rB rM σ' τ' hsB hsM hqB hqM
        refine lv_icmp_eq (tgt := 486) hx hb d_law_144 (by decide) (fun _ => ?_) (fun hne => absurd (by rw [hrr]) hne)
        exact next σ' τ' hR2 H locs hPB hPM hS
      · -- command 1
        subst hcmd
        refine lv_tableIn (x := Int32.ofInt 1) (off := 116) (tgt := 149) hx hb d_law_33 (by decide) (by decide) (by decide) (by decide) ?_
        refine lv_aload_n hx hb d_law_149 rfl (lv_at hl 1 rfl) ?_
        refine lx_arg hx hb hX hbl hbA hS hL hl 1 (by decide) (by omega) d_law_150 d_law_151 d_law_152 d_law_153 d_law_154 ?_
        refine lx_arg hx hb hX hbl hbA hS hL hl 2 (by decide) (by omega) d_law_155 d_law_156 d_law_157 d_law_158 d_law_159 ?_
        refine lx_arg hx hb hX hbl hbA hS hL hl 3 (by decide) (by omega) d_law_160 d_law_161 d_law_162 d_law_163 d_law_164 ?_
        refine lx_arg hx hb hX hbl hbA hS hL hl 4 (by decide) (by omega) d_law_165 d_law_166 d_law_167 d_law_168 d_law_169 ?_
        refine lx_arg hx hb hX hbl hbA hS hL hl 5 (by decide) (by omega) d_law_170 d_law_171 d_law_172 d_law_173 d_law_174 ?_
        refine lx_arg6 hx hb hX hbl hbA hS hL hl 6 (by decide) (by omega) d_law_175 d_law_176 d_law_177 d_law_179 d_law_180 ?_
        refine lx_arg6 hx hb hX hbl hbA hS hL hl 7 (by decide) (by omega) d_law_181 d_law_182 d_law_183 d_law_185 d_law_186 ?_
        obtain ⟨hpB, hpM, hrel⟩ := lx_fill i [(xs (i + 1)).toInt, (xs (i + 2)).toInt, (xs (i + 3)).toInt, (xs (i + 4)).toInt, (xs (i + 5)).toInt, (xs (i + 6)).toInt, (xs (i + 7)).toInt] σ τ rfl (by omega) hR
        refine lx_call (z := false) (as := [(xs (i + 1)).toInt, (xs (i + 2)).toInt, (xs (i + 3)).toInt, (xs (i + 4)).toInt, (xs (i + 5)).toInt, (xs (i + 6)).toInt, (xs (i + 7)).toInt]) (rest := []) hx hb hml hown htg hKB rfl hA hDB (fun σ i j p q h1 h2 => hdj σ τ i j p q h1 h2) con_B_fill (lkL_B_fill _ _) rfl rfl (by decide) rfl (fun x hx => by simp only [List.mem_cons, List.not_mem_nil, or_false] at hx; rcases hx with rfl | rfl | rfl | rfl | rfl | rfl | rfl <;> exact lx_rg _) hR.1.1 hpB rfl (by decide) hl.1 d_law_187 hPB hPM hS (fun rB σ' H locs hrB hsB hqB hPB hPM hS => ?_)
        refine lv_aload_n hx hb d_law_190 rfl (lv_at hl 2 rfl) ?_
        refine lx_arg hx hb hX hbl hbA hS hL hl 1 (by decide) (by omega) d_law_191 d_law_192 d_law_193 d_law_194 d_law_195 ?_
        refine lx_arg hx hb hX hbl hbA hS hL hl 2 (by decide) (by omega) d_law_196 d_law_197 d_law_198 d_law_199 d_law_200 ?_
        refine lx_arg hx hb hX hbl hbA hS hL hl 3 (by decide) (by omega) d_law_201 d_law_202 d_law_203 d_law_204 d_law_205 ?_
        refine lx_arg hx hb hX hbl hbA hS hL hl 4 (by decide) (by omega) d_law_206 d_law_207 d_law_208 d_law_209 d_law_210 ?_
        refine lx_arg hx hb hX hbl hbA hS hL hl 5 (by decide) (by omega) d_law_211 d_law_212 d_law_213 d_law_214 d_law_215 ?_
        refine lx_arg6 hx hb hX hbl hbA hS hL hl 6 (by decide) (by omega) d_law_216 d_law_217 d_law_218 d_law_220 d_law_221 ?_
        refine lx_arg6 hx hb hX hbl hbA hS hL hl 7 (by decide) (by omega) d_law_222 d_law_223 d_law_224 d_law_226 d_law_227 ?_
        refine lx_call (z := false) (as := [(xs (i + 1)).toInt, (xs (i + 2)).toInt, (xs (i + 3)).toInt, (xs (i + 4)).toInt, (xs (i + 5)).toInt, (xs (i + 6)).toInt, (xs (i + 7)).toInt]) (rest := [.int (Int32.ofInt rB)]) hx hb hml hown htg hKM rfl hA hDM (fun τ i j p q h1 h2 => (hdj σ' τ j i q p h2 h1).symm) con_M_fill (lkL_M_fill _ _) rfl rfl (by decide) rfl (fun x hx => by simp only [List.mem_cons, List.not_mem_nil, or_false] at hx; rcases hx with rfl | rfl | rfl | rfl | rfl | rfl | rfl <;> exact lx_rg _) hR.1.2 hpM rfl (Nat.le_of_ble_eq_true rfl) hl.1 d_law_228 hPM hPB hS (fun rM τ' H locs hrM hsM hqM hPM hPB hS => ?_)
        obtain ⟨hrr, hR2⟩ := hrel rB rM σ' τ' hsB hsM hqB hqM
        refine lv_icmp_eq (tgt := 486) hx hb d_law_231 (by decide) (fun _ => ?_) (fun hne => absurd (by rw [hrr]) hne)
        exact next σ' τ' hR2 H locs hPB hPM hS
      · -- command 2
        subst hcmd
        refine lv_tableIn (x := Int32.ofInt 2) (off := 203) (tgt := 236) hx hb d_law_33 (by decide) (by decide) (by decide) (by decide) ?_
        refine lv_aload_n hx hb d_law_236 rfl (lv_at hl 1 rfl) ?_
        refine lx_arg hx hb hX hbl hbA hS hL hl 1 (by decide) (by omega) d_law_237 d_law_238 d_law_239 d_law_240 d_law_241 ?_
        obtain ⟨hpB, hpM, hrel⟩ := lx_block i [(xs (i + 1)).toInt] σ τ rfl (by omega) hR
        refine lx_call (z := false) (as := [(xs (i + 1)).toInt]) (rest := []) hx hb hml hown htg hKB rfl hA hDB (fun σ i j p q h1 h2 => hdj σ τ i j p q h1 h2) con_B_block (lkL_B_block _ _) rfl rfl (by decide) rfl (fun x hx => by simp only [List.mem_cons, List.not_mem_nil, or_false] at hx; subst hx; exact lx_rg _) hR.1.1 hpB rfl (by decide) hl.1 d_law_242 hPB hPM hS (fun rB σ' H locs hrB hsB hqB hPB hPM hS => ?_)
        refine lv_aload_n hx hb d_law_245 rfl (lv_at hl 2 rfl) ?_
        refine lx_arg hx hb hX hbl hbA hS hL hl 1 (by decide) (by omega) d_law_246 d_law_247 d_law_248 d_law_249 d_law_250 ?_
        refine lx_call (z := false) (as := [(xs (i + 1)).toInt]) (rest := [.int (Int32.ofInt rB)]) hx hb hml hown htg hKM rfl hA hDM (fun τ i j p q h1 h2 => (hdj σ' τ j i q p h2 h1).symm) con_M_block (lkL_M_block _ _) rfl rfl (by decide) rfl (fun x hx => by simp only [List.mem_cons, List.not_mem_nil, or_false] at hx; subst hx; exact lx_rg _) hR.1.2 hpM rfl (Nat.le_of_ble_eq_true rfl) hl.1 d_law_251 hPM hPB hS (fun rM τ' H locs hrM hsM hqM hPM hPB hS => ?_)
        obtain ⟨hrr, hR2⟩ := hrel rB rM σ' τ' hsB hsM hqB hqM
        refine lv_icmp_eq (tgt := 486) hx hb d_law_254 (by decide) (fun _ => ?_) (fun hne => absurd (by rw [hrr]) hne)
        exact next σ' τ' hR2 H locs hPB hPM hS
      · -- command 3
        subst hcmd
        refine lv_tableIn (x := Int32.ofInt 3) (off := 226) (tgt := 259) hx hb d_law_33 (by decide) (by decide) (by decide) (by decide) ?_
        refine lv_aload_n hx hb d_law_259 rfl (lv_at hl 1 rfl) ?_
        refine lx_arg hx hb hX hbl hbA hS hL hl 1 (by decide) (by omega) d_law_260 d_law_261 d_law_262 d_law_263 d_law_264 ?_
        obtain ⟨hpB, hpM, hrel⟩ := lx_light i [(xs (i + 1)).toInt] σ τ rfl (by omega) hR
        refine lx_call (z := false) (as := [(xs (i + 1)).toInt]) (rest := []) hx hb hml hown htg hKB rfl hA hDB (fun σ i j p q h1 h2 => hdj σ τ i j p q h1 h2) con_B_light (lkL_B_light _ _) rfl rfl (by decide) rfl (fun x hx => by simp only [List.mem_cons, List.not_mem_nil, or_false] at hx; subst hx; exact lx_rg _) hR.1.1 hpB rfl (by decide) hl.1 d_law_265 hPB hPM hS (fun rB σ' H locs hrB hsB hqB hPB hPM hS => ?_)
        refine lv_aload_n hx hb d_law_268 rfl (lv_at hl 2 rfl) ?_
        refine lx_arg hx hb hX hbl hbA hS hL hl 1 (by decide) (by omega) d_law_269 d_law_270 d_law_271 d_law_272 d_law_273 ?_
        refine lx_call (z := false) (as := [(xs (i + 1)).toInt]) (rest := [.int (Int32.ofInt rB)]) hx hb hml hown htg hKM rfl hA hDM (fun τ i j p q h1 h2 => (hdj σ' τ j i q p h2 h1).symm) con_M_light (lkL_M_light _ _) rfl rfl (by decide) rfl (fun x hx => by simp only [List.mem_cons, List.not_mem_nil, or_false] at hx; subst hx; exact lx_rg _) hR.1.2 hpM rfl (Nat.le_of_ble_eq_true rfl) hl.1 d_law_274 hPM hPB hS (fun rM τ' H locs hrM hsM hqM hPM hPB hS => ?_)
        obtain ⟨hrr, hR2⟩ := hrel rB rM σ' τ' hsB hsM hqB hqM
        refine lv_icmp_eq (tgt := 486) hx hb d_law_277 (by decide) (fun _ => ?_) (fun hne => absurd (by rw [hrr]) hne)
        exact next σ' τ' hR2 H locs hPB hPM hS
      · -- command 4
        subst hcmd
        refine lv_tableIn (x := Int32.ofInt 4) (off := 249) (tgt := 282) hx hb d_law_33 (by decide) (by decide) (by decide) (by decide) ?_
        refine lv_aload_n hx hb d_law_282 rfl (lv_at hl 1 rfl) ?_
        refine lx_arg hx hb hX hbl hbA hS hL hl 1 (by decide) (by omega) d_law_283 d_law_284 d_law_285 d_law_286 d_law_287 ?_
        obtain ⟨hpB, hpM, hrel⟩ := lx_sky i [(xs (i + 1)).toInt] σ τ rfl (by omega) hR
        refine lx_call (z := false) (as := [(xs (i + 1)).toInt]) (rest := []) hx hb hml hown htg hKB rfl hA hDB (fun σ i j p q h1 h2 => hdj σ τ i j p q h1 h2) con_B_sky (lkL_B_sky _ _) rfl rfl (by decide) rfl (fun x hx => by simp only [List.mem_cons, List.not_mem_nil, or_false] at hx; subst hx; exact lx_rg _) hR.1.1 hpB rfl (by decide) hl.1 d_law_288 hPB hPM hS (fun rB σ' H locs hrB hsB hqB hPB hPM hS => ?_)
        refine lv_aload_n hx hb d_law_291 rfl (lv_at hl 2 rfl) ?_
        refine lx_arg hx hb hX hbl hbA hS hL hl 1 (by decide) (by omega) d_law_292 d_law_293 d_law_294 d_law_295 d_law_296 ?_
        refine lx_call (z := false) (as := [(xs (i + 1)).toInt]) (rest := [.int (Int32.ofInt rB)]) hx hb hml hown htg hKM rfl hA hDM (fun τ i j p q h1 h2 => (hdj σ' τ j i q p h2 h1).symm) con_M_sky (lkL_M_sky _ _) rfl rfl (by decide) rfl (fun x hx => by simp only [List.mem_cons, List.not_mem_nil, or_false] at hx; subst hx; exact lx_rg _) hR.1.2 hpM rfl (Nat.le_of_ble_eq_true rfl) hl.1 d_law_297 hPM hPB hS (fun rM τ' H locs hrM hsM hqM hPM hPB hS => ?_)
        obtain ⟨hrr, hR2⟩ := hrel rB rM σ' τ' hsB hsM hqB hqM
        refine lv_icmp_eq (tgt := 486) hx hb d_law_300 (by decide) (fun _ => ?_) (fun hne => absurd (by rw [hrr]) hne)
        exact next σ' τ' hR2 H locs hPB hPM hS
      · -- command 5
        subst hcmd
        refine lv_tableIn (x := Int32.ofInt 5) (off := 272) (tgt := 305) hx hb d_law_33 (by decide) (by decide) (by decide) (by decide) ?_
        refine lv_aload_n hx hb d_law_305 rfl (lv_at hl 1 rfl) ?_
        refine lx_arg hx hb hX hbl hbA hS hL hl 1 (by decide) (by omega) d_law_306 d_law_307 d_law_308 d_law_309 d_law_310 ?_
        obtain ⟨hpB, hpM, hrel⟩ := lx_power i [(xs (i + 1)).toInt] σ τ rfl (by omega) hR
        refine lx_call (z := false) (as := [(xs (i + 1)).toInt]) (rest := []) hx hb hml hown htg hKB rfl hA hDB (fun σ i j p q h1 h2 => hdj σ τ i j p q h1 h2) con_B_power (lkL_B_power _ _) rfl rfl (by decide) rfl (fun x hx => by simp only [List.mem_cons, List.not_mem_nil, or_false] at hx; subst hx; exact lx_rg _) hR.1.1 hpB rfl (by decide) hl.1 d_law_311 hPB hPM hS (fun rB σ' H locs hrB hsB hqB hPB hPM hS => ?_)
        refine lv_aload_n hx hb d_law_314 rfl (lv_at hl 2 rfl) ?_
        refine lx_arg hx hb hX hbl hbA hS hL hl 1 (by decide) (by omega) d_law_315 d_law_316 d_law_317 d_law_318 d_law_319 ?_
        refine lx_call (z := false) (as := [(xs (i + 1)).toInt]) (rest := [.int (Int32.ofInt rB)]) hx hb hml hown htg hKM rfl hA hDM (fun τ i j p q h1 h2 => (hdj σ' τ j i q p h2 h1).symm) con_M_power (lkL_M_power _ _) rfl rfl (by decide) rfl (fun x hx => by simp only [List.mem_cons, List.not_mem_nil, or_false] at hx; subst hx; exact lx_rg _) hR.1.2 hpM rfl (Nat.le_of_ble_eq_true rfl) hl.1 d_law_320 hPM hPB hS (fun rM τ' H locs hrM hsM hqM hPM hPB hS => ?_)
        obtain ⟨hrr, hR2⟩ := hrel rB rM σ' τ' hsB hsM hqB hqM
        refine lv_icmp_eq (tgt := 486) hx hb d_law_323 (by decide) (fun _ => ?_) (fun hne => absurd (by rw [hrr]) hne)
        exact next σ' τ' hR2 H locs hPB hPM hS
      · -- command 6
        subst hcmd
        refine lv_tableIn (x := Int32.ofInt 6) (off := 295) (tgt := 328) hx hb d_law_33 (by decide) (by decide) (by decide) (by decide) ?_
        refine lv_aload_n hx hb d_law_328 rfl (lv_at hl 1 rfl) ?_
        refine lx_arg hx hb hX hbl hbA hS hL hl 1 (by decide) (by omega) d_law_329 d_law_330 d_law_331 d_law_332 d_law_333 ?_
        obtain ⟨hpB, hpM, hrel⟩ := lx_fed i [(xs (i + 1)).toInt] σ τ rfl (by omega) hR
        refine lx_call (z := true) (as := [(xs (i + 1)).toInt]) (rest := []) hx hb hml hown htg hKB rfl hA hDB (fun σ i j p q h1 h2 => hdj σ τ i j p q h1 h2) con_B_fed (lkL_B_fed _ _) rfl rfl (by decide) rfl (fun x hx => by simp only [List.mem_cons, List.not_mem_nil, or_false] at hx; subst hx; exact lx_rg _) hR.1.1 hpB rfl (by decide) hl.1 d_law_334 hPB hPM hS (fun rB σ' H locs hrB hsB hqB hPB hPM hS => ?_)
        refine lv_aload_n hx hb d_law_337 rfl (lv_at hl 2 rfl) ?_
        refine lx_arg hx hb hX hbl hbA hS hL hl 1 (by decide) (by omega) d_law_338 d_law_339 d_law_340 d_law_341 d_law_342 ?_
        refine lx_call (z := true) (as := [(xs (i + 1)).toInt]) (rest := [.int (Int32.ofInt rB)]) hx hb hml hown htg hKM rfl hA hDM (fun τ i j p q h1 h2 => (hdj σ' τ j i q p h2 h1).symm) con_M_fed (lkL_M_fed _ _) rfl rfl (by decide) rfl (fun x hx => by simp only [List.mem_cons, List.not_mem_nil, or_false] at hx; subst hx; exact lx_rg _) hR.1.2 hpM rfl (Nat.le_of_ble_eq_true rfl) hl.1 d_law_343 hPM hPB hS (fun rM τ' H locs hrM hsM hqM hPM hPB hS => ?_)
        obtain ⟨hrr, hR2⟩ := hrel rB rM σ' τ' hsB hsM hqB hqM
        refine lv_icmp_eq (tgt := 486) hx hb d_law_346 (by decide) (fun _ => ?_) (fun hne => absurd (by rw [hrr]) hne)
        exact next σ' τ' hR2 H locs hPB hPM hS
      · -- command 7
        subst hcmd
        refine lv_tableIn (x := Int32.ofInt 7) (off := 318) (tgt := 351) hx hb d_law_33 (by decide) (by decide) (by decide) (by decide) ?_
        refine lv_aload_n hx hb d_law_351 rfl (lv_at hl 1 rfl) ?_
        refine lx_arg hx hb hX hbl hbA hS hL hl 1 (by decide) (by omega) d_law_352 d_law_353 d_law_354 d_law_355 d_law_356 ?_
        obtain ⟨hpB, hpM, hrel⟩ := lx_tick i [(xs (i + 1)).toInt] σ τ rfl (by omega) hR
        refine lx_call (z := false) (as := [(xs (i + 1)).toInt]) (rest := []) hx hb hml hown htg hKB rfl hA hDB (fun σ i j p q h1 h2 => hdj σ τ i j p q h1 h2) con_B_tick (lkL_B_tick _ _) rfl rfl (by decide) rfl (fun x hx => by simp only [List.mem_cons, List.not_mem_nil, or_false] at hx; subst hx; exact lx_rg _) hR.1.1 hpB rfl (by decide) hl.1 d_law_357 hPB hPM hS (fun rB σ' H locs hrB hsB hqB hPB hPM hS => ?_)
        refine lv_aload_n hx hb d_law_360 rfl (lv_at hl 2 rfl) ?_
        refine lx_arg hx hb hX hbl hbA hS hL hl 1 (by decide) (by omega) d_law_361 d_law_362 d_law_363 d_law_364 d_law_365 ?_
        refine lx_call (z := false) (as := [(xs (i + 1)).toInt]) (rest := [.int (Int32.ofInt rB)]) hx hb hml hown htg hKM rfl hA hDM (fun τ i j p q h1 h2 => (hdj σ' τ j i q p h2 h1).symm) con_M_tick (lkL_M_tick _ _) rfl rfl (by decide) rfl (fun x hx => by simp only [List.mem_cons, List.not_mem_nil, or_false] at hx; subst hx; exact lx_rg _) hR.1.2 hpM rfl (Nat.le_of_ble_eq_true rfl) hl.1 d_law_366 hPM hPB hS (fun rM τ' H locs hrM hsM hqM hPM hPB hS => ?_)
        obtain ⟨hrr, hR2⟩ := hrel rB rM σ' τ' hsB hsM hqB hqM
        refine lv_icmp_eq (tgt := 486) hx hb d_law_369 (by decide) (fun _ => ?_) (fun hne => absurd (by rw [hrr]) hne)
        exact next σ' τ' hR2 H locs hPB hPM hS
      · -- command 8
        subst hcmd
        refine lv_tableIn (x := Int32.ofInt 8) (off := 341) (tgt := 374) hx hb d_law_33 (by decide) (by decide) (by decide) (by decide) ?_
        refine lv_aload_n hx hb d_law_374 rfl (lv_at hl 1 rfl) ?_
        refine lx_arg hx hb hX hbl hbA hS hL hl 1 (by decide) (by omega) d_law_375 d_law_376 d_law_377 d_law_378 d_law_379 ?_
        obtain ⟨hpB, hpM, hrel⟩ := lx_since i [(xs (i + 1)).toInt] σ τ rfl (by omega) hR
        refine lx_call (z := false) (as := [(xs (i + 1)).toInt]) (rest := []) hx hb hml hown htg hKB rfl hA hDB (fun σ i j p q h1 h2 => hdj σ τ i j p q h1 h2) con_B_since (lkL_B_since _ _) rfl rfl (by decide) rfl (fun x hx => by simp only [List.mem_cons, List.not_mem_nil, or_false] at hx; subst hx; exact lx_rg _) hR.1.1 hpB rfl (by decide) hl.1 d_law_380 hPB hPM hS (fun rB σ' H locs hrB hsB hqB hPB hPM hS => ?_)
        refine lv_aload_n hx hb d_law_383 rfl (lv_at hl 2 rfl) ?_
        refine lx_arg hx hb hX hbl hbA hS hL hl 1 (by decide) (by omega) d_law_384 d_law_385 d_law_386 d_law_387 d_law_388 ?_
        refine lx_call (z := false) (as := [(xs (i + 1)).toInt]) (rest := [.int (Int32.ofInt rB)]) hx hb hml hown htg hKM rfl hA hDM (fun τ i j p q h1 h2 => (hdj σ' τ j i q p h2 h1).symm) con_M_since (lkL_M_since _ _) rfl rfl (by decide) rfl (fun x hx => by simp only [List.mem_cons, List.not_mem_nil, or_false] at hx; subst hx; exact lx_rg _) hR.1.2 hpM rfl (Nat.le_of_ble_eq_true rfl) hl.1 d_law_389 hPM hPB hS (fun rM τ' H locs hrM hsM hqM hPM hPB hS => ?_)
        obtain ⟨hrr, hR2⟩ := hrel rB rM σ' τ' hsB hsM hqB hqM
        refine lv_icmp_eq (tgt := 486) hx hb d_law_392 (by decide) (fun _ => ?_) (fun hne => absurd (by rw [hrr]) hne)
        exact next σ' τ' hR2 H locs hPB hPM hS
      · -- command 9
        subst hcmd
        refine lv_tableIn (x := Int32.ofInt 9) (off := 364) (tgt := 397) hx hb d_law_33 (by decide) (by decide) (by decide) (by decide) ?_
        refine lv_aload_n hx hb d_law_397 rfl (lv_at hl 1 rfl) ?_
        refine lx_arg hx hb hX hbl hbA hS hL hl 1 (by decide) (by omega) d_law_398 d_law_399 d_law_400 d_law_401 d_law_402 ?_
        obtain ⟨hpB, hpM, hrel⟩ := lx_count i [(xs (i + 1)).toInt] σ τ rfl (by omega) hR
        refine lx_call (z := false) (as := [(xs (i + 1)).toInt]) (rest := []) hx hb hml hown htg hKB rfl hA hDB (fun σ i j p q h1 h2 => hdj σ τ i j p q h1 h2) con_B_count (lkL_B_count _ _) rfl rfl (by decide) rfl (fun x hx => by simp only [List.mem_cons, List.not_mem_nil, or_false] at hx; subst hx; exact lx_rg _) hR.1.1 hpB rfl (by decide) hl.1 d_law_403 hPB hPM hS (fun rB σ' H locs hrB hsB hqB hPB hPM hS => ?_)
        refine lv_aload_n hx hb d_law_406 rfl (lv_at hl 2 rfl) ?_
        refine lx_arg hx hb hX hbl hbA hS hL hl 1 (by decide) (by omega) d_law_407 d_law_408 d_law_409 d_law_410 d_law_411 ?_
        refine lx_call (z := false) (as := [(xs (i + 1)).toInt]) (rest := [.int (Int32.ofInt rB)]) hx hb hml hown htg hKM rfl hA hDM (fun τ i j p q h1 h2 => (hdj σ' τ j i q p h2 h1).symm) con_M_count (lkL_M_count _ _) rfl rfl (by decide) rfl (fun x hx => by simp only [List.mem_cons, List.not_mem_nil, or_false] at hx; subst hx; exact lx_rg _) hR.1.2 hpM rfl (Nat.le_of_ble_eq_true rfl) hl.1 d_law_412 hPM hPB hS (fun rM τ' H locs hrM hsM hqM hPM hPB hS => ?_)
        obtain ⟨hrr, hR2⟩ := hrel rB rM σ' τ' hsB hsM hqB hqM
        refine lv_icmp_eq (tgt := 486) hx hb d_law_415 (by decide) (fun _ => ?_) (fun hne => absurd (by rw [hrr]) hne)
        exact next σ' τ' hR2 H locs hPB hPM hS
      · -- command 10
        subst hcmd
        refine lv_tableIn (x := Int32.ofInt 10) (off := 387) (tgt := 420) hx hb d_law_33 (by decide) (by decide) (by decide) (by decide) ?_
        refine lv_aload_n hx hb d_law_420 rfl (lv_at hl 1 rfl) ?_
        refine lx_arg hx hb hX hbl hbA hS hL hl 1 (by decide) (by omega) d_law_421 d_law_422 d_law_423 d_law_424 d_law_425 ?_
        refine lx_arg hx hb hX hbl hbA hS hL hl 2 (by decide) (by omega) d_law_426 d_law_427 d_law_428 d_law_429 d_law_430 ?_
        obtain ⟨hpB, hpM, hrel⟩ := lx_dark i [(xs (i + 1)).toInt, (xs (i + 2)).toInt] σ τ rfl (by omega) hR
        refine lx_call (z := false) (as := [(xs (i + 1)).toInt, (xs (i + 2)).toInt]) (rest := []) hx hb hml hown htg hKB rfl hA hDB (fun σ i j p q h1 h2 => hdj σ τ i j p q h1 h2) con_B_dark (lkL_B_dark _ _) rfl rfl (by decide) rfl (fun x hx => by simp only [List.mem_cons, List.not_mem_nil, or_false] at hx; rcases hx with rfl | rfl <;> exact lx_rg _) hR.1.1 hpB rfl (by decide) hl.1 d_law_431 hPB hPM hS (fun rB σ' H locs hrB hsB hqB hPB hPM hS => ?_)
        refine lv_aload_n hx hb d_law_434 rfl (lv_at hl 2 rfl) ?_
        refine lx_arg hx hb hX hbl hbA hS hL hl 1 (by decide) (by omega) d_law_435 d_law_436 d_law_437 d_law_438 d_law_439 ?_
        refine lx_arg hx hb hX hbl hbA hS hL hl 2 (by decide) (by omega) d_law_440 d_law_441 d_law_442 d_law_443 d_law_444 ?_
        refine lx_call (z := false) (as := [(xs (i + 1)).toInt, (xs (i + 2)).toInt]) (rest := [.int (Int32.ofInt rB)]) hx hb hml hown htg hKM rfl hA hDM (fun τ i j p q h1 h2 => (hdj σ' τ j i q p h2 h1).symm) con_M_dark (lkL_M_dark _ _) rfl rfl (by decide) rfl (fun x hx => by simp only [List.mem_cons, List.not_mem_nil, or_false] at hx; rcases hx with rfl | rfl <;> exact lx_rg _) hR.1.2 hpM rfl (Nat.le_of_ble_eq_true rfl) hl.1 d_law_445 hPM hPB hS (fun rM τ' H locs hrM hsM hqM hPM hPB hS => ?_)
        obtain ⟨hrr, hR2⟩ := hrel rB rM σ' τ' hsB hsM hqB hqM
        refine lv_icmp_eq (tgt := 486) hx hb d_law_448 (by decide) (fun _ => ?_) (fun hne => absurd (by rw [hrr]) hne)
        exact next σ' τ' hR2 H locs hPB hPM hS
      · -- command 11
        subst hcmd
        refine lv_tableIn (x := Int32.ofInt 11) (off := 420) (tgt := 453) hx hb d_law_33 (by decide) (by decide) (by decide) (by decide) ?_
        refine lv_aload_n hx hb d_law_453 rfl (lv_at hl 1 rfl) ?_
        refine lx_arg hx hb hX hbl hbA hS hL hl 1 (by decide) (by omega) d_law_454 d_law_455 d_law_456 d_law_457 d_law_458 ?_
        refine lx_arg hx hb hX hbl hbA hS hL hl 2 (by decide) (by omega) d_law_459 d_law_460 d_law_461 d_law_462 d_law_463 ?_
        obtain ⟨hpB, hpM, hrel⟩ := lx_lit i [(xs (i + 1)).toInt, (xs (i + 2)).toInt] σ τ rfl (by omega) hR
        refine lx_call (z := false) (as := [(xs (i + 1)).toInt, (xs (i + 2)).toInt]) (rest := []) hx hb hml hown htg hKB rfl hA hDB (fun σ i j p q h1 h2 => hdj σ τ i j p q h1 h2) con_B_lit (lkL_B_lit _ _) rfl rfl (by decide) rfl (fun x hx => by simp only [List.mem_cons, List.not_mem_nil, or_false] at hx; rcases hx with rfl | rfl <;> exact lx_rg _) hR.1.1 hpB rfl (by decide) hl.1 d_law_464 hPB hPM hS (fun rB σ' H locs hrB hsB hqB hPB hPM hS => ?_)
        refine lv_aload_n hx hb d_law_467 rfl (lv_at hl 2 rfl) ?_
        refine lx_arg hx hb hX hbl hbA hS hL hl 1 (by decide) (by omega) d_law_468 d_law_469 d_law_470 d_law_471 d_law_472 ?_
        refine lx_arg hx hb hX hbl hbA hS hL hl 2 (by decide) (by omega) d_law_473 d_law_474 d_law_475 d_law_476 d_law_477 ?_
        refine lx_call (z := false) (as := [(xs (i + 1)).toInt, (xs (i + 2)).toInt]) (rest := [.int (Int32.ofInt rB)]) hx hb hml hown htg hKM rfl hA hDM (fun τ i j p q h1 h2 => (hdj σ' τ j i q p h2 h1).symm) con_M_lit (lkL_M_lit _ _) rfl rfl (by decide) rfl (fun x hx => by simp only [List.mem_cons, List.not_mem_nil, or_false] at hx; rcases hx with rfl | rfl <;> exact lx_rg _) hR.1.2 hpM rfl (Nat.le_of_ble_eq_true rfl) hl.1 d_law_478 hPM hPB hS (fun rM τ' H locs hrM hsM hqM hPM hPB hS => ?_)
        obtain ⟨hrr, hR2⟩ := hrel rB rM σ' τ' hsB hsM hqB hqM
        refine lv_icmp_eq (tgt := 486) hx hb d_law_481 (by decide) (fun _ => ?_) (fun hne => absurd (by rw [hrr]) hne)
        exact next σ' τ' hR2 H locs hPB hPM hS
      · refine lv_tableOut (x := Int32.ofInt cmd) (tgt := 486) hx hb d_law_33 (by rw [ji_t (by omega)]; exact Or.inr hcmd) (by decide) ?_
        exact next σ τ hR.same H locs hPB hPM hS
/-! the start -/
theorem lx_in {D : Nat → jm_F} {N : Nat} {ks : List Nat} {ci o : Nat} {ad : Nat → Nat} {cA : Nat → ClassId} {σ' : jm_S} {i : Nat} {p : Nat × va_E} (h : (jm_pic D N ks ci o ad cA σ')[i]? = some p) (σ : jm_S) : ∃ (k : Nat) (e : va_E), (jm_pic D N ks ci o ad cA σ)[k]? = some (p.1, e) := by
  cases i with
  | zero =>
    simp only [jm_pic, List.getElem?_cons_zero, Option.some.injEq] at h
    subst h
    exact ⟨0, _, rfl⟩
  | succ j =>
    simp only [jm_pic, List.getElem?_cons_succ, List.getElem?_map] at h
    cases hk : ks[j]? with
    | none => rw [hk] at h; cases h
    | some a =>
      rw [hk] at h
      simp only [Option.map_some, Option.some.injEq] at h
      subst h
      exact ⟨j + 1, _, by simp only [jm_pic, List.getElem?_cons_succ, List.getElem?_map, hk, Option.map_some]; rfl⟩
theorem lx_P_l {G : va_G} {cl : List vw_C} {w1 w2 : va_W} {H : Heap} (h : va_P G cl (w1 ++ w2) H) : va_P G cl w1 H := fun k q hk => h k q (by rw [List.getElem?_append_left (List.getElem?_eq_some_iff.mp hk).1]; exact hk)
theorem lx_P_r {G : va_G} {cl : List vw_C} {w1 w2 : va_W} {H : Heap} (h : va_P G cl (w1 ++ w2) H) : va_P G cl w2 H := fun k q hk => h (w1.length + k) q (by rw [List.getElem?_append_right (Nat.le_add_right _ _), Nat.add_sub_cancel_left]; exact hk)
theorem lx_D_r {A : Nat → Prop} {w1 w2 : va_W} (h : va_D A (w1 ++ w2)) : va_D A w2 := by
  have key : ∀ (k : Nat) (q : Nat × va_E), w2[k]? = some q → (w1 ++ w2)[w1.length + k]? = some q := fun k q hk => by rw [List.getElem?_append_right (Nat.le_add_right _ _), Nat.add_sub_cancel_left]; exact hk
  refine ⟨fun i j p q hi hj hpq => ?_, fun k q hk => h.2 _ q (key k q hk)⟩
  have := h.1 _ _ p q (key i p hi) (key j q hj) hpq
  omega
theorem lx_D_x {A : Nat → Prop} {w1 w2 : va_W} (h : va_D A (w1 ++ w2)) : ∀ (i j : Nat) (p q : Nat × va_E), w1[i]? = some p → w2[j]? = some q → p.1 ≠ q.1 := by
  intro i j p q hi hj e
  have h1 : i < w1.length := (List.getElem?_eq_some_iff.mp hi).1
  have := h.1 i (w1.length + j) p q (by rw [List.getElem?_append_left h1]; exact hi) (by rw [List.getElem?_append_right (Nat.le_add_right _ _), Nat.add_sub_cancel_left]; exact hj) e
  omega
theorem lx_kB : Cond.code y_B_init b_B_init 2 none ∈ lw_g := lw_in (List.mem_of_getElem? (i := 49) rfl) rfl
theorem lx_kM : Cond.code y_M_init b_M_init 1 none ∈ lw_g := lw_in (List.mem_of_getElem? (i := 269) rfl) rfl
theorem lx_fsB : ∀ j, j < 17 → defaultValue (t_B j) = vp_V fs_B j := by
  intro j hj
  have h : j = 0 ∨ j = 1 ∨ j = 2 ∨ j = 3 ∨ j = 4 ∨ j = 5 ∨ j = 6 ∨ j = 7 ∨ j = 8 ∨ j = 9 ∨ j = 10 ∨ j = 11 ∨ j = 12 ∨ j = 13 ∨ j = 14 ∨ j = 15 ∨ j = 16 := by omega
  rcases h with rfl | rfl | rfl | rfl | rfl | rfl | rfl | rfl | rfl | rfl | rfl | rfl | rfl | rfl | rfl | rfl | rfl <;> first | rfl | exact jc_0.symm
theorem lx_fsM : ∀ j, j < 14 → defaultValue (t_M j) = vp_V fs_M j := by
  intro j hj
  have h : j = 0 ∨ j = 1 ∨ j = 2 ∨ j = 3 ∨ j = 4 ∨ j = 5 ∨ j = 6 ∨ j = 7 ∨ j = 8 ∨ j = 9 ∨ j = 10 ∨ j = 11 ∨ j = 12 ∨ j = 13 := by omega
  rcases h with rfl | rfl | rfl | rfl | rfl | rfl | rfl | rfl | rfl | rfl | rfl | rfl | rfl | rfl <;> first | rfl | exact jc_0.symm
set_option maxHeartbeats 8000000 in
set_option maxRecDepth 100000 in
/-- THE LAW, from its entry -/
theorem whole_start {p : Program} {e : Env} {s : State} {m : MethodId} {below : List Frame} {meth : Method} {c : Code} (l : Launch) {b L : Nat} {xs : Nat → Int32} (hL : L ≤ 4096) (C0 : lw_At p s m meth c b L xs) : W p l e room_1 s m #[Value.ref b] below meth c s.heap [] 0 0 (lw_Z below #[Value.ref b] s) (entryFrame m ([Value.ref b] : List Value).toArray 4) := by
  obtain ⟨hx, hb, hr, hml, hown, hts, hX, hbl, hlocks, hgv⟩ := id C0
  have htg : ∀ w ∈ lw_g, w.before #[Value.ref b] s = true := fun w hw => hts w (lw_out hw)
  have hA : ∀ q : Nat, s.heap.size ≤ q → (fun q : Nat => s.heap.size ≤ q) q := fun _ h => h
  obtain ⟨c0, iS0, hKn0⟩ := u_known (C := R_B) (T := F_B) (N := 17) (n := 17) htg CF_B.1 (hts (.instantiable R_B 17) (by decide +kernel))
  obtain ⟨c1, iS1, hKn1⟩ := u_known (C := R_M) (T := F_M) (N := 14) (n := 14) htg CF_M.1 (hts (.instantiable R_M 14) (by decide +kernel))
  obtain ⟨G, hKc⟩ : ∃ G : va_G, ∀ (k : Nat) (q : vw_C), classes[k]? = some q → u_Kn s q.1 q.2.1 q.2.2 (G.1 k) (G.2 k) := by
    refine ⟨(fun k => if k = 0 then c0 else c1, fun k => if k = 0 then iS0 else iS1), ?_⟩
    intro k q hq
    match k, hq with
    | 0, hq => cases hq; exact hKn0
    | 1, hq => cases hq; exact hKn1
    | k + 2, hq => simp [classes] at hq
  have hS : va_S (fun q : Nat => s.heap.size ≤ q) s.heap s.heap [] := va_S.rf
  have hK : va_K G classes [] s := ⟨hKc, fun k q h => by simp at h⟩
  have hP : va_P G classes [] s.heap := fun k q h => by simp at h
  have hD : va_D (fun q : Nat => s.heap.size ≤ q) [] := ⟨fun i j p q h => by simp at h, fun k q h => by simp at h⟩
  have hl := lv_entry ([.ref b]) (n := 4) (Nat.le_of_ble_eq_true rfl)
  rw [lg_entry_eq]
  generalize (lg_sl ([.ref b]) ++ List.replicate (4 - (lg_sl ([.ref b])).length) Slot.unset).toArray = ls at hl ⊢
  have hl : lv_has ls 4 [(0, .ref b)] := hl
  refine va_new (ci := 0) (fs := fs_B) (C := R_B) (T := F_B) (N := 17) hx hb htg CF_B.1 t_B CF_B.2.1 hown (hts (.classLink R_law 7 R_B) (by decide +kernel)) (hts (.instantiable R_B 17) (by decide +kernel)) (hts (.initialized R_B) (by decide +kernel)) hK hP hD hS hA rfl lx_fsB (Nat.le_of_ble_eq_true rfl) (Nat.le_of_ble_eq_true rfl) d_law_0 (fun oB H hP hD hS => ?_)
  have hP : va_P G classes [(oB, .inr (0, fs_B))] H := hP
  have hD : va_D (fun q : Nat => s.heap.size ≤ q) [(oB, .inr (0, fs_B))] := hD
  refine W.widen (k := 1) (n := 17) (by omega) (by omega) ?_
  refine lv_dup hx hb d_law_3 rfl ?_
  have hFc : ∀ q, va_A [(oB, .inr (0, fs_B))] H.size q → (fun q : Nat => s.heap.size ≤ q) q := va_free (ws := [(oB, .inr (0, fs_B))]) hD hS hA [0] rfl
  refine jc_callw (va_runI (p := p) (l := l) (e := e) (R := room_1) (below := below) (meth := meth) (H := H) (cells := 1) (slots := 17) (As := []) (rest := [.ref oB]) (b := oB) (Ts := lw_g) (own := R_law) (index := 9) (bytes := b_B_init) (maxL := 2) (n := 0) ⟨hx, hb, hml, hown, htg⟩ (con_B_init l G oB H.size) ⟨callB_of 0 htg (jm_good y_B_init b_B_init 2 none (fun _ q => q) lx_kB) rfl rfl rfl (hts (.initialized R_B) (by decide +kernel)) (hts (.methodLink R_law 9 y_B_init) (by decide +kernel)) (by decide +kernel) ⟨Nat.le_of_ble_eq_true rfl, Nat.le_of_ble_eq_true rfl⟩, rfl, hts (.instanceMethod y_B_init) (by decide +kernel)⟩
    ⟨fun a U g mk q => by obtain ⟨q0, q1, qP, qK, qD⟩ := q; exact ⟨q0, q1, qP, va_K.moved (u := U) (U := U.calling g mk a) (Vm.Alike.refl U.vm) qK, qD⟩, fun U hU hW => ⟨rfl, by rw [hU], by rw [hU]; exact hP, va_K.moved hW.alike hK, hD.weaken (fun _ _ _ _ => trivial)⟩⟩
    rfl rfl hl.1 rfl (lv_room (Nat.le_of_ble_eq_true rfl)) d_law_4 ⟨Nat.le_of_ble_eq_true rfl, Nat.le_of_ble_eq_true rfl⟩) hS (fun q _ h => hFc q h) hFc (fun aB cB σ H1 locs hσ hQB hPB hKB hDB hz hk hS => ?_)
  have hDB := hDB.weaken (B := fun q : Nat => s.heap.size ≤ q) (fun k q _ h => hFc q.1 h)
  clear hP hD hFc hz hk
  generalize H1 = H at hPB hS ⊢
  refine W.widen (k := 16) (n := 5472) (by decide) (by decide) ?_
  refine lv_astore_n (lv' := [(1, .ref oB), (0, .ref b)]) hx hb d_law_7 rfl hl (by decide) rfl (fun ls hl => ?_)
  refine va_new (ci := 1) (fs := fs_M) (C := R_M) (T := F_M) (N := 14) hx hb htg CF_M.1 t_M CF_M.2.1 hown (hts (.classLink R_law 10 R_M) (by decide +kernel)) (hts (.instantiable R_M 14) (by decide +kernel)) (hts (.initialized R_M) (by decide +kernel)) hKB hPB hDB hS hA rfl lx_fsM (Nat.le_of_ble_eq_true rfl) (Nat.le_of_ble_eq_true rfl) d_law_8 (fun oM H hP hD hS => ?_)
  have hPB := lx_P_l hP
  have hPo := lx_P_r hP
  have hDo := lx_D_r hD
  have hxo := lx_D_x hD
  refine W.widen (k := 17) (n := 5486) (by omega) (by omega) ?_
  refine lv_dup hx hb d_law_11 rfl ?_
  have hFc : ∀ q, va_A [(oM, .inr (1, fs_M))] H.size q → (fun q : Nat => s.heap.size ≤ q) q := va_free (ws := [(oM, .inr (1, fs_M))]) hDo hS hA [0] rfl
  refine jc_callw (va_runI (p := p) (l := l) (e := e) (R := room_1) (below := below) (meth := meth) (H := H) (cells := 17) (slots := 5486) (As := []) (rest := [.ref oM]) (b := oM) (Ts := lw_g) (own := R_law) (index := 12) (bytes := b_M_init) (maxL := 1) (n := 0) ⟨hx, hb, hml, hown, htg⟩ (con_M_init l G oM H.size) ⟨callB_of 0 htg (jm_good y_M_init b_M_init 1 none (fun _ q => q) lx_kM) rfl rfl rfl (hts (.initialized R_M) (by decide +kernel)) (hts (.methodLink R_law 12 y_M_init) (by decide +kernel)) (by decide +kernel) ⟨Nat.le_of_ble_eq_true rfl, Nat.le_of_ble_eq_true rfl⟩, rfl, hts (.instanceMethod y_M_init) (by decide +kernel)⟩
    ⟨fun a U g mk q => by obtain ⟨q0, q1, qP, qK, qD⟩ := q; exact ⟨q0, q1, qP, va_K.moved (u := U) (U := U.calling g mk a) (Vm.Alike.refl U.vm) qK, qD⟩, fun U hU hW => ⟨rfl, by rw [hU], by rw [hU]; exact hPo, va_K.moved hW.alike hK, hDo.weaken (fun _ _ _ _ => trivial)⟩⟩
    rfl rfl hl.1 rfl (lv_room (Nat.le_of_ble_eq_true rfl)) d_law_12 ⟨Nat.le_of_ble_eq_true rfl, Nat.le_of_ble_eq_true rfl⟩) hS (fun q _ h => hFc q h) hFc (fun aM cM τ H1 locs hτ hQM hPM hKM hDM hz hk hS => ?_)
  have hnot : ∀ (k : Nat) (q : Nat × va_E), (jm_pic D_B 17 ks_B 0 oB aB cB σ)[k]? = some q → q.1 < H.size ∧ ¬ va_A [(oM, .inr (1, fs_M))] H.size q.1 := by
    intro k q hq
    have hlt := (hPB k q hq).lt
    refine ⟨hlt, fun h => ?_⟩
    rcases h with ⟨j, e, hj⟩ | h
    · exact hxo k j q (q.1, e) hq hj rfl
    · exact absurd h (Nat.not_le.mpr hlt)
  have hPB1 : va_P G classes (jm_pic D_B 17 ks_B 0 oB aB cB σ) H1 := hPB.kept (fun k q hq => hk q.1 (hnot k q hq).1 (hnot k q hq).2)
  have hdj : ∀ (σ' τ' : jm_S) (i j : Nat) (p q : Nat × va_E), (jm_pic D_B 17 ks_B 0 oB aB cB σ')[i]? = some p → (jm_pic D_M 14 ks_M 1 oM aM cM τ')[j]? = some q → p.1 ≠ q.1 := by
    intro σ' τ' i j p q hp hq e
    have h2 := (jm_pic_D (τ := τ') hDM).2 j q hq
    obtain ⟨k, e1, hk1⟩ := lx_in hp σ
    exact (hnot k (p.1, e1) hk1).2 (by rw [e]; exact h2)
  have hDM := hDM.weaken (B := fun q : Nat => s.heap.size ≤ q) (fun k q _ h => hFc q.1 h)
  refine W.widen (k := 27) (n := 8947) (by decide) (by decide) ?_
  refine lv_astore_n (lv' := [(2, .ref oM), (1, .ref oB), (0, .ref b)]) hx hb d_law_15 rfl hl (by decide) rfl (fun ls hl => ?_)
  refine lv_iconst (v := Int32.ofInt 0) hx hb d_law_16 (by decide) ?_
  refine lv_istore_n (lv' := [(3, .int (Int32.ofInt 0)), (2, .ref oM), (1, .ref oB), (0, .ref b)]) hx hb d_law_17 rfl hl (by decide) rfl (fun ls hl => ?_)
  obtain ⟨b1, b2, b3⟩ := hQB
  obtain ⟨m1, m2, m3⟩ := hQM
  have hR : lx_R 0 σ τ := ⟨⟨hσ, hτ⟩, b1, m1, by rw [b2, m2], fun j x y => by rw [b3 j x y, m3 j x y]; decide⟩
  exact law_loop hL C0 hKB hKM (fun σ' => jm_pic_D hDB) (fun τ' => jm_pic_D hDM) hdj L 0 σ τ (by omega) (by omega) hR H1 locs ls hPB1 hPM hS (lv_sub hl [3, 2, 1, 0] rfl)
end
section
set_option maxHeartbeats 4000000 in
theorem lw_walk (l : Launch) (b : Addr) (xs : List Int32) : MetFree l x (headSpec (Jvm.Cond.code x code maxLocals ret :: tables_1) room_1) (lw_P b xs) (fun _ _ _ _ _ => True) lw_Q := by
  refine MetFree.of_bodyS (code := code) (maxLocals := maxLocals) (ret := ret) (by decide) ?_ ?_
  · intro args s m h hn
    obtain ⟨meth, c, h1, h2, h3, h4, h5, h6, -, -⟩ := Cond.code_spec hn (atoms_spec (ws := Jvm.Cond.code x code maxLocals ret :: tables_1) h _ List.mem_cons_self)
    exact ⟨meth, c, h1, h2, h3, h4, h5, h6⟩
  · intro p e s m args below meth c s₁ B hml0 hP _
    obtain ⟨rfl, hx, hbd, hgv⟩ := hP
    obtain ⟨scr, harrAt, hlist, hof, hsmall⟩ := hx
    obtain ⟨hcb, hkn, -, -⟩ := State.arrayAt?_spec harrAt
    have hown : s.vm.findClass R_law = some m.cls := findClass_of_methodNamed B.named
    have hts0 : ∀ c ∈ (Jvm.Cond.code x code maxLocals ret :: tables_1), c.before #[Value.ref b] s = true := atoms_spec (ws := Jvm.Cond.code x code maxLocals ret :: tables_1) B.pre
    have hts : ∀ w ∈ lw_tbl, w.before #[Value.ref b] s = true := k2_hts_sels lw_privs (fun w hw => hts0 w (List.mem_cons_of_mem _ hw)) lw_privs_ok
    have hml : c.maxLocals = 4 := B.maxLocals_eq (hts0 _ List.mem_cons_self)
    have X₀ : Stand p l e room_1 s m #[Value.ref b] below meth c s₁ [] 0 0 := Stand.of_body B
    have hh0 : s₁.heap = s.heap := by rw [B.state]; rfl
    have hsz : scr.slots.size = xs.length := by rw [← Array.length_toList, hlist, List.length_map]
    have hval : ∀ j : Nat, j < xs.length → scr.slots[j]? = some (.int (xs.getD j 0)) := fun j hj => by
      rw [← Array.getElem?_toList, hlist]
      simp [hj]
    have hbl : b < s.heap.size := (Array.getElem?_eq_some_iff.mp hcb).1
    have hX : va_X b xs.length (fun j => xs.getD j 0) s s.heap := ⟨scr, hcb, hof, hkn, hsz, hval⟩
    have K : W p l e room_1 s m #[Value.ref b] below meth c s₁.heap [] 0 0 (lw_Z below #[Value.ref b] s) (entryFrame m ([Value.ref b] : List Value).toArray 4) := by
      rw [hh0]
      exact whole_start l hbd ⟨B.exec, B.bytes, B.returns, hml, hown, hts, hX, hbl, B.notSynchronized, hgv⟩
    obtain ⟨t, a1, o, b1, b2, b3⟩ := K s₁ rfl X₀
    exact ⟨t, o, a1, b1, b2, b3⟩
theorem lw_pre_spec {args : Array Value} {s : State} (h : (Jvm.Cond.and given_1 narrow_1).before args s = true) (hr : rest_1_c.before args s = true) : ∃ (b : Addr) (xs : List Int32), lw_P b xs args s := by
  have hs := flat_of_before _ h
  have hq := flat_of_before _ hr
  have hc : (Cond.count 1).before args s = true := hs _ (by decide +kernel)
  have harr : (Cond.arrayOf (.arg 0) .int).before args s = true := hs _ (by decide +kernel)
  have hle : (Cond.le (.length (.arg 0)) (.int 4096)).before args s = true := hs _ (by decide +kernel)
  have hlen : (Cond.isInt (.length (.arg 0))).before args s = true := hq _ (by decide +kernel)
  have hall : (Cond.all (.arg 0) (.isInt (.elem (.arg 0) (.index 0)))).before args s = true := hq _ (by decide +kernel)
  obtain ⟨b, xs, hb, hx⟩ := State.ints_of_pre rfl harr hlen hall
  have hsm : xs.length < 2 ^ 31 := hx.choose_spec.2.2.2
  have hev : (Term.length (.arg 0)).eval args s none [] s = some (.int xs.length.toInt32) := hx.length_eval hb
  have hv := Cond.le_ints hev (show (Term.int 4096).eval args s none [] s = some (.int 4096) from rfl)
  have hd : xs.length.toInt32 ≤ 4096 := by
    simpa [Cond.before, Cond.holds, hv] using hle
  have hN : xs.length ≤ 4096 := (Int32.ofNat_le_ofNat hsm (by decide)).mp (show Int32.ofNat xs.length ≤ Int32.ofNat 4096 from hd)
  exact ⟨b, xs, Cond.one_arg hc (show args[0]? = some (.ref b) from hb), hx, hN, h⟩
theorem lw_comes (l : Launch) : Comes l x (Jvm.Cond.code x code maxLocals ret :: tables_1) room_1 (fun tb e args s => Calls_1 tb e args s ∧ rest_1 tb e args s ∧ Pre_1 tb e args s)
    (fun _ _ args s o t => lw_Q args s o t) := by
  intro p e ha hc hk s m args below hf hfit hheap happ hpre
  obtain ⟨b, xs, hP⟩ := lw_pre_spec hpre.2.2 hpre.2.1
  obtain ⟨k, o, h1, h2, h3, hQ⟩ := lw_walk l b xs p e ha hc hk s m args below hf ((Spec.applies_iff_loose hf).mp happ).1 hP trivial
  exact ⟨k, o, h1, h2, h3, hQ⟩
theorem lw_frame {s t : State} {o : Outcome} {args : Array Value} (h : Framed s o t [] 27 8947) :
    Framed s o t (fieldLocs frame_1_writes args s ++ arrayLocs frame_1_arrays args s ++ staticLocs frame_1_statics s) 27 8947 := h
theorem lw_limb (L : Cond) (hL : ∀ (args : Array Value) (s t : State), L.after args s (.returned (some (.int 1))) t = true) :
    ArmFor flags0 classFile x code maxLocals ret World_1 tables_1 room_1 Calls_1 rest_1 Pre_1
      (fun tb e a s o t => postC L tb e a s o t ∧ Framed s o t (fieldLocs frame_1_writes a s ++ arrayLocs frame_1_arrays a s ++ staticLocs frame_1_statics s) 27 8947) := by
  intro l _ _ _ p e ha hc hk s m args below hf hfit hheap happ hpre
  obtain ⟨k, o, h1, h2, h3, rfl, hF⟩ := lw_comes l p e ha hc hk s m args below hf hfit hheap happ hpre
  exact ⟨k, _, h1, h2, h3, hL args s _, lw_frame hF⟩
theorem i_vc : Claimed_1_1 ∧ Claimed_1_2 := ⟨lw_limb limb_1_1 (fun args s t => by simp [limb_1_1, Cond.after, Cond.holds, Cond.value]), lw_limb limb_1_2 (fun args s t => Cond.after_iff.mpr (by
  first | (rw [show limb_1_2 = Cond.eq .result (.int 1) from rfl, Cond.eq_ints (x := 1) (y := 1) rfl rfl]; simp; done) | (simp [limb_1_2, Cond.value, Term.eval]; done)))⟩
end
